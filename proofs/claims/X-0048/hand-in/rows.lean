section
/-! pure rows to paste: stores, nI and lN arithmetic, masks, shifts, narrowing, branches by naturals (pk_le, pk_lt, pk_eq), loops (lp1 .. lp16: the measure of the state; rp1 ..: recursion), negatives. Take what you need -/
theorem pk_us {f : Nat → Int32} {k : Nat} {x : Int32} : upd f k x k = x := if_pos rfl
theorem pk_un {f : Nat → Int32} {k j : Nat} {x : Int32} (h : j ≠ k) : upd f k x j = f j := if_neg h
theorem pk_uLs {f : Nat → Int64} {k : Nat} {x : Int64} : vp_updL f k x k = x := if_pos rfl
theorem pk_uLn {f : Nat → Int64} {k j : Nat} {x : Int64} (h : j ≠ k) : vp_updL f k x j = f j := if_neg h
theorem pk_sub {a b : Nat} (h : b ≤ a) : nI a - nI b = nI (a - b) := by
  obtain ⟨c, rfl⟩ : ∃ c, a = c + b := ⟨a - b, by omega⟩
  rw [← nI_add, Int32.add_sub_cancel, Nat.add_sub_cancel]
theorem pk_m1 (n : Nat) : nI (n + 1) + (-1) = nI n := by
  rw [← nI_1, Int32.add_assoc, show (1 : Int32) + (-1) = 0 from rfl, Int32.add_zero]
theorem pk_mul (a b : Nat) : nI a * nI b = nI (a * b) := (Int32.ofNat_mul a b).symm
theorem pk_div {a d : Nat} (ha : a < 2 ^ 31) (h0 : 0 < d) (hd : d < 2 ^ 31) : nI a / nI d = nI (a / d) := by
  apply Int32.toInt_inj.mp
  rw [lg_idiv_nonneg (by rw [nI_toInt ha]; omega) (by rw [nI_toInt hd]; omega), nI_toInt ha, nI_toInt hd, nI_toInt (Nat.lt_of_le_of_lt (Nat.div_le_self a d) ha)]
  first | rfl | exact (Int.natCast_ediv _ _).symm
theorem pk_rem {a d : Nat} (ha : a < 2 ^ 31) (h0 : 0 < d) (hd : d < 2 ^ 31) : nI a - nI a / nI d * nI d = nI (a % d) := by
  rw [pk_div ha h0 hd, pk_mul, pk_sub (Nat.div_mul_le_self a d)]
  exact congrArg nI (by have := Nat.div_add_mod' a d; omega)
theorem pk_sub_toInt {a b : Nat} (ha : a < 2 ^ 30) (hb : b < 2 ^ 30) : (nI a - nI b).toInt = (a : Int) - b := by
  rw [Int32.toInt_sub, nI_toInt (by omega), nI_toInt (by omega)]
  exact Int.bmod_eq_of_le (by omega) (by omega)
theorem pk_sneg {a b : Nat} (hb : b < 2 ^ 30) (h : a < b) : nI a - nI b < 0 := by
  rw [Int32.lt_iff_toInt_lt, pk_sub_toInt (by omega) hb, show (0 : Int32).toInt = 0 from by decide]
  omega
theorem pk_ix (x : Int32) {n : Nat} (hn : n < 2 ^ 31) : x < 0 ∨ nI n ≤ x ∨ ∃ j : Nat, j < n ∧ x = nI j := by
  by_cases h : x < 0
  · exact Or.inl h
  · obtain ⟨j, hj, rfl⟩ := nI_of h
    by_cases h2 : j < n
    · exact Or.inr (Or.inr ⟨j, h2, rfl⟩)
    · exact Or.inr (Or.inl (nI_le (by omega) hj))
theorem pk_le {x y : Int32} {A B : Prop} (a b : Nat) (f : a ≤ b → A) (g : b < a → B) (hx : x = nI a := by rfl) (hy : y = nI b := by rfl) (ha : a < 2 ^ 31 := by omega) (hb : b < 2 ^ 31 := by omega) : (x ≤ y → A) ∧ (¬ x ≤ y → B) := by
  subst hx hy
  rw [nI_leI ha hb]
  exact ⟨f, fun z => g (by omega)⟩
theorem pk_lt {x y : Int32} {A B : Prop} (a b : Nat) (f : a < b → A) (g : b ≤ a → B) (hx : x = nI a := by rfl) (hy : y = nI b := by rfl) (ha : a < 2 ^ 31 := by omega) (hb : b < 2 ^ 31 := by omega) : (x < y → A) ∧ (¬ x < y → B) := by
  subst hx hy
  rw [nI_ltI ha hb]
  exact ⟨f, fun z => g (by omega)⟩
theorem pk_eq {x y : Int32} {A B : Prop} (a b : Nat) (f : a = b → A) (g : a ≠ b → B) (hx : x = nI a := by rfl) (hy : y = nI b := by rfl) (ha : a < 2 ^ 31 := by omega) (hb : b < 2 ^ 31 := by omega) : (x = y → A) ∧ (¬ x = y → B) := by
  subst hx hy
  rw [nI_eq ha hb]
  exact ⟨f, g⟩
theorem pk_in {x : Int32} (n N : Nat) (h : n < N) (hx : x = nI n := by rfl) (hN : N < 2 ^ 31 := by omega) : vp_in x N := by
  subst hx
  exact vp_in_nI h hN
theorem pk_cl {x : Int32} (n : Nat) (hx : x = nI n := by rfl) (h : n < 2 ^ 31 := by omega) : x.toNatClampNeg = n := by
  subst hx
  exact nI_clamp h
theorem pk_tn {n : Nat} (h : n < 2 ^ 32) : (nI n).toBitVec.toNat = n := Nat.mod_eq_of_lt h
theorem pk_and (x : Int32) {m : Int32} (k : Nat) (hm : m.toBitVec.toNat = 2 ^ k - 1) : x &&& m = nI (x.toBitVec.toNat % 2 ^ k) := by
  apply Int32.toBitVec_inj.mp
  apply BitVec.eq_of_toNat_eq
  rw [Int32.toBitVec_and, BitVec.toNat_and, hm, Nat.and_two_pow_sub_one_eq_mod]
  show _ = (BitVec.ofNat 32 _).toNat
  rw [BitVec.toNat_ofNat]
  exact (Nat.mod_eq_of_lt (Nat.lt_of_le_of_lt (Nat.mod_le _ _) x.toBitVec.isLt)).symm
theorem pk_andN {n : Nat} (h : n < 2 ^ 32) {m : Int32} (k : Nat) (hm : m.toBitVec.toNat = 2 ^ k - 1) : nI n &&& m = nI (n % 2 ^ k) := by
  rw [pk_and _ k hm, pk_tn h]
theorem pk_andE (x : Int32) {m : Int32} (k : Nat) (hm : m.toBitVec.toNat = 2 ^ k - 1) : ∃ j : Nat, j < 2 ^ k ∧ x &&& m = nI j := ⟨_, Nat.mod_lt _ (Nat.two_pow_pos k), pk_and x k hm⟩
theorem pk_andIn (x : Int32) {m : Int32} (k : Nat) (hm : m.toBitVec.toNat = 2 ^ k - 1) (hk : k ≤ 30) : vp_in (x &&& m) (2 ^ k) := by
  obtain ⟨j, hj, e⟩ := pk_andE x k hm
  rw [e]
  exact vp_in_nI hj (Nat.lt_of_le_of_lt (Nat.pow_le_pow_right (by decide) hk) (by decide))
theorem pk_shl (a s : Int32) (k : Nat) (hs : (s.toBitVec.smod 32).toNat = k) : (a <<< s).toBitVec.toNat = a.toBitVec.toNat * 2 ^ k % 2 ^ 32 := by
  show (a.toBitVec <<< (s.toBitVec.smod 32).toNat).toNat = _
  rw [hs, BitVec.toNat_shiftLeft, Nat.shiftLeft_eq]
theorem pk_shlN {n : Nat} (s : Int32) (k : Nat) (hs : (s.toBitVec.smod 32).toNat = k) (h : n * 2 ^ k < 2 ^ 32) : nI n <<< s = nI (n * 2 ^ k) := by
  apply Int32.toBitVec_inj.mp
  apply BitVec.eq_of_toNat_eq
  have hn : n < 2 ^ 32 := Nat.lt_of_le_of_lt (Nat.le_mul_of_pos_right n (Nat.two_pow_pos k)) h
  rw [pk_shl _ _ k hs, pk_tn hn, pk_tn h, Nat.mod_eq_of_lt h]
theorem pk_shr (a s : Int32) (k : Nat) (hs : (s.toBitVec.smod 32).toNat = k) : (a >>> s).toInt = a.toInt >>> k := by
  show (a.toBitVec.sshiftRight (s.toBitVec.smod 32).toNat).toInt = _
  rw [hs, BitVec.toInt_sshiftRight]
  rfl
theorem pk_shrN {n : Nat} (h : n < 2 ^ 31) (s : Int32) (k : Nat) (hs : (s.toBitVec.smod 32).toNat = k) : nI n >>> s = nI (n / 2 ^ k) := by
  apply Int32.toInt_inj.mp
  have h2 : n / 2 ^ k ≤ n := Nat.div_le_self _ _
  rw [pk_shr _ _ k hs, nI_toInt h, nI_toInt (by omega), Int.shiftRight_eq_div_pow]
  rfl
theorem pk_ushr (x s : Int32) (k : Nat) (hs : ((s.toUInt32 &&& Int32.toUInt32 31).toBitVec % 32).toNat = k) : (x.toUInt32 >>> (s.toUInt32 &&& Int32.toUInt32 31)).toInt32.toBitVec.toNat = x.toBitVec.toNat / 2 ^ k := by
  have e : (x.toUInt32 >>> (s.toUInt32 &&& Int32.toUInt32 31)).toInt32.toBitVec = x.toBitVec >>> k := by
    rw [← hs]
    exact UInt32.toBitVec_shiftRight _ _
  rw [e, BitVec.toNat_ushiftRight, Nat.shiftRight_eq_div_pow]
theorem pk_ushrN {n : Nat} (hn : n < 2 ^ 32) (s : Int32) (k : Nat) (hs : ((s.toUInt32 &&& Int32.toUInt32 31).toBitVec % 32).toNat = k) : ((nI n).toUInt32 >>> (s.toUInt32 &&& Int32.toUInt32 31)).toInt32 = nI (n / 2 ^ k) := by
  apply Int32.toBitVec_inj.mp
  apply BitVec.eq_of_toNat_eq
  rw [pk_ushr _ s k hs, pk_tn hn, pk_tn (Nat.lt_of_le_of_lt (Nat.div_le_self _ _) hn)]
theorem pk_nb (z : Int32) : narrow .byte (.int z.toInt8.toInt32) = .int z.toInt8.toInt32 := congrArg Value.int (by simp)
theorem pk_ns (z : Int32) : narrow .short (.int z.toInt16.toInt32) = .int z.toInt16.toInt32 := congrArg Value.int (by simp)
theorem pk_fb (r : Int32) : fits .byte (.int r.toInt8.toInt32) = true := by
  have ⟨a, b⟩ := lg_i2b_range r
  have h1 : (-128 : Int32).toInt = -128 := by decide
  have h2 : (127 : Int32).toInt = 127 := by decide
  simp only [fits, Bool.and_eq_true, decide_eq_true_eq, Int32.le_iff_toInt_le, h1, h2]
  omega
theorem pk_fs (r : Int32) : fits .short (.int r.toInt16.toInt32) = true := by
  have ⟨a, b⟩ := lg_i2s_range r
  have h1 : (-32768 : Int32).toInt = -32768 := by decide
  have h2 : (32767 : Int32).toInt = 32767 := by decide
  simp only [fits, Bool.and_eq_true, decide_eq_true_eq, Int32.le_iff_toInt_le, h1, h2]
  omega
theorem pk_charN {q : Nat} (hq : q < 65536) : narrow .char (.int (nI q)) = .int (nI q) ∧ fits .char (.int (nI q)) = true := by
  constructor
  · have e : (nI q).toUInt32.toUInt16.toUInt32.toInt32 = nI q := by
      apply Int32.toBitVec_inj.mp
      apply BitVec.eq_of_toNat_eq
      show (nI q).toUInt32.toUInt16.toUInt32.toNat = q % 2 ^ 32
      rw [UInt16.toNat_toUInt32, UInt32.toNat_toUInt16, show (nI q).toUInt32.toNat = q % 2 ^ 32 from rfl]
      omega
    exact congrArg Value.int e
  · have a : (0 : Int32) ≤ nI q := nI_pos' (by omega)
    have b : nI q ≤ 65535 := nI_le (b := 65535) (by omega) (by decide)
    show (decide ((0 : Int32) ≤ nI q) && decide (nI q ≤ 65535)) = true
    rw [decide_eq_true a, decide_eq_true b]
    rfl
theorem pk_char (x : Int32) : (x.toUInt32 % 65536).toInt32 = nI (x.toBitVec.toNat % 65536) := by
  apply Int32.toBitVec_inj.mp
  apply BitVec.eq_of_toNat_eq
  rw [pk_tn (by omega)]
  show (x.toUInt32 % 65536).toNat = _
  rw [UInt32.toNat_mod]
  rfl
theorem pk_nc (x : Int32) : narrow .char (.int (x.toUInt32 % 65536).toInt32) = .int (x.toUInt32 % 65536).toInt32 := by
  rw [pk_char]
  exact (pk_charN (Nat.mod_lt _ (by decide))).1
theorem pk_fc (x : Int32) : fits .char (.int (x.toUInt32 % 65536).toInt32) = true := by
  rw [pk_char]
  exact (pk_charN (Nat.mod_lt _ (by decide))).2
theorem pk_vb (z : Int32) : vp_nar .byte z.toInt8.toInt32 = z.toInt8.toInt32 := by rw [vp_nar_byte]; simp
theorem pk_vs (z : Int32) : vp_nar .short z.toInt16.toInt32 = z.toInt16.toInt32 := by rw [vp_nar_short]; simp
theorem pk_vc (z : Int32) : vp_nar .char (z.toUInt32 % 65536).toInt32 = (z.toUInt32 % 65536).toInt32 := Value.int.inj (pk_nc z)
theorem pk_lT {n : Nat} (h : n < 2 ^ 63) : (lN n).toInt = (n : Int) := lg_ofNat_toInt h
theorem pk_lLT {a b : Nat} (ha : a < 2 ^ 63) (hb : b < 2 ^ 63) : lN a < lN b ↔ a < b := by
  rw [Int64.lt_iff_toInt_lt, pk_lT ha, pk_lT hb]; omega
theorem pk_lLE {a b : Nat} (ha : a < 2 ^ 63) (hb : b < 2 ^ 63) : lN a ≤ lN b ↔ a ≤ b := by
  rw [Int64.le_iff_toInt_le, pk_lT ha, pk_lT hb]; omega
theorem pk_lEQ {a b : Nat} (ha : a < 2 ^ 63) (hb : b < 2 ^ 63) : lN a = lN b ↔ a = b := by
  rw [← Int64.toInt_inj, pk_lT ha, pk_lT hb]; omega
theorem pk_lOf {x : Int64} (h : ¬ x < 0) : ∃ k : Nat, k < 2 ^ 63 ∧ x = lN k := by
  rw [Int64.lt_iff_toInt_lt] at h
  have h0 : (0 : Int64).toInt = 0 := by decide
  have hx := Int64.toInt_lt x
  refine ⟨x.toInt.toNat, by omega, Int64.toInt_inj.mp ?_⟩
  rw [pk_lT (by omega)]
  omega
theorem pk_lDiv {a b : Nat} (ha : a < 2 ^ 63) (h0 : 0 < b) (hb : b < 2 ^ 63) : lN a / lN b = lN (a / b) := by
  apply Int64.toInt_inj.mp
  rw [lg_ldiv_nonneg (by rw [pk_lT ha]; omega) (by rw [pk_lT hb]; omega), pk_lT ha, pk_lT hb, pk_lT (Nat.lt_of_le_of_lt (Nat.div_le_self a b) ha)]
  rfl
theorem pk_lRem {a b : Nat} (ha : a < 2 ^ 63) (h0 : 0 < b) (hb : b < 2 ^ 63) : lN a - lN a / lN b * lN b = lN (a % b) := by
  rw [pk_lDiv ha h0 hb, lN_mul, lN_sub (Nat.div_mul_le_self a b)]
  exact congrArg lN (by have := Nat.div_add_mod' a b; omega)
theorem pk_loop {σ : Type} (W : Nat → Nat → σ → Prop) (I : Nat → σ → Prop) (e i0 : Nat) (s : σ) (hi : i0 ≤ e) (h0 : I i0 s) (hx : ∀ n s, I e s → W (n + 1) e s)
    (hs : ∀ n i s, i < e → I i s → (∀ s', I (i + 1) s' → W n (i + 1) s') → W (n + 1) i s) : ∃ n, W n i0 s :=
  ⟨e + 1, loop_i W I e hx hs (e + 1) i0 s hi (by omega) h0⟩
theorem pk_loopD {σ : Type} (W : Nat → Nat → σ → Prop) (I : Nat → σ → Prop) (hx : ∀ n s, I 0 s → W (n + 1) 0 s)
    (hs : ∀ n i s, I (i + 1) s → (∀ s', I i s' → W n i s') → W (n + 1) (i + 1) s) : ∀ (e : Nat) (s : σ), I e s → W (e + 1) e s := by
  intro e
  induction e with
  | zero => exact fun s h => hx 0 s h
  | succ e ih => exact fun s h => hs (e + 1) e s h (fun s' h' => ih s' h')
theorem lp1 {A1 : Type} (W : Nat → A1 → Prop) (I : A1 → Prop) (μ : A1 → Nat) (hs : ∀ (n : Nat) (a1 : A1), I a1 → (∀ (b1 : A1), I b1 → μ b1 < μ a1 → W n b1) → W (n + 1) a1) (a1 : A1) (h : I a1) : ∃ n, W n a1 :=
  loop_m (σ := A1) (fun n s => W n s) (fun s => I s) (fun s => μ s) (fun n s hI hk => hs n s hI (fun b1 h9 hm => hk b1 h9 hm)) a1 h
theorem lp2 {A1 A2 : Type} (W : Nat → A1 → A2 → Prop) (I : A1 → A2 → Prop) (μ : A1 → A2 → Nat) (hs : ∀ (n : Nat) (a1 : A1) (a2 : A2), I a1 a2 → (∀ (b1 : A1) (b2 : A2), I b1 b2 → μ b1 b2 < μ a1 a2 → W n b1 b2) → W (n + 1) a1 a2) (a1 : A1) (a2 : A2) (h : I a1 a2) : ∃ n, W n a1 a2 :=
  loop_m (σ := A1 × A2) (fun n s => W n s.1 s.2) (fun s => I s.1 s.2) (fun s => μ s.1 s.2) (fun n s hI hk => hs n s.1 s.2 hI (fun b1 b2 h9 hm => hk (b1, b2) h9 hm)) (a1, a2) h
theorem lp3 {A1 A2 A3 : Type} (W : Nat → A1 → A2 → A3 → Prop) (I : A1 → A2 → A3 → Prop) (μ : A1 → A2 → A3 → Nat) (hs : ∀ (n : Nat) (a1 : A1) (a2 : A2) (a3 : A3), I a1 a2 a3 → (∀ (b1 : A1) (b2 : A2) (b3 : A3), I b1 b2 b3 → μ b1 b2 b3 < μ a1 a2 a3 → W n b1 b2 b3) → W (n + 1) a1 a2 a3) (a1 : A1) (a2 : A2) (a3 : A3) (h : I a1 a2 a3) : ∃ n, W n a1 a2 a3 :=
  loop_m (σ := A1 × A2 × A3) (fun n s => W n s.1 s.2.1 s.2.2) (fun s => I s.1 s.2.1 s.2.2) (fun s => μ s.1 s.2.1 s.2.2) (fun n s hI hk => hs n s.1 s.2.1 s.2.2 hI (fun b1 b2 b3 h9 hm => hk (b1, b2, b3) h9 hm)) (a1, a2, a3) h
theorem lp4 {A1 A2 A3 A4 : Type} (W : Nat → A1 → A2 → A3 → A4 → Prop) (I : A1 → A2 → A3 → A4 → Prop) (μ : A1 → A2 → A3 → A4 → Nat) (hs : ∀ (n : Nat) (a1 : A1) (a2 : A2) (a3 : A3) (a4 : A4), I a1 a2 a3 a4 → (∀ (b1 : A1) (b2 : A2) (b3 : A3) (b4 : A4), I b1 b2 b3 b4 → μ b1 b2 b3 b4 < μ a1 a2 a3 a4 → W n b1 b2 b3 b4) → W (n + 1) a1 a2 a3 a4) (a1 : A1) (a2 : A2) (a3 : A3) (a4 : A4) (h : I a1 a2 a3 a4) : ∃ n, W n a1 a2 a3 a4 :=
  loop_m (σ := A1 × A2 × A3 × A4) (fun n s => W n s.1 s.2.1 s.2.2.1 s.2.2.2) (fun s => I s.1 s.2.1 s.2.2.1 s.2.2.2) (fun s => μ s.1 s.2.1 s.2.2.1 s.2.2.2) (fun n s hI hk => hs n s.1 s.2.1 s.2.2.1 s.2.2.2 hI (fun b1 b2 b3 b4 h9 hm => hk (b1, b2, b3, b4) h9 hm)) (a1, a2, a3, a4) h
theorem lp5 {A1 A2 A3 A4 A5 : Type} (W : Nat → A1 → A2 → A3 → A4 → A5 → Prop) (I : A1 → A2 → A3 → A4 → A5 → Prop) (μ : A1 → A2 → A3 → A4 → A5 → Nat) (hs : ∀ (n : Nat) (a1 : A1) (a2 : A2) (a3 : A3) (a4 : A4) (a5 : A5), I a1 a2 a3 a4 a5 → (∀ (b1 : A1) (b2 : A2) (b3 : A3) (b4 : A4) (b5 : A5), I b1 b2 b3 b4 b5 → μ b1 b2 b3 b4 b5 < μ a1 a2 a3 a4 a5 → W n b1 b2 b3 b4 b5) → W (n + 1) a1 a2 a3 a4 a5) (a1 : A1) (a2 : A2) (a3 : A3) (a4 : A4) (a5 : A5) (h : I a1 a2 a3 a4 a5) : ∃ n, W n a1 a2 a3 a4 a5 :=
  loop_m (σ := A1 × A2 × A3 × A4 × A5) (fun n s => W n s.1 s.2.1 s.2.2.1 s.2.2.2.1 s.2.2.2.2) (fun s => I s.1 s.2.1 s.2.2.1 s.2.2.2.1 s.2.2.2.2) (fun s => μ s.1 s.2.1 s.2.2.1 s.2.2.2.1 s.2.2.2.2) (fun n s hI hk => hs n s.1 s.2.1 s.2.2.1 s.2.2.2.1 s.2.2.2.2 hI (fun b1 b2 b3 b4 b5 h9 hm => hk (b1, b2, b3, b4, b5) h9 hm)) (a1, a2, a3, a4, a5) h
theorem lp6 {A1 A2 A3 A4 A5 A6 : Type} (W : Nat → A1 → A2 → A3 → A4 → A5 → A6 → Prop) (I : A1 → A2 → A3 → A4 → A5 → A6 → Prop) (μ : A1 → A2 → A3 → A4 → A5 → A6 → Nat) (hs : ∀ (n : Nat) (a1 : A1) (a2 : A2) (a3 : A3) (a4 : A4) (a5 : A5) (a6 : A6), I a1 a2 a3 a4 a5 a6 → (∀ (b1 : A1) (b2 : A2) (b3 : A3) (b4 : A4) (b5 : A5) (b6 : A6), I b1 b2 b3 b4 b5 b6 → μ b1 b2 b3 b4 b5 b6 < μ a1 a2 a3 a4 a5 a6 → W n b1 b2 b3 b4 b5 b6) → W (n + 1) a1 a2 a3 a4 a5 a6) (a1 : A1) (a2 : A2) (a3 : A3) (a4 : A4) (a5 : A5) (a6 : A6) (h : I a1 a2 a3 a4 a5 a6) : ∃ n, W n a1 a2 a3 a4 a5 a6 :=
  loop_m (σ := A1 × A2 × A3 × A4 × A5 × A6) (fun n s => W n s.1 s.2.1 s.2.2.1 s.2.2.2.1 s.2.2.2.2.1 s.2.2.2.2.2) (fun s => I s.1 s.2.1 s.2.2.1 s.2.2.2.1 s.2.2.2.2.1 s.2.2.2.2.2) (fun s => μ s.1 s.2.1 s.2.2.1 s.2.2.2.1 s.2.2.2.2.1 s.2.2.2.2.2) (fun n s hI hk => hs n s.1 s.2.1 s.2.2.1 s.2.2.2.1 s.2.2.2.2.1 s.2.2.2.2.2 hI (fun b1 b2 b3 b4 b5 b6 h9 hm => hk (b1, b2, b3, b4, b5, b6) h9 hm)) (a1, a2, a3, a4, a5, a6) h
theorem lp7 {A1 A2 A3 A4 A5 A6 A7 : Type} (W : Nat → A1 → A2 → A3 → A4 → A5 → A6 → A7 → Prop) (I : A1 → A2 → A3 → A4 → A5 → A6 → A7 → Prop) (μ : A1 → A2 → A3 → A4 → A5 → A6 → A7 → Nat) (hs : ∀ (n : Nat) (a1 : A1) (a2 : A2) (a3 : A3) (a4 : A4) (a5 : A5) (a6 : A6) (a7 : A7), I a1 a2 a3 a4 a5 a6 a7 → (∀ (b1 : A1) (b2 : A2) (b3 : A3) (b4 : A4) (b5 : A5) (b6 : A6) (b7 : A7), I b1 b2 b3 b4 b5 b6 b7 → μ b1 b2 b3 b4 b5 b6 b7 < μ a1 a2 a3 a4 a5 a6 a7 → W n b1 b2 b3 b4 b5 b6 b7) → W (n + 1) a1 a2 a3 a4 a5 a6 a7) (a1 : A1) (a2 : A2) (a3 : A3) (a4 : A4) (a5 : A5) (a6 : A6) (a7 : A7) (h : I a1 a2 a3 a4 a5 a6 a7) : ∃ n, W n a1 a2 a3 a4 a5 a6 a7 :=
  loop_m (σ := A1 × A2 × A3 × A4 × A5 × A6 × A7) (fun n s => W n s.1 s.2.1 s.2.2.1 s.2.2.2.1 s.2.2.2.2.1 s.2.2.2.2.2.1 s.2.2.2.2.2.2) (fun s => I s.1 s.2.1 s.2.2.1 s.2.2.2.1 s.2.2.2.2.1 s.2.2.2.2.2.1 s.2.2.2.2.2.2) (fun s => μ s.1 s.2.1 s.2.2.1 s.2.2.2.1 s.2.2.2.2.1 s.2.2.2.2.2.1 s.2.2.2.2.2.2) (fun n s hI hk => hs n s.1 s.2.1 s.2.2.1 s.2.2.2.1 s.2.2.2.2.1 s.2.2.2.2.2.1 s.2.2.2.2.2.2 hI (fun b1 b2 b3 b4 b5 b6 b7 h9 hm => hk (b1, b2, b3, b4, b5, b6, b7) h9 hm)) (a1, a2, a3, a4, a5, a6, a7) h
theorem lp8 {A1 A2 A3 A4 A5 A6 A7 A8 : Type} (W : Nat → A1 → A2 → A3 → A4 → A5 → A6 → A7 → A8 → Prop) (I : A1 → A2 → A3 → A4 → A5 → A6 → A7 → A8 → Prop) (μ : A1 → A2 → A3 → A4 → A5 → A6 → A7 → A8 → Nat) (hs : ∀ (n : Nat) (a1 : A1) (a2 : A2) (a3 : A3) (a4 : A4) (a5 : A5) (a6 : A6) (a7 : A7) (a8 : A8), I a1 a2 a3 a4 a5 a6 a7 a8 → (∀ (b1 : A1) (b2 : A2) (b3 : A3) (b4 : A4) (b5 : A5) (b6 : A6) (b7 : A7) (b8 : A8), I b1 b2 b3 b4 b5 b6 b7 b8 → μ b1 b2 b3 b4 b5 b6 b7 b8 < μ a1 a2 a3 a4 a5 a6 a7 a8 → W n b1 b2 b3 b4 b5 b6 b7 b8) → W (n + 1) a1 a2 a3 a4 a5 a6 a7 a8) (a1 : A1) (a2 : A2) (a3 : A3) (a4 : A4) (a5 : A5) (a6 : A6) (a7 : A7) (a8 : A8) (h : I a1 a2 a3 a4 a5 a6 a7 a8) : ∃ n, W n a1 a2 a3 a4 a5 a6 a7 a8 :=
  loop_m (σ := A1 × A2 × A3 × A4 × A5 × A6 × A7 × A8) (fun n s => W n s.1 s.2.1 s.2.2.1 s.2.2.2.1 s.2.2.2.2.1 s.2.2.2.2.2.1 s.2.2.2.2.2.2.1 s.2.2.2.2.2.2.2) (fun s => I s.1 s.2.1 s.2.2.1 s.2.2.2.1 s.2.2.2.2.1 s.2.2.2.2.2.1 s.2.2.2.2.2.2.1 s.2.2.2.2.2.2.2) (fun s => μ s.1 s.2.1 s.2.2.1 s.2.2.2.1 s.2.2.2.2.1 s.2.2.2.2.2.1 s.2.2.2.2.2.2.1 s.2.2.2.2.2.2.2) (fun n s hI hk => hs n s.1 s.2.1 s.2.2.1 s.2.2.2.1 s.2.2.2.2.1 s.2.2.2.2.2.1 s.2.2.2.2.2.2.1 s.2.2.2.2.2.2.2 hI (fun b1 b2 b3 b4 b5 b6 b7 b8 h9 hm => hk (b1, b2, b3, b4, b5, b6, b7, b8) h9 hm)) (a1, a2, a3, a4, a5, a6, a7, a8) h
theorem lp9 {A1 A2 A3 A4 A5 A6 A7 A8 A9 : Type} (W : Nat → A1 → A2 → A3 → A4 → A5 → A6 → A7 → A8 → A9 → Prop) (I : A1 → A2 → A3 → A4 → A5 → A6 → A7 → A8 → A9 → Prop) (μ : A1 → A2 → A3 → A4 → A5 → A6 → A7 → A8 → A9 → Nat) (hs : ∀ (n : Nat) (a1 : A1) (a2 : A2) (a3 : A3) (a4 : A4) (a5 : A5) (a6 : A6) (a7 : A7) (a8 : A8) (a9 : A9), I a1 a2 a3 a4 a5 a6 a7 a8 a9 → (∀ (b1 : A1) (b2 : A2) (b3 : A3) (b4 : A4) (b5 : A5) (b6 : A6) (b7 : A7) (b8 : A8) (b9 : A9), I b1 b2 b3 b4 b5 b6 b7 b8 b9 → μ b1 b2 b3 b4 b5 b6 b7 b8 b9 < μ a1 a2 a3 a4 a5 a6 a7 a8 a9 → W n b1 b2 b3 b4 b5 b6 b7 b8 b9) → W (n + 1) a1 a2 a3 a4 a5 a6 a7 a8 a9) (a1 : A1) (a2 : A2) (a3 : A3) (a4 : A4) (a5 : A5) (a6 : A6) (a7 : A7) (a8 : A8) (a9 : A9) (h : I a1 a2 a3 a4 a5 a6 a7 a8 a9) : ∃ n, W n a1 a2 a3 a4 a5 a6 a7 a8 a9 :=
  loop_m (σ := A1 × A2 × A3 × A4 × A5 × A6 × A7 × A8 × A9) (fun n s => W n s.1 s.2.1 s.2.2.1 s.2.2.2.1 s.2.2.2.2.1 s.2.2.2.2.2.1 s.2.2.2.2.2.2.1 s.2.2.2.2.2.2.2.1 s.2.2.2.2.2.2.2.2) (fun s => I s.1 s.2.1 s.2.2.1 s.2.2.2.1 s.2.2.2.2.1 s.2.2.2.2.2.1 s.2.2.2.2.2.2.1 s.2.2.2.2.2.2.2.1 s.2.2.2.2.2.2.2.2) (fun s => μ s.1 s.2.1 s.2.2.1 s.2.2.2.1 s.2.2.2.2.1 s.2.2.2.2.2.1 s.2.2.2.2.2.2.1 s.2.2.2.2.2.2.2.1 s.2.2.2.2.2.2.2.2) (fun n s hI hk => hs n s.1 s.2.1 s.2.2.1 s.2.2.2.1 s.2.2.2.2.1 s.2.2.2.2.2.1 s.2.2.2.2.2.2.1 s.2.2.2.2.2.2.2.1 s.2.2.2.2.2.2.2.2 hI (fun b1 b2 b3 b4 b5 b6 b7 b8 b9 h9 hm => hk (b1, b2, b3, b4, b5, b6, b7, b8, b9) h9 hm)) (a1, a2, a3, a4, a5, a6, a7, a8, a9) h
theorem lp10 {A1 A2 A3 A4 A5 A6 A7 A8 A9 A10 : Type} (W : Nat → A1 → A2 → A3 → A4 → A5 → A6 → A7 → A8 → A9 → A10 → Prop) (I : A1 → A2 → A3 → A4 → A5 → A6 → A7 → A8 → A9 → A10 → Prop) (μ : A1 → A2 → A3 → A4 → A5 → A6 → A7 → A8 → A9 → A10 → Nat) (hs : ∀ (n : Nat) (a1 : A1) (a2 : A2) (a3 : A3) (a4 : A4) (a5 : A5) (a6 : A6) (a7 : A7) (a8 : A8) (a9 : A9) (a10 : A10), I a1 a2 a3 a4 a5 a6 a7 a8 a9 a10 → (∀ (b1 : A1) (b2 : A2) (b3 : A3) (b4 : A4) (b5 : A5) (b6 : A6) (b7 : A7) (b8 : A8) (b9 : A9) (b10 : A10), I b1 b2 b3 b4 b5 b6 b7 b8 b9 b10 → μ b1 b2 b3 b4 b5 b6 b7 b8 b9 b10 < μ a1 a2 a3 a4 a5 a6 a7 a8 a9 a10 → W n b1 b2 b3 b4 b5 b6 b7 b8 b9 b10) → W (n + 1) a1 a2 a3 a4 a5 a6 a7 a8 a9 a10) (a1 : A1) (a2 : A2) (a3 : A3) (a4 : A4) (a5 : A5) (a6 : A6) (a7 : A7) (a8 : A8) (a9 : A9) (a10 : A10) (h : I a1 a2 a3 a4 a5 a6 a7 a8 a9 a10) : ∃ n, W n a1 a2 a3 a4 a5 a6 a7 a8 a9 a10 :=
  loop_m (σ := A1 × A2 × A3 × A4 × A5 × A6 × A7 × A8 × A9 × A10) (fun n s => W n s.1 s.2.1 s.2.2.1 s.2.2.2.1 s.2.2.2.2.1 s.2.2.2.2.2.1 s.2.2.2.2.2.2.1 s.2.2.2.2.2.2.2.1 s.2.2.2.2.2.2.2.2.1 s.2.2.2.2.2.2.2.2.2) (fun s => I s.1 s.2.1 s.2.2.1 s.2.2.2.1 s.2.2.2.2.1 s.2.2.2.2.2.1 s.2.2.2.2.2.2.1 s.2.2.2.2.2.2.2.1 s.2.2.2.2.2.2.2.2.1 s.2.2.2.2.2.2.2.2.2) (fun s => μ s.1 s.2.1 s.2.2.1 s.2.2.2.1 s.2.2.2.2.1 s.2.2.2.2.2.1 s.2.2.2.2.2.2.1 s.2.2.2.2.2.2.2.1 s.2.2.2.2.2.2.2.2.1 s.2.2.2.2.2.2.2.2.2) (fun n s hI hk => hs n s.1 s.2.1 s.2.2.1 s.2.2.2.1 s.2.2.2.2.1 s.2.2.2.2.2.1 s.2.2.2.2.2.2.1 s.2.2.2.2.2.2.2.1 s.2.2.2.2.2.2.2.2.1 s.2.2.2.2.2.2.2.2.2 hI (fun b1 b2 b3 b4 b5 b6 b7 b8 b9 b10 h9 hm => hk (b1, b2, b3, b4, b5, b6, b7, b8, b9, b10) h9 hm)) (a1, a2, a3, a4, a5, a6, a7, a8, a9, a10) h
theorem lp11 {A1 A2 A3 A4 A5 A6 A7 A8 A9 A10 A11 : Type} (W : Nat → A1 → A2 → A3 → A4 → A5 → A6 → A7 → A8 → A9 → A10 → A11 → Prop) (I : A1 → A2 → A3 → A4 → A5 → A6 → A7 → A8 → A9 → A10 → A11 → Prop) (μ : A1 → A2 → A3 → A4 → A5 → A6 → A7 → A8 → A9 → A10 → A11 → Nat) (hs : ∀ (n : Nat) (a1 : A1) (a2 : A2) (a3 : A3) (a4 : A4) (a5 : A5) (a6 : A6) (a7 : A7) (a8 : A8) (a9 : A9) (a10 : A10) (a11 : A11), I a1 a2 a3 a4 a5 a6 a7 a8 a9 a10 a11 → (∀ (b1 : A1) (b2 : A2) (b3 : A3) (b4 : A4) (b5 : A5) (b6 : A6) (b7 : A7) (b8 : A8) (b9 : A9) (b10 : A10) (b11 : A11), I b1 b2 b3 b4 b5 b6 b7 b8 b9 b10 b11 → μ b1 b2 b3 b4 b5 b6 b7 b8 b9 b10 b11 < μ a1 a2 a3 a4 a5 a6 a7 a8 a9 a10 a11 → W n b1 b2 b3 b4 b5 b6 b7 b8 b9 b10 b11) → W (n + 1) a1 a2 a3 a4 a5 a6 a7 a8 a9 a10 a11) (a1 : A1) (a2 : A2) (a3 : A3) (a4 : A4) (a5 : A5) (a6 : A6) (a7 : A7) (a8 : A8) (a9 : A9) (a10 : A10) (a11 : A11) (h : I a1 a2 a3 a4 a5 a6 a7 a8 a9 a10 a11) : ∃ n, W n a1 a2 a3 a4 a5 a6 a7 a8 a9 a10 a11 :=
  loop_m (σ := A1 × A2 × A3 × A4 × A5 × A6 × A7 × A8 × A9 × A10 × A11) (fun n s => W n s.1 s.2.1 s.2.2.1 s.2.2.2.1 s.2.2.2.2.1 s.2.2.2.2.2.1 s.2.2.2.2.2.2.1 s.2.2.2.2.2.2.2.1 s.2.2.2.2.2.2.2.2.1 s.2.2.2.2.2.2.2.2.2.1 s.2.2.2.2.2.2.2.2.2.2) (fun s => I s.1 s.2.1 s.2.2.1 s.2.2.2.1 s.2.2.2.2.1 s.2.2.2.2.2.1 s.2.2.2.2.2.2.1 s.2.2.2.2.2.2.2.1 s.2.2.2.2.2.2.2.2.1 s.2.2.2.2.2.2.2.2.2.1 s.2.2.2.2.2.2.2.2.2.2) (fun s => μ s.1 s.2.1 s.2.2.1 s.2.2.2.1 s.2.2.2.2.1 s.2.2.2.2.2.1 s.2.2.2.2.2.2.1 s.2.2.2.2.2.2.2.1 s.2.2.2.2.2.2.2.2.1 s.2.2.2.2.2.2.2.2.2.1 s.2.2.2.2.2.2.2.2.2.2) (fun n s hI hk => hs n s.1 s.2.1 s.2.2.1 s.2.2.2.1 s.2.2.2.2.1 s.2.2.2.2.2.1 s.2.2.2.2.2.2.1 s.2.2.2.2.2.2.2.1 s.2.2.2.2.2.2.2.2.1 s.2.2.2.2.2.2.2.2.2.1 s.2.2.2.2.2.2.2.2.2.2 hI (fun b1 b2 b3 b4 b5 b6 b7 b8 b9 b10 b11 h9 hm => hk (b1, b2, b3, b4, b5, b6, b7, b8, b9, b10, b11) h9 hm)) (a1, a2, a3, a4, a5, a6, a7, a8, a9, a10, a11) h
theorem lp12 {A1 A2 A3 A4 A5 A6 A7 A8 A9 A10 A11 A12 : Type} (W : Nat → A1 → A2 → A3 → A4 → A5 → A6 → A7 → A8 → A9 → A10 → A11 → A12 → Prop) (I : A1 → A2 → A3 → A4 → A5 → A6 → A7 → A8 → A9 → A10 → A11 → A12 → Prop) (μ : A1 → A2 → A3 → A4 → A5 → A6 → A7 → A8 → A9 → A10 → A11 → A12 → Nat) (hs : ∀ (n : Nat) (a1 : A1) (a2 : A2) (a3 : A3) (a4 : A4) (a5 : A5) (a6 : A6) (a7 : A7) (a8 : A8) (a9 : A9) (a10 : A10) (a11 : A11) (a12 : A12), I a1 a2 a3 a4 a5 a6 a7 a8 a9 a10 a11 a12 → (∀ (b1 : A1) (b2 : A2) (b3 : A3) (b4 : A4) (b5 : A5) (b6 : A6) (b7 : A7) (b8 : A8) (b9 : A9) (b10 : A10) (b11 : A11) (b12 : A12), I b1 b2 b3 b4 b5 b6 b7 b8 b9 b10 b11 b12 → μ b1 b2 b3 b4 b5 b6 b7 b8 b9 b10 b11 b12 < μ a1 a2 a3 a4 a5 a6 a7 a8 a9 a10 a11 a12 → W n b1 b2 b3 b4 b5 b6 b7 b8 b9 b10 b11 b12) → W (n + 1) a1 a2 a3 a4 a5 a6 a7 a8 a9 a10 a11 a12) (a1 : A1) (a2 : A2) (a3 : A3) (a4 : A4) (a5 : A5) (a6 : A6) (a7 : A7) (a8 : A8) (a9 : A9) (a10 : A10) (a11 : A11) (a12 : A12) (h : I a1 a2 a3 a4 a5 a6 a7 a8 a9 a10 a11 a12) : ∃ n, W n a1 a2 a3 a4 a5 a6 a7 a8 a9 a10 a11 a12 :=
  loop_m (σ := A1 × A2 × A3 × A4 × A5 × A6 × A7 × A8 × A9 × A10 × A11 × A12) (fun n s => W n s.1 s.2.1 s.2.2.1 s.2.2.2.1 s.2.2.2.2.1 s.2.2.2.2.2.1 s.2.2.2.2.2.2.1 s.2.2.2.2.2.2.2.1 s.2.2.2.2.2.2.2.2.1 s.2.2.2.2.2.2.2.2.2.1 s.2.2.2.2.2.2.2.2.2.2.1 s.2.2.2.2.2.2.2.2.2.2.2) (fun s => I s.1 s.2.1 s.2.2.1 s.2.2.2.1 s.2.2.2.2.1 s.2.2.2.2.2.1 s.2.2.2.2.2.2.1 s.2.2.2.2.2.2.2.1 s.2.2.2.2.2.2.2.2.1 s.2.2.2.2.2.2.2.2.2.1 s.2.2.2.2.2.2.2.2.2.2.1 s.2.2.2.2.2.2.2.2.2.2.2) (fun s => μ s.1 s.2.1 s.2.2.1 s.2.2.2.1 s.2.2.2.2.1 s.2.2.2.2.2.1 s.2.2.2.2.2.2.1 s.2.2.2.2.2.2.2.1 s.2.2.2.2.2.2.2.2.1 s.2.2.2.2.2.2.2.2.2.1 s.2.2.2.2.2.2.2.2.2.2.1 s.2.2.2.2.2.2.2.2.2.2.2) (fun n s hI hk => hs n s.1 s.2.1 s.2.2.1 s.2.2.2.1 s.2.2.2.2.1 s.2.2.2.2.2.1 s.2.2.2.2.2.2.1 s.2.2.2.2.2.2.2.1 s.2.2.2.2.2.2.2.2.1 s.2.2.2.2.2.2.2.2.2.1 s.2.2.2.2.2.2.2.2.2.2.1 s.2.2.2.2.2.2.2.2.2.2.2 hI (fun b1 b2 b3 b4 b5 b6 b7 b8 b9 b10 b11 b12 h9 hm => hk (b1, b2, b3, b4, b5, b6, b7, b8, b9, b10, b11, b12) h9 hm)) (a1, a2, a3, a4, a5, a6, a7, a8, a9, a10, a11, a12) h
theorem lp13 {A1 A2 A3 A4 A5 A6 A7 A8 A9 A10 A11 A12 A13 : Type} (W : Nat → A1 → A2 → A3 → A4 → A5 → A6 → A7 → A8 → A9 → A10 → A11 → A12 → A13 → Prop) (I : A1 → A2 → A3 → A4 → A5 → A6 → A7 → A8 → A9 → A10 → A11 → A12 → A13 → Prop) (μ : A1 → A2 → A3 → A4 → A5 → A6 → A7 → A8 → A9 → A10 → A11 → A12 → A13 → Nat) (hs : ∀ (n : Nat) (a1 : A1) (a2 : A2) (a3 : A3) (a4 : A4) (a5 : A5) (a6 : A6) (a7 : A7) (a8 : A8) (a9 : A9) (a10 : A10) (a11 : A11) (a12 : A12) (a13 : A13), I a1 a2 a3 a4 a5 a6 a7 a8 a9 a10 a11 a12 a13 → (∀ (b1 : A1) (b2 : A2) (b3 : A3) (b4 : A4) (b5 : A5) (b6 : A6) (b7 : A7) (b8 : A8) (b9 : A9) (b10 : A10) (b11 : A11) (b12 : A12) (b13 : A13), I b1 b2 b3 b4 b5 b6 b7 b8 b9 b10 b11 b12 b13 → μ b1 b2 b3 b4 b5 b6 b7 b8 b9 b10 b11 b12 b13 < μ a1 a2 a3 a4 a5 a6 a7 a8 a9 a10 a11 a12 a13 → W n b1 b2 b3 b4 b5 b6 b7 b8 b9 b10 b11 b12 b13) → W (n + 1) a1 a2 a3 a4 a5 a6 a7 a8 a9 a10 a11 a12 a13) (a1 : A1) (a2 : A2) (a3 : A3) (a4 : A4) (a5 : A5) (a6 : A6) (a7 : A7) (a8 : A8) (a9 : A9) (a10 : A10) (a11 : A11) (a12 : A12) (a13 : A13) (h : I a1 a2 a3 a4 a5 a6 a7 a8 a9 a10 a11 a12 a13) : ∃ n, W n a1 a2 a3 a4 a5 a6 a7 a8 a9 a10 a11 a12 a13 :=
  loop_m (σ := A1 × A2 × A3 × A4 × A5 × A6 × A7 × A8 × A9 × A10 × A11 × A12 × A13) (fun n s => W n s.1 s.2.1 s.2.2.1 s.2.2.2.1 s.2.2.2.2.1 s.2.2.2.2.2.1 s.2.2.2.2.2.2.1 s.2.2.2.2.2.2.2.1 s.2.2.2.2.2.2.2.2.1 s.2.2.2.2.2.2.2.2.2.1 s.2.2.2.2.2.2.2.2.2.2.1 s.2.2.2.2.2.2.2.2.2.2.2.1 s.2.2.2.2.2.2.2.2.2.2.2.2) (fun s => I s.1 s.2.1 s.2.2.1 s.2.2.2.1 s.2.2.2.2.1 s.2.2.2.2.2.1 s.2.2.2.2.2.2.1 s.2.2.2.2.2.2.2.1 s.2.2.2.2.2.2.2.2.1 s.2.2.2.2.2.2.2.2.2.1 s.2.2.2.2.2.2.2.2.2.2.1 s.2.2.2.2.2.2.2.2.2.2.2.1 s.2.2.2.2.2.2.2.2.2.2.2.2) (fun s => μ s.1 s.2.1 s.2.2.1 s.2.2.2.1 s.2.2.2.2.1 s.2.2.2.2.2.1 s.2.2.2.2.2.2.1 s.2.2.2.2.2.2.2.1 s.2.2.2.2.2.2.2.2.1 s.2.2.2.2.2.2.2.2.2.1 s.2.2.2.2.2.2.2.2.2.2.1 s.2.2.2.2.2.2.2.2.2.2.2.1 s.2.2.2.2.2.2.2.2.2.2.2.2) (fun n s hI hk => hs n s.1 s.2.1 s.2.2.1 s.2.2.2.1 s.2.2.2.2.1 s.2.2.2.2.2.1 s.2.2.2.2.2.2.1 s.2.2.2.2.2.2.2.1 s.2.2.2.2.2.2.2.2.1 s.2.2.2.2.2.2.2.2.2.1 s.2.2.2.2.2.2.2.2.2.2.1 s.2.2.2.2.2.2.2.2.2.2.2.1 s.2.2.2.2.2.2.2.2.2.2.2.2 hI (fun b1 b2 b3 b4 b5 b6 b7 b8 b9 b10 b11 b12 b13 h9 hm => hk (b1, b2, b3, b4, b5, b6, b7, b8, b9, b10, b11, b12, b13) h9 hm)) (a1, a2, a3, a4, a5, a6, a7, a8, a9, a10, a11, a12, a13) h
theorem lp14 {A1 A2 A3 A4 A5 A6 A7 A8 A9 A10 A11 A12 A13 A14 : Type} (W : Nat → A1 → A2 → A3 → A4 → A5 → A6 → A7 → A8 → A9 → A10 → A11 → A12 → A13 → A14 → Prop) (I : A1 → A2 → A3 → A4 → A5 → A6 → A7 → A8 → A9 → A10 → A11 → A12 → A13 → A14 → Prop) (μ : A1 → A2 → A3 → A4 → A5 → A6 → A7 → A8 → A9 → A10 → A11 → A12 → A13 → A14 → Nat) (hs : ∀ (n : Nat) (a1 : A1) (a2 : A2) (a3 : A3) (a4 : A4) (a5 : A5) (a6 : A6) (a7 : A7) (a8 : A8) (a9 : A9) (a10 : A10) (a11 : A11) (a12 : A12) (a13 : A13) (a14 : A14), I a1 a2 a3 a4 a5 a6 a7 a8 a9 a10 a11 a12 a13 a14 → (∀ (b1 : A1) (b2 : A2) (b3 : A3) (b4 : A4) (b5 : A5) (b6 : A6) (b7 : A7) (b8 : A8) (b9 : A9) (b10 : A10) (b11 : A11) (b12 : A12) (b13 : A13) (b14 : A14), I b1 b2 b3 b4 b5 b6 b7 b8 b9 b10 b11 b12 b13 b14 → μ b1 b2 b3 b4 b5 b6 b7 b8 b9 b10 b11 b12 b13 b14 < μ a1 a2 a3 a4 a5 a6 a7 a8 a9 a10 a11 a12 a13 a14 → W n b1 b2 b3 b4 b5 b6 b7 b8 b9 b10 b11 b12 b13 b14) → W (n + 1) a1 a2 a3 a4 a5 a6 a7 a8 a9 a10 a11 a12 a13 a14) (a1 : A1) (a2 : A2) (a3 : A3) (a4 : A4) (a5 : A5) (a6 : A6) (a7 : A7) (a8 : A8) (a9 : A9) (a10 : A10) (a11 : A11) (a12 : A12) (a13 : A13) (a14 : A14) (h : I a1 a2 a3 a4 a5 a6 a7 a8 a9 a10 a11 a12 a13 a14) : ∃ n, W n a1 a2 a3 a4 a5 a6 a7 a8 a9 a10 a11 a12 a13 a14 :=
  loop_m (σ := A1 × A2 × A3 × A4 × A5 × A6 × A7 × A8 × A9 × A10 × A11 × A12 × A13 × A14) (fun n s => W n s.1 s.2.1 s.2.2.1 s.2.2.2.1 s.2.2.2.2.1 s.2.2.2.2.2.1 s.2.2.2.2.2.2.1 s.2.2.2.2.2.2.2.1 s.2.2.2.2.2.2.2.2.1 s.2.2.2.2.2.2.2.2.2.1 s.2.2.2.2.2.2.2.2.2.2.1 s.2.2.2.2.2.2.2.2.2.2.2.1 s.2.2.2.2.2.2.2.2.2.2.2.2.1 s.2.2.2.2.2.2.2.2.2.2.2.2.2) (fun s => I s.1 s.2.1 s.2.2.1 s.2.2.2.1 s.2.2.2.2.1 s.2.2.2.2.2.1 s.2.2.2.2.2.2.1 s.2.2.2.2.2.2.2.1 s.2.2.2.2.2.2.2.2.1 s.2.2.2.2.2.2.2.2.2.1 s.2.2.2.2.2.2.2.2.2.2.1 s.2.2.2.2.2.2.2.2.2.2.2.1 s.2.2.2.2.2.2.2.2.2.2.2.2.1 s.2.2.2.2.2.2.2.2.2.2.2.2.2) (fun s => μ s.1 s.2.1 s.2.2.1 s.2.2.2.1 s.2.2.2.2.1 s.2.2.2.2.2.1 s.2.2.2.2.2.2.1 s.2.2.2.2.2.2.2.1 s.2.2.2.2.2.2.2.2.1 s.2.2.2.2.2.2.2.2.2.1 s.2.2.2.2.2.2.2.2.2.2.1 s.2.2.2.2.2.2.2.2.2.2.2.1 s.2.2.2.2.2.2.2.2.2.2.2.2.1 s.2.2.2.2.2.2.2.2.2.2.2.2.2) (fun n s hI hk => hs n s.1 s.2.1 s.2.2.1 s.2.2.2.1 s.2.2.2.2.1 s.2.2.2.2.2.1 s.2.2.2.2.2.2.1 s.2.2.2.2.2.2.2.1 s.2.2.2.2.2.2.2.2.1 s.2.2.2.2.2.2.2.2.2.1 s.2.2.2.2.2.2.2.2.2.2.1 s.2.2.2.2.2.2.2.2.2.2.2.1 s.2.2.2.2.2.2.2.2.2.2.2.2.1 s.2.2.2.2.2.2.2.2.2.2.2.2.2 hI (fun b1 b2 b3 b4 b5 b6 b7 b8 b9 b10 b11 b12 b13 b14 h9 hm => hk (b1, b2, b3, b4, b5, b6, b7, b8, b9, b10, b11, b12, b13, b14) h9 hm)) (a1, a2, a3, a4, a5, a6, a7, a8, a9, a10, a11, a12, a13, a14) h
theorem lp15 {A1 A2 A3 A4 A5 A6 A7 A8 A9 A10 A11 A12 A13 A14 A15 : Type} (W : Nat → A1 → A2 → A3 → A4 → A5 → A6 → A7 → A8 → A9 → A10 → A11 → A12 → A13 → A14 → A15 → Prop) (I : A1 → A2 → A3 → A4 → A5 → A6 → A7 → A8 → A9 → A10 → A11 → A12 → A13 → A14 → A15 → Prop) (μ : A1 → A2 → A3 → A4 → A5 → A6 → A7 → A8 → A9 → A10 → A11 → A12 → A13 → A14 → A15 → Nat) (hs : ∀ (n : Nat) (a1 : A1) (a2 : A2) (a3 : A3) (a4 : A4) (a5 : A5) (a6 : A6) (a7 : A7) (a8 : A8) (a9 : A9) (a10 : A10) (a11 : A11) (a12 : A12) (a13 : A13) (a14 : A14) (a15 : A15), I a1 a2 a3 a4 a5 a6 a7 a8 a9 a10 a11 a12 a13 a14 a15 → (∀ (b1 : A1) (b2 : A2) (b3 : A3) (b4 : A4) (b5 : A5) (b6 : A6) (b7 : A7) (b8 : A8) (b9 : A9) (b10 : A10) (b11 : A11) (b12 : A12) (b13 : A13) (b14 : A14) (b15 : A15), I b1 b2 b3 b4 b5 b6 b7 b8 b9 b10 b11 b12 b13 b14 b15 → μ b1 b2 b3 b4 b5 b6 b7 b8 b9 b10 b11 b12 b13 b14 b15 < μ a1 a2 a3 a4 a5 a6 a7 a8 a9 a10 a11 a12 a13 a14 a15 → W n b1 b2 b3 b4 b5 b6 b7 b8 b9 b10 b11 b12 b13 b14 b15) → W (n + 1) a1 a2 a3 a4 a5 a6 a7 a8 a9 a10 a11 a12 a13 a14 a15) (a1 : A1) (a2 : A2) (a3 : A3) (a4 : A4) (a5 : A5) (a6 : A6) (a7 : A7) (a8 : A8) (a9 : A9) (a10 : A10) (a11 : A11) (a12 : A12) (a13 : A13) (a14 : A14) (a15 : A15) (h : I a1 a2 a3 a4 a5 a6 a7 a8 a9 a10 a11 a12 a13 a14 a15) : ∃ n, W n a1 a2 a3 a4 a5 a6 a7 a8 a9 a10 a11 a12 a13 a14 a15 :=
  loop_m (σ := A1 × A2 × A3 × A4 × A5 × A6 × A7 × A8 × A9 × A10 × A11 × A12 × A13 × A14 × A15) (fun n s => W n s.1 s.2.1 s.2.2.1 s.2.2.2.1 s.2.2.2.2.1 s.2.2.2.2.2.1 s.2.2.2.2.2.2.1 s.2.2.2.2.2.2.2.1 s.2.2.2.2.2.2.2.2.1 s.2.2.2.2.2.2.2.2.2.1 s.2.2.2.2.2.2.2.2.2.2.1 s.2.2.2.2.2.2.2.2.2.2.2.1 s.2.2.2.2.2.2.2.2.2.2.2.2.1 s.2.2.2.2.2.2.2.2.2.2.2.2.2.1 s.2.2.2.2.2.2.2.2.2.2.2.2.2.2) (fun s => I s.1 s.2.1 s.2.2.1 s.2.2.2.1 s.2.2.2.2.1 s.2.2.2.2.2.1 s.2.2.2.2.2.2.1 s.2.2.2.2.2.2.2.1 s.2.2.2.2.2.2.2.2.1 s.2.2.2.2.2.2.2.2.2.1 s.2.2.2.2.2.2.2.2.2.2.1 s.2.2.2.2.2.2.2.2.2.2.2.1 s.2.2.2.2.2.2.2.2.2.2.2.2.1 s.2.2.2.2.2.2.2.2.2.2.2.2.2.1 s.2.2.2.2.2.2.2.2.2.2.2.2.2.2) (fun s => μ s.1 s.2.1 s.2.2.1 s.2.2.2.1 s.2.2.2.2.1 s.2.2.2.2.2.1 s.2.2.2.2.2.2.1 s.2.2.2.2.2.2.2.1 s.2.2.2.2.2.2.2.2.1 s.2.2.2.2.2.2.2.2.2.1 s.2.2.2.2.2.2.2.2.2.2.1 s.2.2.2.2.2.2.2.2.2.2.2.1 s.2.2.2.2.2.2.2.2.2.2.2.2.1 s.2.2.2.2.2.2.2.2.2.2.2.2.2.1 s.2.2.2.2.2.2.2.2.2.2.2.2.2.2) (fun n s hI hk => hs n s.1 s.2.1 s.2.2.1 s.2.2.2.1 s.2.2.2.2.1 s.2.2.2.2.2.1 s.2.2.2.2.2.2.1 s.2.2.2.2.2.2.2.1 s.2.2.2.2.2.2.2.2.1 s.2.2.2.2.2.2.2.2.2.1 s.2.2.2.2.2.2.2.2.2.2.1 s.2.2.2.2.2.2.2.2.2.2.2.1 s.2.2.2.2.2.2.2.2.2.2.2.2.1 s.2.2.2.2.2.2.2.2.2.2.2.2.2.1 s.2.2.2.2.2.2.2.2.2.2.2.2.2.2 hI (fun b1 b2 b3 b4 b5 b6 b7 b8 b9 b10 b11 b12 b13 b14 b15 h9 hm => hk (b1, b2, b3, b4, b5, b6, b7, b8, b9, b10, b11, b12, b13, b14, b15) h9 hm)) (a1, a2, a3, a4, a5, a6, a7, a8, a9, a10, a11, a12, a13, a14, a15) h
theorem lp16 {A1 A2 A3 A4 A5 A6 A7 A8 A9 A10 A11 A12 A13 A14 A15 A16 : Type} (W : Nat → A1 → A2 → A3 → A4 → A5 → A6 → A7 → A8 → A9 → A10 → A11 → A12 → A13 → A14 → A15 → A16 → Prop) (I : A1 → A2 → A3 → A4 → A5 → A6 → A7 → A8 → A9 → A10 → A11 → A12 → A13 → A14 → A15 → A16 → Prop) (μ : A1 → A2 → A3 → A4 → A5 → A6 → A7 → A8 → A9 → A10 → A11 → A12 → A13 → A14 → A15 → A16 → Nat) (hs : ∀ (n : Nat) (a1 : A1) (a2 : A2) (a3 : A3) (a4 : A4) (a5 : A5) (a6 : A6) (a7 : A7) (a8 : A8) (a9 : A9) (a10 : A10) (a11 : A11) (a12 : A12) (a13 : A13) (a14 : A14) (a15 : A15) (a16 : A16), I a1 a2 a3 a4 a5 a6 a7 a8 a9 a10 a11 a12 a13 a14 a15 a16 → (∀ (b1 : A1) (b2 : A2) (b3 : A3) (b4 : A4) (b5 : A5) (b6 : A6) (b7 : A7) (b8 : A8) (b9 : A9) (b10 : A10) (b11 : A11) (b12 : A12) (b13 : A13) (b14 : A14) (b15 : A15) (b16 : A16), I b1 b2 b3 b4 b5 b6 b7 b8 b9 b10 b11 b12 b13 b14 b15 b16 → μ b1 b2 b3 b4 b5 b6 b7 b8 b9 b10 b11 b12 b13 b14 b15 b16 < μ a1 a2 a3 a4 a5 a6 a7 a8 a9 a10 a11 a12 a13 a14 a15 a16 → W n b1 b2 b3 b4 b5 b6 b7 b8 b9 b10 b11 b12 b13 b14 b15 b16) → W (n + 1) a1 a2 a3 a4 a5 a6 a7 a8 a9 a10 a11 a12 a13 a14 a15 a16) (a1 : A1) (a2 : A2) (a3 : A3) (a4 : A4) (a5 : A5) (a6 : A6) (a7 : A7) (a8 : A8) (a9 : A9) (a10 : A10) (a11 : A11) (a12 : A12) (a13 : A13) (a14 : A14) (a15 : A15) (a16 : A16) (h : I a1 a2 a3 a4 a5 a6 a7 a8 a9 a10 a11 a12 a13 a14 a15 a16) : ∃ n, W n a1 a2 a3 a4 a5 a6 a7 a8 a9 a10 a11 a12 a13 a14 a15 a16 :=
  loop_m (σ := A1 × A2 × A3 × A4 × A5 × A6 × A7 × A8 × A9 × A10 × A11 × A12 × A13 × A14 × A15 × A16) (fun n s => W n s.1 s.2.1 s.2.2.1 s.2.2.2.1 s.2.2.2.2.1 s.2.2.2.2.2.1 s.2.2.2.2.2.2.1 s.2.2.2.2.2.2.2.1 s.2.2.2.2.2.2.2.2.1 s.2.2.2.2.2.2.2.2.2.1 s.2.2.2.2.2.2.2.2.2.2.1 s.2.2.2.2.2.2.2.2.2.2.2.1 s.2.2.2.2.2.2.2.2.2.2.2.2.1 s.2.2.2.2.2.2.2.2.2.2.2.2.2.1 s.2.2.2.2.2.2.2.2.2.2.2.2.2.2.1 s.2.2.2.2.2.2.2.2.2.2.2.2.2.2.2) (fun s => I s.1 s.2.1 s.2.2.1 s.2.2.2.1 s.2.2.2.2.1 s.2.2.2.2.2.1 s.2.2.2.2.2.2.1 s.2.2.2.2.2.2.2.1 s.2.2.2.2.2.2.2.2.1 s.2.2.2.2.2.2.2.2.2.1 s.2.2.2.2.2.2.2.2.2.2.1 s.2.2.2.2.2.2.2.2.2.2.2.1 s.2.2.2.2.2.2.2.2.2.2.2.2.1 s.2.2.2.2.2.2.2.2.2.2.2.2.2.1 s.2.2.2.2.2.2.2.2.2.2.2.2.2.2.1 s.2.2.2.2.2.2.2.2.2.2.2.2.2.2.2) (fun s => μ s.1 s.2.1 s.2.2.1 s.2.2.2.1 s.2.2.2.2.1 s.2.2.2.2.2.1 s.2.2.2.2.2.2.1 s.2.2.2.2.2.2.2.1 s.2.2.2.2.2.2.2.2.1 s.2.2.2.2.2.2.2.2.2.1 s.2.2.2.2.2.2.2.2.2.2.1 s.2.2.2.2.2.2.2.2.2.2.2.1 s.2.2.2.2.2.2.2.2.2.2.2.2.1 s.2.2.2.2.2.2.2.2.2.2.2.2.2.1 s.2.2.2.2.2.2.2.2.2.2.2.2.2.2.1 s.2.2.2.2.2.2.2.2.2.2.2.2.2.2.2) (fun n s hI hk => hs n s.1 s.2.1 s.2.2.1 s.2.2.2.1 s.2.2.2.2.1 s.2.2.2.2.2.1 s.2.2.2.2.2.2.1 s.2.2.2.2.2.2.2.1 s.2.2.2.2.2.2.2.2.1 s.2.2.2.2.2.2.2.2.2.1 s.2.2.2.2.2.2.2.2.2.2.1 s.2.2.2.2.2.2.2.2.2.2.2.1 s.2.2.2.2.2.2.2.2.2.2.2.2.1 s.2.2.2.2.2.2.2.2.2.2.2.2.2.1 s.2.2.2.2.2.2.2.2.2.2.2.2.2.2.1 s.2.2.2.2.2.2.2.2.2.2.2.2.2.2.2 hI (fun b1 b2 b3 b4 b5 b6 b7 b8 b9 b10 b11 b12 b13 b14 b15 b16 h9 hm => hk (b1, b2, b3, b4, b5, b6, b7, b8, b9, b10, b11, b12, b13, b14, b15, b16) h9 hm)) (a1, a2, a3, a4, a5, a6, a7, a8, a9, a10, a11, a12, a13, a14, a15, a16) h
theorem pk_least (P : Nat → Prop) (h : ∃ k, P k) : ∃ k, P k ∧ ∀ j, j < k → ¬ P j := by
  obtain ⟨k, hk⟩ := h
  induction k using Nat.strongRecOn with
  | ind k ih =>
    by_cases e : ∃ j, j < k ∧ P j
    · obtain ⟨j, hj, pj⟩ := e
      exact ih j hj pj
    · exact ⟨k, hk, fun j hj pj => e ⟨j, hj, pj⟩⟩
theorem rp1 {ρ A1 : Type} (W : Nat → (ρ → Prop) → A1 → Prop) (ok : A1 → Prop) (μ : A1 → Nat) (val : A1 → ρ)
    (hs : ∀ (d : Nat) (post : ρ → Prop) (a1 : A1), ok a1 → post (val a1) → (∀ (post' : ρ → Prop) (b1 : A1), ok b1 → μ b1 < μ a1 → post' (val b1) → W d post' b1) → W (d + 1) post a1) :
    ∀ (d : Nat) (post : ρ → Prop) (a1 : A1), ok a1 → μ a1 < d → post (val a1) → W d post a1 := by
  intro d
  induction d with
  | zero => intro post a1 _ h; omega
  | succ d ih =>
    intro post a1 ho hm hp
    exact hs d post a1 ho hp (fun post' b1 ho' hm' hp' => ih post' b1 ho' (by omega) hp')
theorem rp2 {ρ A1 A2 : Type} (W : Nat → (ρ → Prop) → A1 → A2 → Prop) (ok : A1 → A2 → Prop) (μ : A1 → A2 → Nat) (val : A1 → A2 → ρ)
    (hs : ∀ (d : Nat) (post : ρ → Prop) (a1 : A1) (a2 : A2), ok a1 a2 → post (val a1 a2) → (∀ (post' : ρ → Prop) (b1 : A1) (b2 : A2), ok b1 b2 → μ b1 b2 < μ a1 a2 → post' (val b1 b2) → W d post' b1 b2) → W (d + 1) post a1 a2) :
    ∀ (d : Nat) (post : ρ → Prop) (a1 : A1) (a2 : A2), ok a1 a2 → μ a1 a2 < d → post (val a1 a2) → W d post a1 a2 := by
  intro d
  induction d with
  | zero => intro post a1 a2 _ h; omega
  | succ d ih =>
    intro post a1 a2 ho hm hp
    exact hs d post a1 a2 ho hp (fun post' b1 b2 ho' hm' hp' => ih post' b1 b2 ho' (by omega) hp')
theorem rp3 {ρ A1 A2 A3 : Type} (W : Nat → (ρ → Prop) → A1 → A2 → A3 → Prop) (ok : A1 → A2 → A3 → Prop) (μ : A1 → A2 → A3 → Nat) (val : A1 → A2 → A3 → ρ)
    (hs : ∀ (d : Nat) (post : ρ → Prop) (a1 : A1) (a2 : A2) (a3 : A3), ok a1 a2 a3 → post (val a1 a2 a3) → (∀ (post' : ρ → Prop) (b1 : A1) (b2 : A2) (b3 : A3), ok b1 b2 b3 → μ b1 b2 b3 < μ a1 a2 a3 → post' (val b1 b2 b3) → W d post' b1 b2 b3) → W (d + 1) post a1 a2 a3) :
    ∀ (d : Nat) (post : ρ → Prop) (a1 : A1) (a2 : A2) (a3 : A3), ok a1 a2 a3 → μ a1 a2 a3 < d → post (val a1 a2 a3) → W d post a1 a2 a3 := by
  intro d
  induction d with
  | zero => intro post a1 a2 a3 _ h; omega
  | succ d ih =>
    intro post a1 a2 a3 ho hm hp
    exact hs d post a1 a2 a3 ho hp (fun post' b1 b2 b3 ho' hm' hp' => ih post' b1 b2 b3 ho' (by omega) hp')
theorem rp4 {ρ A1 A2 A3 A4 : Type} (W : Nat → (ρ → Prop) → A1 → A2 → A3 → A4 → Prop) (ok : A1 → A2 → A3 → A4 → Prop) (μ : A1 → A2 → A3 → A4 → Nat) (val : A1 → A2 → A3 → A4 → ρ)
    (hs : ∀ (d : Nat) (post : ρ → Prop) (a1 : A1) (a2 : A2) (a3 : A3) (a4 : A4), ok a1 a2 a3 a4 → post (val a1 a2 a3 a4) → (∀ (post' : ρ → Prop) (b1 : A1) (b2 : A2) (b3 : A3) (b4 : A4), ok b1 b2 b3 b4 → μ b1 b2 b3 b4 < μ a1 a2 a3 a4 → post' (val b1 b2 b3 b4) → W d post' b1 b2 b3 b4) → W (d + 1) post a1 a2 a3 a4) :
    ∀ (d : Nat) (post : ρ → Prop) (a1 : A1) (a2 : A2) (a3 : A3) (a4 : A4), ok a1 a2 a3 a4 → μ a1 a2 a3 a4 < d → post (val a1 a2 a3 a4) → W d post a1 a2 a3 a4 := by
  intro d
  induction d with
  | zero => intro post a1 a2 a3 a4 _ h; omega
  | succ d ih =>
    intro post a1 a2 a3 a4 ho hm hp
    exact hs d post a1 a2 a3 a4 ho hp (fun post' b1 b2 b3 b4 ho' hm' hp' => ih post' b1 b2 b3 b4 ho' (by omega) hp')
theorem rp5 {ρ A1 A2 A3 A4 A5 : Type} (W : Nat → (ρ → Prop) → A1 → A2 → A3 → A4 → A5 → Prop) (ok : A1 → A2 → A3 → A4 → A5 → Prop) (μ : A1 → A2 → A3 → A4 → A5 → Nat) (val : A1 → A2 → A3 → A4 → A5 → ρ)
    (hs : ∀ (d : Nat) (post : ρ → Prop) (a1 : A1) (a2 : A2) (a3 : A3) (a4 : A4) (a5 : A5), ok a1 a2 a3 a4 a5 → post (val a1 a2 a3 a4 a5) → (∀ (post' : ρ → Prop) (b1 : A1) (b2 : A2) (b3 : A3) (b4 : A4) (b5 : A5), ok b1 b2 b3 b4 b5 → μ b1 b2 b3 b4 b5 < μ a1 a2 a3 a4 a5 → post' (val b1 b2 b3 b4 b5) → W d post' b1 b2 b3 b4 b5) → W (d + 1) post a1 a2 a3 a4 a5) :
    ∀ (d : Nat) (post : ρ → Prop) (a1 : A1) (a2 : A2) (a3 : A3) (a4 : A4) (a5 : A5), ok a1 a2 a3 a4 a5 → μ a1 a2 a3 a4 a5 < d → post (val a1 a2 a3 a4 a5) → W d post a1 a2 a3 a4 a5 := by
  intro d
  induction d with
  | zero => intro post a1 a2 a3 a4 a5 _ h; omega
  | succ d ih =>
    intro post a1 a2 a3 a4 a5 ho hm hp
    exact hs d post a1 a2 a3 a4 a5 ho hp (fun post' b1 b2 b3 b4 b5 ho' hm' hp' => ih post' b1 b2 b3 b4 b5 ho' (by omega) hp')
theorem rp6 {ρ A1 A2 A3 A4 A5 A6 : Type} (W : Nat → (ρ → Prop) → A1 → A2 → A3 → A4 → A5 → A6 → Prop) (ok : A1 → A2 → A3 → A4 → A5 → A6 → Prop) (μ : A1 → A2 → A3 → A4 → A5 → A6 → Nat) (val : A1 → A2 → A3 → A4 → A5 → A6 → ρ)
    (hs : ∀ (d : Nat) (post : ρ → Prop) (a1 : A1) (a2 : A2) (a3 : A3) (a4 : A4) (a5 : A5) (a6 : A6), ok a1 a2 a3 a4 a5 a6 → post (val a1 a2 a3 a4 a5 a6) → (∀ (post' : ρ → Prop) (b1 : A1) (b2 : A2) (b3 : A3) (b4 : A4) (b5 : A5) (b6 : A6), ok b1 b2 b3 b4 b5 b6 → μ b1 b2 b3 b4 b5 b6 < μ a1 a2 a3 a4 a5 a6 → post' (val b1 b2 b3 b4 b5 b6) → W d post' b1 b2 b3 b4 b5 b6) → W (d + 1) post a1 a2 a3 a4 a5 a6) :
    ∀ (d : Nat) (post : ρ → Prop) (a1 : A1) (a2 : A2) (a3 : A3) (a4 : A4) (a5 : A5) (a6 : A6), ok a1 a2 a3 a4 a5 a6 → μ a1 a2 a3 a4 a5 a6 < d → post (val a1 a2 a3 a4 a5 a6) → W d post a1 a2 a3 a4 a5 a6 := by
  intro d
  induction d with
  | zero => intro post a1 a2 a3 a4 a5 a6 _ h; omega
  | succ d ih =>
    intro post a1 a2 a3 a4 a5 a6 ho hm hp
    exact hs d post a1 a2 a3 a4 a5 a6 ho hp (fun post' b1 b2 b3 b4 b5 b6 ho' hm' hp' => ih post' b1 b2 b3 b4 b5 b6 ho' (by omega) hp')
theorem rec_p {σ ρ : Type} (W : Nat → (ρ → Prop) → σ → Prop) (ok : σ → Prop) (μ : σ → Nat) (val : σ → ρ)
    (hs : ∀ d s post, ok s → post (val s) → (∀ s' post', ok s' → μ s' < μ s → post' (val s') → W d post' s') → W (d + 1) post s) :
    ∀ d s post, ok s → μ s < d → post (val s) → W d post s := by
  intro d
  induction d with
  | zero => intro s post _ h; omega
  | succ d ih =>
    intro s post ho hm hp
    exact hs d s post ho hp (fun s' post' ho' hm' hp' => ih s' post' ho' (by omega) hp')
theorem rec_q {σ ρ : Type} (W : Nat → (ρ → Prop) → σ → Prop) (ok : σ → Prop) (μ : σ → Nat) (Q : σ → ρ → Prop)
    (hs : ∀ d s post, ok s → (∀ r, Q s r → post r) → (∀ s' post', ok s' → μ s' < μ s → (∀ r, Q s' r → post' r) → W d post' s') → W (d + 1) post s) :
    ∀ d s post, ok s → μ s < d → (∀ r, Q s r → post r) → W d post s := by
  intro d
  induction d with
  | zero => intro s post _ h; omega
  | succ d ih =>
    intro s post ho hm hp
    exact hs d s post ho hp (fun s' post' ho' hm' hp' => ih s' post' ho' (by omega) hp')
def bx_sum (f : Nat → Int32) : Nat → Int32
  | 0 => 0
  | n + 1 => bx_sum f n + f n
theorem ek_u {A : Prop} {B : Nat → Prop} {k N : Nat} (hk : k < N) (h : B k) : (some k = none → A) ∧ (∀ y : Nat, some k = some y → (y < N ∧ B y)) :=
  ⟨fun z => absurd z (Option.some_ne_none k), fun _ e => (by cases e; exact ⟨hk, h⟩)⟩
theorem ek_nu {A : Prop} {B : Nat → Prop} (h : A) : ((none : Option Nat) = none → A) ∧ (∀ y : Nat, (none : Option Nat) = some y → B y) :=
  ⟨fun _ => h, fun _ e => (by cases e)⟩
theorem ek_if {c d A B : Prop} (e : c ↔ d) (f : d → A) (g : ¬ d → B) : (c → A) ∧ (¬ c → B) :=
  ⟨fun z => f (e.mp z), fun z => g (fun y => z (e.mpr y))⟩
theorem ek_v {α : Sort _} {P : α → Prop} {a b : α} (e : a = b) (h : P b) : P a := e ▸ h
theorem co_some {x : Option Nat} {A : Prop} {B : Nat → Prop} (i : Nat) (h : B i) (hx : x = some i := by rfl) : (x = none → A) ∧ (∀ y : Nat, x = some y → B y) := by
  subst hx
  exact ⟨fun e => (nomatch e), fun y e => Option.some.inj e ▸ h⟩
theorem co_none {x : Option Nat} {A : Prop} {B : Nat → Prop} (h : A) (hx : x = none := by rfl) : (x = none → A) ∧ (∀ y : Nat, x = some y → B y) := by
  subst hx
  exact ⟨fun _ => h, fun y e => (nomatch e)⟩
theorem co_any {x : Option Nat} {A : Prop} {B : Nat → Prop} (hn : x = none → A) (hs : ∀ i : Nat, x = some i → B i) : (x = none → A) ∧ (∀ y : Nat, x = some y → B y) := ⟨hn, hs⟩
theorem co_2 {P : Nat → Prop} (h0 : P 0) (h1 : P 1) {i : Nat} (hi : i < 2) : P i :=
  match i, hi with
  | 0, _ => h0
  | 1, _ => h1
theorem co_3 {P : Nat → Prop} (h0 : P 0) (h1 : P 1) (h2 : P 2) {i : Nat} (hi : i < 3) : P i :=
  match i, hi with
  | 0, _ => h0
  | 1, _ => h1
  | 2, _ => h2
theorem co_4 {P : Nat → Prop} (h0 : P 0) (h1 : P 1) (h2 : P 2) (h3 : P 3) {i : Nat} (hi : i < 4) : P i :=
  match i, hi with
  | 0, _ => h0
  | 1, _ => h1
  | 2, _ => h2
  | 3, _ => h3
theorem co_dec {N : Nat} {P : Nat → Prop} [DecidablePred P] (h : (List.range N).all (fun i => decide (P i)) = true) {i : Nat} (hi : i < N) : P i := by
  have := List.all_eq_true.mp h i (List.mem_range.mpr hi)
  exact of_decide_eq_true this
theorem co_tab {α : Type} {l : List α} {d : α} {P : α → Prop} (h : ∀ a, a ∈ l → P a) {i : Nat} (hi : i < l.length) : P (l.getD i d) := by
  rw [List.getD_eq_getElem?_getD, List.getElem?_eq_getElem hi]
  exact h _ (List.getElem_mem hi)
theorem pk_mu {x : Int32} {L : Nat} (h0 : ¬ x < 0) (h : ¬ nI L ≤ x) (hL : L < 2 ^ 31) : ∃ j : Nat, j < L ∧ x = nI j ∧ x + 1 = nI (j + 1) ∧ x.toNatClampNeg = j ∧ L - (x + 1).toNatClampNeg < L - x.toNatClampNeg := by
  obtain ⟨j, hj, rfl⟩ := nI_of h0
  have hl : j < L := Nat.not_le.mp fun q => h (nI_le q hj)
  refine ⟨j, hl, rfl, nI_1 j, nI_clamp hj, ?_⟩
  rw [nI_1, nI_clamp (by omega), nI_clamp hj]
  omega
theorem op_s {α : Type} {r : Option α} {A : Prop} {B : α → Prop} {y : α} (h : r = some y) (b : B y) : (r = none → A) ∧ ∀ z, r = some z → B z :=
  ⟨fun e => (by rw [h] at e; cases e), fun z e => (by rw [h] at e; cases e; exact b)⟩
def l_holds {α : Type} (a : Nat → Option Nat) (LP : List Nat) (p : Nat → α) (c : Nat) (b : Nat → α) : Prop :=
  ∀ j, j < c → ∃ y, a j = some y ∧ y ∈ LP ∧ p y = b j
theorem l_holds_0 {α : Type} {a : Nat → Option Nat} {LP : List Nat} {p b : Nat → α} : l_holds a LP p 0 b := fun j h => absurd h (Nat.not_lt_zero j)
theorem l_in_new (LP : List Nat) (q : Nat) : q ∈ LP ++ [q] := List.mem_append.mpr (Or.inr (List.mem_singleton.mpr rfl))
def l_sum (b : Nat → Int32) : Nat → Int32
  | 0 => 0
  | k + 1 => l_sum b k + b k
theorem sb_shr0 (x : Int32) : x >>> ((0 : Int32) &&& 31) = x := by
  rw [show ((0 : Int32) &&& 31) = 0 by decide]
  simp
theorem sb_shl0 (x : Int32) : x <<< ((0 : Int32) &&& 31) = x := by
  rw [show ((0 : Int32) &&& 31) = 0 by decide]
  simp
theorem sb_cl0 : (0 : Int32).toNatClampNeg = 0 := by decide
theorem sb_m1 {p : Nat} (h : 0 < p) : nI p + (-1) = nI (p - 1) := by
  obtain ⟨q, rfl⟩ : ∃ q, p = q + 1 := ⟨p - 1, by omega⟩
  exact pk_m1 q
def sb_b (c : Nat) : Int32 := (nI c).toInt8.toInt32
theorem sb_byte : ∀ c, c < 256 → sb_b c &&& 255 = nI c ∧ ((nI c).toUInt32 % 65536).toInt32 = nI c ∧ nI c ≤ 255 := by decide +kernel
def sb_Fit (a : Nat → Int32) : Prop := ∀ j, fits .byte (.int (a j)) = true
def sb_Lat (t : Nat → Nat) (n : Nat) (a : Nat → Int32) : Prop := ∀ j, j < n → t j < 256 ∧ a j = sb_b (t j)
theorem sb_fitB (c : Nat) : fits .byte (.int (sb_b c)) = true := pk_fb _
theorem sb_fit0 : sb_Fit (fun _ => 0) := fun _ => by
  show fits .byte (.int 0) = true
  decide
theorem sb_fitU {a : Nat → Int32} {k : Nat} {x : Int32} (h : sb_Fit a) (hx : fits .byte (.int x) = true) : sb_Fit (upd a k x) := by
  intro j
  by_cases e : j = k
  · subst e
    rw [pk_us]
    exact hx
  · rw [pk_un e]
    exact h j
def sb_cat (t : Nat → Nat) (n : Nat) (s : Nat → Nat) : Nat → Nat := fun j => if j < n then t j else s (j - n)
theorem sb_cat_lo {t s : Nat → Nat} {n j : Nat} (h : j < n) : sb_cat t n s j = t j := if_pos h
theorem sb_cat_hi {t s : Nat → Nat} {n j : Nat} : sb_cat t n s (n + j) = s j := by
  show (if n + j < n then t (n + j) else s (n + j - n)) = s j
  rw [if_neg (by omega), Nat.add_sub_cancel_left]
theorem sb_latPut {t s : Nat → Nat} {n w : Nat} {a a' : Nat → Int32} (h : sb_Lat t n a) (hk : ∀ j, j < n → a' j = a j) (hs : ∀ i, i < w → s i < 256 ∧ a' (n + i) = sb_b (s i)) : sb_Lat (sb_cat t n s) (n + w) a' := by
  intro j hj
  by_cases e : j < n
  · rw [sb_cat_lo e, hk j e]
    exact h j e
  · obtain ⟨i, rfl⟩ : ∃ i, j = n + i := ⟨j - n, by omega⟩
    rw [sb_cat_hi]
    exact hs i (by omega)
theorem sb_latKeep {t : Nat → Nat} {n : Nat} {a a' : Nat → Int32} (h : sb_Lat t n a) (hk : ∀ j, j < n → a' j = a j) : sb_Lat t n a' := fun j hj => by
  rw [hk j hj]
  exact h j hj
def sb_cap (q m : Nat) : Nat := if q ≤ m then m else if 2 * m + 2 < q then q else 2 * m + 2
def sb_Room (q m mc ms : Nat) : Prop := q ≤ m ∨ (1 ≤ mc ∧ sb_cap q m ≤ ms ∧ sb_cap q m ≤ 65536)
theorem sb_cap_ge (q m : Nat) : q ≤ sb_cap q m := by
  unfold sb_cap
  split
  · omega
  · split <;> omega
theorem sb_cap_gem (q m : Nat) : m ≤ sb_cap q m := by
  unfold sb_cap
  split
  · omega
  · split <;> omega
theorem sb_cap_le {q m mc ms : Nat} (hm : m ≤ 65536) (hr : sb_Room q m mc ms) : sb_cap q m ≤ 65536 := by
  rcases hr with h | h
  · rw [sb_cap, if_pos h]
    exact hm
  · exact h.2.2
theorem sb_at {P : Int32 → Prop} {x y : Int32} (e : x = y) (h : P y) : P x := e ▸ h
def sb_dg (w : Nat) : Nat := if w < 10 then 1 else if w < 100 then 2 else if w < 1000 then 3 else if w < 10000 then 4 else if w < 100000 then 5 else if w < 1000000 then 6 else if w < 10000000 then 7 else if w < 100000000 then 8 else if w < 1000000000 then 9 else 10
def sb_dec (v : Nat) : Nat → Nat := fun i => 48 + v / 10 ^ (sb_dg v - 1 - i) % 10
theorem sb_dg_in (w : Nat) : 1 ≤ sb_dg w ∧ sb_dg w ≤ 10 := by
  unfold sb_dg
  constructor <;> (repeat' split) <;> omega
theorem sb_dg100 {w : Nat} (h : 100 ≤ w) (hw : w < 2 ^ 31) : sb_dg w = sb_dg (w / 100) + 2 := by
  rw [sb_dg, sb_dg, if_neg (show ¬ w < 10 by omega), if_neg (show ¬ w < 100 by omega)]
  by_cases h3 : w < 1000
  · rw [if_pos h3, if_pos (show w / 100 < 10 by omega)]
  rw [if_neg h3, if_neg (show ¬ w / 100 < 10 by omega)]
  by_cases h4 : w < 10000
  · rw [if_pos h4, if_pos (show w / 100 < 100 by omega)]
  rw [if_neg h4, if_neg (show ¬ w / 100 < 100 by omega)]
  by_cases h5 : w < 100000
  · rw [if_pos h5, if_pos (show w / 100 < 1000 by omega)]
  rw [if_neg h5, if_neg (show ¬ w / 100 < 1000 by omega)]
  by_cases h6 : w < 1000000
  · rw [if_pos h6, if_pos (show w / 100 < 10000 by omega)]
  rw [if_neg h6, if_neg (show ¬ w / 100 < 10000 by omega)]
  by_cases h7 : w < 10000000
  · rw [if_pos h7, if_pos (show w / 100 < 100000 by omega)]
  rw [if_neg h7, if_neg (show ¬ w / 100 < 100000 by omega)]
  by_cases h8 : w < 100000000
  · rw [if_pos h8, if_pos (show w / 100 < 1000000 by omega)]
  rw [if_neg h8, if_neg (show ¬ w / 100 < 1000000 by omega)]
  by_cases h9 : w < 1000000000
  · rw [if_pos h9, if_pos (show w / 100 < 10000000 by omega)]
  rw [if_neg h9, if_neg (show ¬ w / 100 < 10000000 by omega)]
  rw [if_pos (show w / 100 < 100000000 by omega)]
theorem sb_negT {w : Nat} (h : w < 2 ^ 31) : (-nI w).toInt = -(w : Int) := by
  rw [Int32.toInt_neg, nI_toInt h]
  exact Int.bmod_eq_of_le (by omega) (by omega)
theorem sb_nle {a b : Nat} (ha : a < 2 ^ 31) (hb : b < 2 ^ 31) : -nI a ≤ -nI b ↔ b ≤ a := by
  rw [Int32.le_iff_toInt_le, sb_negT ha, sb_negT hb]
  omega
theorem sb_nlt {a b : Nat} (ha : a < 2 ^ 31) (hb : b < 2 ^ 31) : -nI a < -nI b ↔ b < a := by
  rw [Int32.lt_iff_toInt_lt, sb_negT ha, sb_negT hb]
  omega
theorem sb_cmp {A B : Prop} {x : Int32} (v c : Nat) (f : c ≤ v → A) (g : v < c → B) (hv : v < 2 ^ 31) (hx : x = -nI c := by rfl) (hc : c < 2 ^ 31 := by omega) : (-nI v ≤ x → A) ∧ (¬ -nI v ≤ x → B) := by
  subst hx
  rw [sb_nle hv hc]
  exact ⟨f, fun z => g (by omega)⟩
theorem sb_ndiv {w : Nat} (hw : w < 2 ^ 31) : (-nI w) / 100 = -nI (w / 100) := by
  apply Int32.toInt_inj.mp
  have h100 : (100 : Int32).toInt = 100 := by decide
  rw [Int32.toInt_div, sb_negT hw, h100, sb_negT (by omega), Int.neg_tdiv, Int.tdiv_eq_ediv_of_nonneg (by omega), Int.bmod_eq_of_le (by omega) (by omega)]
  omega
theorem sb_nrem {w : Nat} (hw : w < 2 ^ 31) : (-nI (w / 100)) * 100 - (-nI w) = nI (w % 100) := by
  have h := pk_rem (a := w) (d := 100) hw (by decide) (by decide)
  rw [pk_div hw (by decide) (by decide)] at h
  rw [← h]
  show (-nI (w / 100)) * nI 100 - (-nI w) = nI w - nI (w / 100) * nI 100
  rw [Int32.neg_mul, Int32.sub_neg, Int32.add_comm, ← Int32.sub_eq_add_neg]
/-! rows on bits, shifts and unsigned numbers, to paste: each family out of a closed proof of our own, whole with what it rests on; each by itself clean at Lean in its own claim (generation 39, form 5). Take a family whole -/
/-! ===== Int32 by its bits: bt x i ===== -/
def bt (x : Int32) (i : Nat) : Bool := x.toBitVec.getLsbD i
theorem b_ext {x y : Int32} (h : ∀ i, i < 32 → bt x i = bt y i) : x = y := Int32.toBitVec_inj.mp (BitVec.eq_of_getLsbD_eq (fun i hi => h i hi))
theorem b_or (x y : Int32) (i : Nat) : bt (x ||| y) i = (bt x i || bt y i) := by unfold bt; rw [Int32.toBitVec_or, BitVec.getLsbD_or]
theorem b_and (x y : Int32) (i : Nat) : bt (x &&& y) i = (bt x i && bt y i) := by unfold bt; rw [Int32.toBitVec_and, BitVec.getLsbD_and]
theorem b_xor (x y : Int32) (i : Nat) : bt (x ^^^ y) i = (bt x i ^^ bt y i) := by unfold bt; rw [Int32.toBitVec_xor, BitVec.getLsbD_xor]
theorem b_big {x : Int32} {i : Nat} (h : 32 ≤ i) : bt x i = false := BitVec.getLsbD_of_ge _ _ h
theorem b_255 (i : Nat) : bt 255 i = decide (i < 8) := by
  rcases Nat.lt_or_ge i 32 with h | h
  · exact (by decide +kernel : ∀ i, i < 32 → bt 255 i = decide (i < 8)) i h
  · rw [b_big h, decide_eq_false (by omega)]
theorem b_65535 (i : Nat) : bt 65535 i = decide (i < 16) := by
  rcases Nat.lt_or_ge i 32 with h | h
  · exact (by decide +kernel : ∀ i, i < 32 → bt 65535 i = decide (i < 16)) i h
  · rw [b_big h, decide_eq_false (by omega)]
theorem b_m1 : ∀ i, i < 32 → bt (-1) i = true := by decide +kernel
theorem b_0 (i : Nat) : bt 0 i = false := BitVec.getLsbD_zero
theorem s_l : ∀ n, n < 32 → ((nI n &&& 31).toBitVec.smod 32).toNat = n := by decide +kernel
theorem s_u : ∀ n, n < 32 → (((nI n).toUInt32 &&& Int32.toUInt32 31).toBitVec % 32).toNat = n := by decide +kernel
theorem b_shl (n : Nat) (hn : n < 32) (x : Int32) {i : Nat} (hi : i < 32) : bt (x <<< (nI n &&& 31)) i = (decide (n ≤ i) && bt x (i - n)) := by
  unfold bt
  rw [Int32.toBitVec_shiftLeft]
  show (x.toBitVec <<< ((nI n &&& 31).toBitVec.smod 32).toNat).getLsbD i = _
  rw [s_l n hn, BitVec.getLsbD_shiftLeft]
  rcases Nat.lt_or_ge i n with h | h
  · simp [h, Nat.not_le.mpr h]
  · simp [hi, h, Nat.not_lt.mpr h]
theorem b_ushr (n : Nat) (hn : n < 32) (x : Int32) (i : Nat) : bt ((x.toUInt32 >>> ((nI n).toUInt32 &&& Int32.toUInt32 31)).toInt32) i = bt x (n + i) := by
  show (x.toUInt32 >>> ((nI n).toUInt32 &&& Int32.toUInt32 31)).toBitVec.getLsbD i = x.toUInt32.toBitVec.getLsbD (n + i)
  rw [UInt32.toBitVec_shiftRight]
  show (x.toUInt32.toBitVec >>> (((nI n).toUInt32 &&& Int32.toUInt32 31).toBitVec % 32).toNat).getLsbD i = _
  rw [s_u n hn, BitVec.getLsbD_ushiftRight]
theorem b_sshr (n : Nat) (hn : n < 32) (x : Int32) {i : Nat} (hi : i < 32) : bt (x >>> (nI n &&& 31)) i = if n + i < 32 then bt x (n + i) else bt x 31 := by
  unfold bt
  rw [Int32.toBitVec_shiftRight]
  show (x.toBitVec.sshiftRight ((nI n &&& 31).toBitVec.smod 32).toNat).getLsbD i = _
  rw [s_l n hn, BitVec.getLsbD_sshiftRight, BitVec.msb_eq_getLsbD_last]
  simp [hi]
theorem b_shl8 (x : Int32) {i : Nat} (hi : i < 32) : bt (x <<< ((8 : Int32) &&& 31)) i = (decide (8 ≤ i) && bt x (i - 8)) := b_shl 8 (by omega) x hi
theorem b_shl16 (x : Int32) {i : Nat} (hi : i < 32) : bt (x <<< ((16 : Int32) &&& 31)) i = (decide (16 ≤ i) && bt x (i - 16)) := b_shl 16 (by omega) x hi
theorem b_shl24 (x : Int32) {i : Nat} (hi : i < 32) : bt (x <<< ((24 : Int32) &&& 31)) i = (decide (24 ≤ i) && bt x (i - 24)) := b_shl 24 (by omega) x hi
theorem b_sshr8 (x : Int32) {i : Nat} (hi : i < 32) : bt (x >>> ((8 : Int32) &&& 31)) i = if 8 + i < 32 then bt x (8 + i) else bt x 31 := b_sshr 8 (by omega) x hi
/-! ===== nI under and, xor, >>>, one bit, 65535 ===== -/
theorem nx_and (a b : Nat) : nI a &&& nI b = nI (a &&& b) := by
  apply Int32.toBitVec_inj.1
  show BitVec.ofNat 32 a &&& BitVec.ofNat 32 b = BitVec.ofNat 32 (a &&& b)
  apply BitVec.eq_of_getLsbD_eq
  intro i hi
  simp [hi]
theorem nx_xor (a b : Nat) : nI a ^^^ nI b = nI (a ^^^ b) := by
  apply Int32.toBitVec_inj.1
  show BitVec.ofNat 32 a ^^^ BitVec.ofNat 32 b = BitVec.ofNat 32 (a ^^^ b)
  apply BitVec.eq_of_getLsbD_eq
  intro i hi
  simp [hi]
theorem nx_cnt : ∀ j : Fin 32, (UInt32.ofNat j.val &&& Int32.toUInt32 31).toNat % 32 = j.val := by decide +kernel
theorem nx_ush {k j : Nat} (hk : k < 65536) (hj : j < 32) : ((nI k).toUInt32 >>> ((nI j).toUInt32 &&& Int32.toUInt32 31)).toInt32 = nI (k >>> j) := by
  have hs : k >>> j ≤ k := by
    rw [Nat.shiftRight_eq_div_pow]
    exact Nat.div_le_self _ _
  have e2 : UInt32.ofNat k >>> (UInt32.ofNat j &&& Int32.toUInt32 31) = UInt32.ofNat (k >>> j) := by
    apply UInt32.toNat_inj.1
    have h1 : (UInt32.ofNat k).toNat = k := Nat.mod_eq_of_lt (by omega)
    have h2 : (UInt32.ofNat (k >>> j)).toNat = k >>> j := Nat.mod_eq_of_lt (by omega)
    rw [UInt32.toNat_shiftRight, nx_cnt ⟨j, hj⟩, h1, h2]
  show (UInt32.ofNat k >>> (UInt32.ofNat j &&& Int32.toUInt32 31)).toInt32 = _
  rw [e2]
  rfl
theorem nx_bit {k j : Nat} (hk : k < 65536) (hj : j < 16) : (((nI k).toUInt32 >>> ((nI j).toUInt32 &&& Int32.toUInt32 31)).toInt32 &&& 1) = 0 ↔ k.testBit j = false := by
  rw [nx_ush hk (by omega)]
  show nI (k >>> j) &&& nI 1 = 0 ↔ _
  rw [nx_and, Nat.and_one_is_mod, ← nI_0, nI_eq (by omega) (by omega), Nat.testBit_eq_decide_div_mod_eq, Nat.shiftRight_eq_div_pow, decide_eq_false_iff_not]
  generalize k / 2 ^ j = z
  omega
theorem nx_mod (k : Nat) : nI k &&& 65535 = nI (k % 65536) := by
  show nI k &&& nI 65535 = _
  rw [nx_and, show (65535 : Nat) = 2 ^ 16 - 1 from rfl, Nat.and_two_pow_sub_one_eq_mod]
theorem nx_m16 {k : Nat} (h : k < 65536) : nI k &&& 65535 = nI k := by rw [nx_mod, Nat.mod_eq_of_lt h]
theorem nx_mask (x : Int32) : ∃ k, k < 65536 ∧ x &&& 65535 = nI k := by
  have e : x = nI x.toBitVec.toNat := by
    apply Int32.toBitVec_inj.1
    show x.toBitVec = BitVec.ofNat 32 x.toBitVec.toNat
    simp
  refine ⟨x.toBitVec.toNat % 65536, Nat.mod_lt _ (by omega), ?_⟩
  rw [← nx_mod, ← e]
/-! ===== Int32 as a set of bits: test, set ===== -/
def nf_M (m : Int32) : Nat := 4294967296 - m.toBitVec.toNat
theorem nf_sh : ∀ l, l < 32 → ((1 : Int32) <<< (nI l &&& 31)).toBitVec = BitVec.twoPow 32 l := by decide +kernel
theorem nf_sl : ∀ l, l < 32 → (((nI l).toUInt32 &&& Int32.toUInt32 31).toBitVec % 32).toNat = l := by decide +kernel
theorem nf_tp : ∀ l, l < 32 → BitVec.twoPow 32 l ≠ 0#32 := by decide +kernel
theorem nf_bit (m : Int32) (l : Nat) (hl : l < 32) : ((m.toUInt32 >>> ((nI l).toUInt32 &&& Int32.toUInt32 31)).toInt32 &&& 1) = 0 ↔ (m &&& ((1 : Int32) <<< (nI l &&& 31))) = 0 := by
  have e : ((m.toUInt32 >>> ((nI l).toUInt32 &&& Int32.toUInt32 31)).toInt32).toBitVec = m.toBitVec >>> l := by
    show m.toBitVec >>> (((nI l).toUInt32 &&& Int32.toUInt32 31).toBitVec % 32) = m.toBitVec >>> l
    rw [BitVec.ushiftRight_eq', nf_sl l hl]
  rw [← Int32.toBitVec_inj, ← Int32.toBitVec_inj, Int32.toBitVec_and, Int32.toBitVec_and, nf_sh l hl, e, BitVec.and_twoPow]
  show (m.toBitVec >>> l &&& 1#32) = 0#32 ↔ _ = 0#32
  rw [BitVec.and_one_eq_setWidth_ofBool_getLsbD, BitVec.getLsbD_ushiftRight, Nat.add_zero]
  cases hb : m.toBitVec.getLsbD l
  · exact ⟨fun _ => by simp, fun _ => by decide⟩
  · exact ⟨fun z => absurd z (by decide), fun z => absurd ((if_pos rfl).symm.trans z) (nf_tp l hl)⟩
theorem nf_gr (m k : Int32) (h : m &&& k = 0) (hk : k ≠ 0) : nf_M (m ||| k) < nf_M m := by
  have hm := m.toBitVec.isLt
  have hm' := (m ||| k).toBitVec.isLt
  have h1 : m.toBitVec.toNat ≤ (m ||| k).toBitVec.toNat := by
    rw [Int32.toBitVec_or, BitVec.toNat_or]
    exact Nat.left_le_or
  have h2 : m.toBitVec.toNat ≠ (m ||| k).toBitVec.toNat := by
    intro e
    have e2 : m = m ||| k := Int32.toBitVec_inj.mp (BitVec.eq_of_toNat_eq e)
    apply hk
    apply Int32.toBitVec_inj.mp
    show k.toBitVec = 0#32
    apply BitVec.eq_of_getLsbD_eq
    intro i hi
    have a : m.toBitVec.getLsbD i = (m.toBitVec.getLsbD i || k.toBitVec.getLsbD i) := by rw [← BitVec.getLsbD_or, ← Int32.toBitVec_or, ← e2]
    have b : (m.toBitVec.getLsbD i && k.toBitVec.getLsbD i) = false := by
      rw [← BitVec.getLsbD_and, ← Int32.toBitVec_and, h]
      exact BitVec.getLsbD_zero
    rw [BitVec.getLsbD_zero]
    revert a b
    cases m.toBitVec.getLsbD i <;> cases k.toBitVec.getLsbD i <;> simp
  unfold nf_M
  omega
/-! ===== a byte read unsigned ===== -/
theorem bp_b (x : Int32) : x.toInt8.toInt32 &&& 255 = x &&& 255 := by
  apply Int32.toBitVec_inj.mp
  rw [Int32.toBitVec_and, Int32.toBitVec_and, Int8.toBitVec_toInt32, Int32.toBitVec_toInt8]
  apply BitVec.eq_of_getLsbD_eq
  intro i hi
  rw [BitVec.getLsbD_and, BitVec.getLsbD_and]
  have hm : ∀ i < 32, 8 ≤ i → (255 : Int32).toBitVec.getLsbD i = false := by decide
  rcases Nat.lt_or_ge i 8 with z | z
  · rw [BitVec.getLsbD_signExtend, BitVec.getLsbD_signExtend, if_pos z, if_pos hi]
    simp only [z, hi, decide_true, Bool.true_and]
  · rw [hm i hi z]; simp
/-! ===== the char cast and 65535 ===== -/
theorem em_w (v : Int32) : ∃ w : Nat, w < 65536 ∧ (v.toUInt32 % 65536).toInt32 = nI w ∧ v &&& 65535 = nI w := by
  have hr := lw_u16_r v
  have h0 : (0 : Int32).toInt = 0 := by decide
  obtain ⟨w, h1, h2⟩ := nI_of (x := lw_u16 v) (by rw [Int32.lt_iff_toInt_lt]; omega)
  have h3 : (v.toUInt32 % 65536).toInt32 = nI w := h2
  rw [h2, nI_toInt h1] at hr
  exact ⟨w, by omega, h3, by rw [← lg_i2c_mask, ← lg_i2c_nf, h3]⟩
/-! ===== Int64 as a set of bits: test, set, clear ===== -/
theorem ts_nf {x : Bool} (h : ¬ x = false) : x = true := by cases x <;> first | rfl | exact absurd rfl h
theorem ts_nt {x : Bool} (h : ¬ x = true) : x = false := by cases x <;> first | rfl | exact absurd rfl h
theorem ts_bit {w : Int64} {s : UInt64} {j : Nat} (hj : j < 64) (hs : s.toNat = j) : ((w.toUInt64 >>> s).toInt64 &&& 1) = 0 ↔ w.toBitVec.getLsbD j = false := by
  have e : (w.toUInt64 >>> s).toInt64.toBitVec = w.toBitVec >>> j := by
    apply BitVec.eq_of_toNat_eq
    show (w.toUInt64 >>> s).toNat = _
    rw [UInt64.toNat_shiftRight, hs, Nat.mod_eq_of_lt hj, BitVec.toNat_ushiftRight]
    rfl
  rw [← Int64.toBitVec_inj, Int64.toBitVec_and, e]
  show w.toBitVec >>> j &&& 1#64 = 0#64 ↔ _
  constructor
  · intro h
    have t := congrArg (fun x => x.getLsbD 0) h
    simpa using t
  · intro h
    apply BitVec.eq_of_getLsbD_eq
    intro i hi
    cases i with
    | zero => simp [h]
    | succ i => simp
theorem ts_or {w m : Int64} {j : Nat} (hj : j < 64) (hm : m.toBitVec = BitVec.twoPow 64 j) : (w ||| m) = w ↔ w.toBitVec.getLsbD j = true := by
  rw [← Int64.toBitVec_inj, Int64.toBitVec_or, hm]
  constructor
  · intro h
    have t := congrArg (fun x => x.getLsbD j) h
    simp only [BitVec.getLsbD_or, BitVec.getLsbD_twoPow] at t
    simpa [hj] using t.symm
  · intro h
    apply BitVec.eq_of_getLsbD_eq
    intro i hi
    rw [BitVec.getLsbD_or, BitVec.getLsbD_twoPow]
    by_cases e : j = i
    · subst e; rw [h, Bool.true_or]
    · simp [e]
theorem ts_and {w m : Int64} {j : Nat} (hj : j < 64) (hm : m.toBitVec = BitVec.twoPow 64 j) : (w &&& (m ^^^ (-1))) = w ↔ w.toBitVec.getLsbD j = false := by
  have ha : (-1 : Int64).toBitVec = BitVec.allOnes 64 := by decide
  rw [← Int64.toBitVec_inj, Int64.toBitVec_and, Int64.toBitVec_xor, hm, ha]
  constructor
  · intro h
    have t := congrArg (fun x => x.getLsbD j) h
    simp only [BitVec.getLsbD_and, BitVec.getLsbD_xor, BitVec.getLsbD_twoPow, BitVec.getLsbD_allOnes] at t
    simpa [hj] using t.symm
  · intro h
    apply BitVec.eq_of_getLsbD_eq
    intro i hi
    rw [BitVec.getLsbD_and, BitVec.getLsbD_xor, BitVec.getLsbD_twoPow, BitVec.getLsbD_allOnes]
    by_cases e : j = i
    · subst e; rw [h, Bool.false_and]
    · simp [e, hi]
/-! ===== lN n to 2^64: shifts, and, or, masks, one bit ===== -/
theorem wb_tb (n : Nat) : (lN n).toBitVec = BitVec.ofNat 64 n := rfl
theorem wb_inj {a b : Int64} (h : a.toBitVec = b.toBitVec) : a = b := Int64.toBitVec_inj.mp h
theorem wb_tn {n : Nat} (h : n < 2 ^ 64) : (lN n).toBitVec.toNat = n := by rw [wb_tb, BitVec.toNat_ofNat, Nat.mod_eq_of_lt h]
theorem wb_of (x : Int64) : ∃ n, n < 2 ^ 64 ∧ x = lN n := ⟨x.toBitVec.toNat, x.toBitVec.isLt, wb_inj (by rw [wb_tb]; simp)⟩
theorem wb_of32 (x : Int32) : ∃ n, n < 2 ^ 32 ∧ x = nI n := ⟨x.toBitVec.toNat, x.toBitVec.isLt, Int32.toBitVec_inj.mp (by show _ = BitVec.ofNat 32 _; simp)⟩
theorem wb_c : ∀ k, k < 64 → ((nI k).toInt64 &&& 63) = lN k := by decide +kernel
theorem wb_cu : ∀ k, k < 64 → ((nI k).toInt64.toUInt64 &&& Int64.toUInt64 63) = UInt64.ofNat k := by decide +kernel
theorem wb_sm : ∀ k, k < 64 → (BitVec.ofNat 64 k).smod 64 = BitVec.ofNat 64 k := by decide +kernel
theorem wb_pw {a b : Nat} (h : a ≤ b) : 2 ^ b = 2 ^ a * 2 ^ (b - a) := by rw [← Nat.pow_add]; congr 1; omega
theorem wb_lt2 {a b : Nat} (h : a < b) : 2 ^ a < 2 ^ b := Nat.pow_lt_pow_right (by decide) h
theorem wb_mod (n : Nat) : lN n = lN (n % 2 ^ 64) := wb_inj (by rw [wb_tb, wb_tb]; apply BitVec.eq_of_toNat_eq; rw [BitVec.toNat_ofNat, BitVec.toNat_ofNat, Nat.mod_mod])
theorem wb_shr {n k : Nat} (hn : n < 2 ^ 64) (hk : k < 64) : ((lN n).toUInt64 >>> ((nI k).toInt64.toUInt64 &&& Int64.toUInt64 63)).toInt64 = lN (n / 2 ^ k) := by
  rw [wb_cu k hk]
  apply wb_inj
  apply BitVec.eq_of_toNat_eq
  show ((lN n).toUInt64 >>> UInt64.ofNat k).toNat = (BitVec.ofNat 64 _).toNat
  have h1 : (UInt64.ofNat k).toNat = k := by
    show (BitVec.ofNat 64 k).toNat = k
    rw [BitVec.toNat_ofNat, Nat.mod_eq_of_lt (by omega)]
  have h2 : (lN n).toUInt64.toNat = n := wb_tn hn
  rw [UInt64.toNat_shiftRight, h1, h2, Nat.mod_eq_of_lt hk, Nat.shiftRight_eq_div_pow, BitVec.toNat_ofNat, Nat.mod_eq_of_lt (Nat.lt_of_le_of_lt (Nat.div_le_self _ _) hn)]
theorem wb_shl (n : Nat) {k : Nat} (hk : k < 64) : lN n <<< ((nI k).toInt64 &&& 63) = lN (n * 2 ^ k) := by
  rw [wb_c k hk]
  apply wb_inj
  rw [Int64.toBitVec_shiftLeft, wb_tb, wb_tb, wb_tb, wb_sm k hk]
  apply BitVec.eq_of_toNat_eq
  rw [BitVec.shiftLeft_eq', BitVec.toNat_shiftLeft, BitVec.toNat_ofNat, BitVec.toNat_ofNat, BitVec.toNat_ofNat, Nat.mod_eq_of_lt (show k < 2 ^ 64 by omega), Nat.shiftLeft_eq, Nat.mul_mod, Nat.mod_mod, ← Nat.mul_mod]
theorem wb_and {a b : Nat} (ha : a < 2 ^ 64) (hb : b < 2 ^ 64) : lN a &&& lN b = lN (a &&& b) := by
  apply wb_inj
  rw [Int64.toBitVec_and, wb_tb, wb_tb, wb_tb]
  apply BitVec.eq_of_toNat_eq
  rw [BitVec.toNat_and, BitVec.toNat_ofNat, BitVec.toNat_ofNat, BitVec.toNat_ofNat, Nat.mod_eq_of_lt ha, Nat.mod_eq_of_lt hb, Nat.mod_eq_of_lt (Nat.and_lt_two_pow _ hb)]
theorem wb_or {a b : Nat} (ha : a < 2 ^ 64) (hb : b < 2 ^ 64) : lN a ||| lN b = lN (a ||| b) := by
  apply wb_inj
  rw [Int64.toBitVec_or, wb_tb, wb_tb, wb_tb]
  apply BitVec.eq_of_toNat_eq
  rw [BitVec.toNat_or, BitVec.toNat_ofNat, BitVec.toNat_ofNat, BitVec.toNat_ofNat, Nat.mod_eq_of_lt ha, Nat.mod_eq_of_lt hb, Nat.mod_eq_of_lt (Nat.or_lt_two_pow ha hb)]
theorem wb_mask {n k : Nat} (hn : n < 2 ^ 64) (hk : k < 64) : lN n &&& lN (2 ^ k - 1) = lN (n % 2 ^ k) := by
  rw [wb_and hn (by have := wb_lt2 hk; omega), Nat.and_two_pow_sub_one_eq_mod]
theorem wb_a1 {n : Nat} (hn : n < 2 ^ 64) : lN n &&& 1 = lN (n % 2) := wb_mask (k := 1) hn (by decide)
theorem wb_bit {n k : Nat} (hn : n < 2 ^ 64) (hk : k < 64) : ((lN n).toUInt64 >>> ((nI k).toInt64.toUInt64 &&& Int64.toUInt64 63)).toInt64 &&& 1 = lN (n / 2 ^ k % 2) := by
  rw [wb_shr hn hk, wb_a1 (Nat.lt_of_le_of_lt (Nat.div_le_self _ _) hn)]
theorem wb_xor {q k : Nat} (hk : k < 63) (h : 2 ^ k ≤ q) (h2 : q < 2 ^ (k + 1)) : lN q ^^^ lN (2 ^ k) = lN (q - 2 ^ k) := by
  obtain ⟨r, rfl⟩ : ∃ r, q = 2 ^ k + r := ⟨q - 2 ^ k, by omega⟩
  have hr : r < 2 ^ k := by rw [Nat.pow_succ] at h2; omega
  have hx : (2 ^ k + r) ^^^ 2 ^ k = r := by
    apply Nat.eq_of_testBit_eq
    intro i
    rw [Nat.testBit_xor, Nat.testBit_two_pow]
    rcases Nat.lt_trichotomy i k with h | h | h
    · rw [Nat.testBit_two_pow_add_gt h]
      simp [show ¬ k = i by omega]
    · subst h
      rw [Nat.testBit_two_pow_add_eq]
      simp
    · have a1 : 2 ^ (k + 1) ≤ 2 ^ i := Nat.pow_le_pow_right (by decide) h
      rw [Nat.testBit_lt_two_pow (show 2 ^ k + r < 2 ^ i by omega), Nat.testBit_lt_two_pow (show r < 2 ^ i by omega)]
      simp [show ¬ k = i by omega]
  have b1 := wb_lt2 (show k + 1 < 64 by omega)
  have b2 := wb_lt2 (show k < 64 by omega)
  apply wb_inj
  rw [Int64.toBitVec_xor, wb_tb, wb_tb, wb_tb]
  apply BitVec.eq_of_toNat_eq
  rw [BitVec.toNat_xor, BitVec.toNat_ofNat, BitVec.toNat_ofNat, BitVec.toNat_ofNat, Nat.mod_eq_of_lt (by omega : 2 ^ k + r < 2 ^ 64), Nat.mod_eq_of_lt b2, hx, Nat.add_sub_cancel_left, Nat.mod_eq_of_lt (by omega)]
/-! ===== lN: masks, 'or' of parts that don't overlap is a sum ===== -/
theorem u_tn {n : Nat} (h : n < 2 ^ 64) : (UInt64.ofNat n).toNat = n := Nat.mod_eq_of_lt h
theorem g_and {a b c : Nat} (ha : a < 2 ^ 64) (hb : b < 2 ^ 64) (hc : a &&& b = c) : lN a &&& lN b = lN c := by
  subst hc
  have h : UInt64.ofNat a &&& UInt64.ofNat b = UInt64.ofNat (a &&& b) := UInt64.toNat_inj.mp (by rw [UInt64.toNat_and, u_tn ha, u_tn hb, u_tn (Nat.and_lt_two_pow a hb)])
  have h2 := congrArg UInt64.toInt64 h
  exact h2
theorem g_and1 {a : Nat} (ha : a < 2 ^ 64) : lN a &&& 1 = lN (a % 2) := g_and (b := 1) ha (by decide) (Nat.and_two_pow_sub_one_eq_mod a 1)
theorem g_mask {a s p : Nat} (hp : 2 ^ s = p) (hs : s < 64) (ha : a < 2 ^ 64) : lN a &&& lN (p - 1) = lN (a % p) := by
  subst hp
  have := Nat.pow_lt_pow_right (show 1 < 2 by decide) hs
  exact g_and ha (by omega) (Nat.and_two_pow_sub_one_eq_mod a s)
theorem g_or {k p a b : Nat} (hp : 2 ^ k = p) (ha : a < p) (h : b * p + a < 2 ^ 64) : lN (b * p) ||| lN a = lN (b * p + a) := by
  subst hp
  have h1 : b * 2 ^ k ||| a = b * 2 ^ k + a := by rw [← Nat.shiftLeft_eq, Nat.shiftLeft_add_eq_or_of_lt ha]
  have h3 : UInt64.ofNat (b * 2 ^ k) ||| UInt64.ofNat a = UInt64.ofNat (b * 2 ^ k + a) := UInt64.toNat_inj.mp (by rw [UInt64.toNat_or, u_tn (by omega), u_tn (by omega), u_tn h, h1])
  have h2 := congrArg UInt64.toInt64 h3
  exact h2
theorem g_or' {k p a b : Nat} (hp : 2 ^ k = p) (ha : a < p) (h : a + b * p < 2 ^ 64) : lN a ||| lN (b * p) = lN (a + b * p) := by
  rw [Int64.or_comm, g_or hp ha (by omega), Nat.add_comm]
theorem g_ushr {a k p : Nat} {y : UInt64} (hy : y = UInt64.ofNat k) (hk : k < 64) (hp : 2 ^ k = p) (ha : a < 2 ^ 64) : ((lN a).toUInt64 >>> y).toInt64 = lN (a / p) := by
  subst hy hp
  have h : UInt64.ofNat a >>> UInt64.ofNat k = UInt64.ofNat (a / 2 ^ k) := UInt64.toNat_inj.mp (by rw [UInt64.toNat_shiftRight, u_tn ha, u_tn (by omega), u_tn (Nat.lt_of_le_of_lt (Nat.div_le_self _ _) ha), Nat.mod_eq_of_lt hk, Nat.shiftRight_eq_div_pow])
  have h2 := congrArg UInt64.toInt64 h
  exact h2
theorem g_shl {a k p : Nat} {y : Int64} (hy : y.toBitVec.smod 64 = BitVec.ofNat 64 k) (hk : k < 64) (hp : 2 ^ k = p) (ha : a < 2 ^ 64) : lN a <<< y = lN (a * p) := by
  subst hp
  apply Int64.toBitVec_inj.mp
  rw [Int64.toBitVec_shiftLeft, hy]
  apply BitVec.eq_of_toNat_eq
  have hb : (lN a).toBitVec.toNat = a := Nat.mod_eq_of_lt ha
  have hk' : (BitVec.ofNat 64 k).toNat = k := Nat.mod_eq_of_lt (by omega)
  have h : ((lN a).toBitVec <<< BitVec.ofNat 64 k).toNat = (a * 2 ^ k) % 2 ^ 64 := by simp only [BitVec.shiftLeft_eq', BitVec.toNat_shiftLeft, hb, hk', Nat.shiftLeft_eq]
  exact h
/-! ===== lN to 2^62 under >> and >>> ===== -/
theorem pf_lI {a : Nat} (h : a < 2 ^ 63) : (lN a).toInt = (a : Int) := lg_ofNat_toInt h
theorem pf_shr {a d : Nat} {D : Int64} (hD : (D.toBitVec.smod 64).toNat = d) (h : a < 2 ^ 62) : lN a >>> D = lN (a / 2 ^ d) := by
  have hd : a / 2 ^ d ≤ a := Nat.div_le_self _ _
  apply Int64.toInt_inj.mp
  have e : (lN a >>> D).toInt = (lN a).toInt >>> d := by
    rw [← hD]
    exact BitVec.toInt_sshiftRight ..
  rw [e, Int.shiftRight_eq_div_pow, pf_lI (by omega), pf_lI (by omega)]
  rfl
theorem pf_ushr {a d : Nat} {D : UInt64} (hD : D.toNat % 64 = d) (h : a < 2 ^ 62) : ((lN a).toUInt64 >>> D).toInt64 = lN (a / 2 ^ d) := by
  have hd : a / 2 ^ d ≤ a := Nat.div_le_self _ _
  have e : (lN a).toUInt64 >>> D = UInt64.ofNat (a / 2 ^ d) := UInt64.toNat_inj.mp (by
    rw [UInt64.toNat_shiftRight, hD, Nat.shiftRight_eq_div_pow, UInt64.toNat_ofNat']
    show (UInt64.ofNat a).toNat / 2 ^ d = _
    rw [UInt64.toNat_ofNat', Nat.mod_eq_of_lt (by omega), Nat.mod_eq_of_lt (by omega)])
  rw [e]
  rfl
theorem pf_andw (x : Int64) : ∃ m, m < 2 ^ 32 ∧ x &&& 4294967295 = lN m := ⟨x.toBitVec.toNat % 2 ^ 32, Nat.mod_lt _ (by decide), Int64.toBitVec_inj.mp (BitVec.eq_of_toNat_eq (by
  show (x.toBitVec &&& 4294967295#64).toNat = (BitVec.ofNat 64 (x.toBitVec.toNat % 2 ^ 32)).toNat
  rw [BitVec.toNat_and, show (4294967295#64).toNat = 2 ^ 32 - 1 from by decide, Nat.and_two_pow_sub_one_eq_mod, BitVec.toNat_ofNat]
  omega))⟩
/-! ===== Int64 as an unsigned number: uN x ===== -/
def uN (x : Int64) : Nat := x.toUInt64.toNat
theorem uN_lt (x : Int64) : uN x < 18446744073709551616 := x.toUInt64.toNat_lt
theorem uN_inj {x y : Int64} (h : uN x = uN y) : x = y := congrArg UInt64.toInt64 (UInt64.toNat_inj.mp h)
theorem uN_add (x y : Int64) : uN (x + y) = (uN x + uN y) % 18446744073709551616 := by
  show (x.toUInt64 + y.toUInt64).toNat = _
  exact UInt64.toNat_add _ _
theorem uN_mul (x y : Int64) : uN (x * y) = (uN x * uN y) % 18446744073709551616 := by
  show (x.toUInt64 * y.toUInt64).toNat = _
  exact UInt64.toNat_mul _ _
theorem uN_shl (x : Int64) : uN (x <<< ((1 : Int32).toInt64 &&& 63)) = (2 * uN x) % 18446744073709551616 := by
  have h : (((1 : Int32).toInt64 &&& 63).toBitVec.smod 64).toNat = 1 := by decide
  show (x.toBitVec <<< (((1 : Int32).toInt64 &&& 63).toBitVec.smod 64).toNat).toNat = _
  rw [h, BitVec.toNat_shiftLeft, Nat.shiftLeft_eq, Nat.mul_comm]
  rfl
theorem uN_shr (x : Int64) (s : UInt64) : uN (x.toUInt64 >>> s).toInt64 = uN x / 2 ^ (s.toNat % 64) := by
  show (x.toUInt64 >>> s).toNat = _
  rw [UInt64.toNat_shiftRight, Nat.shiftRight_eq_div_pow]
  rfl
theorem uN_s32 (x : Int64) : uN (x.toUInt64 >>> ((32 : Int32).toInt64.toUInt64 &&& Int64.toUInt64 63)).toInt64 = uN x / 4294967296 := by
  have h : ((32 : Int32).toInt64.toUInt64 &&& Int64.toUInt64 63).toNat % 64 = 32 := by decide
  rw [uN_shr, h]
theorem uN_s63 (x : Int64) : uN (x.toUInt64 >>> ((63 : Int32).toInt64.toUInt64 &&& Int64.toUInt64 63)).toInt64 = uN x / 9223372036854775808 := by
  have h : ((63 : Int32).toInt64.toUInt64 &&& Int64.toUInt64 63).toNat % 64 = 63 := by decide
  rw [uN_shr, h]
theorem uN_lo (x : Int64) : uN (x &&& 4294967295) = uN x % 4294967296 := by
  show (x.toUInt64 &&& Int64.toUInt64 4294967295).toNat = _
  rw [UInt64.toNat_and]
  exact Nat.and_two_pow_sub_one_eq_mod _ 32
theorem uN_bit (x : Int64) : (x &&& 1) = 0 ↔ uN x % 2 = 0 := by
  have h : uN (x &&& 1) = uN x % 2 := by
    show (x.toUInt64 &&& Int64.toUInt64 1).toNat = _
    rw [UInt64.toNat_and]
    exact Nat.and_two_pow_sub_one_eq_mod _ 1
  rw [← h]
  exact ⟨fun z => by rw [z]; rfl, fun z => uN_inj (z.trans rfl)⟩
theorem uN_or {x y : Int64} (hy : uN y < 2) : uN ((x <<< ((1 : Int32).toInt64 &&& 63)) ||| y) = (2 * uN x) % 18446744073709551616 + uN y := by
  have h1 : uN ((x <<< ((1 : Int32).toInt64 &&& 63)) ||| y) = uN (x <<< ((1 : Int32).toInt64 &&& 63)) ||| uN y := UInt64.toNat_or _ _
  have h2 : (2 * uN x) % 18446744073709551616 = 2 ^ 1 * (uN x % 9223372036854775808) := by omega
  rw [h1, uN_shl, h2]
  exact (Nat.two_pow_add_eq_or_of_lt (i := 1) hy _).symm
theorem nat_xor {a : Nat} (h : a < 18446744073709551616) : a ^^^ 2 ^ 63 = (a + 9223372036854775808) % 18446744073709551616 := by
  have h1 : (a ^^^ 2 ^ 63) % 2 ^ 63 = a % 2 ^ 63 := by rw [Nat.xor_mod_two_pow, Nat.mod_self, Nat.xor_zero]
  have h2 : (a ^^^ 2 ^ 63) / 2 ^ 63 = (a / 2 ^ 63) ^^^ 1 := by rw [Nat.xor_div_two_pow, Nat.div_self (Nat.two_pow_pos 63)]
  have h3 : a / 2 ^ 63 = 0 ∨ a / 2 ^ 63 = 1 := by omega
  generalize a ^^^ 2 ^ 63 = t at h1 h2
  rcases h3 with h3 | h3
  · rw [h3] at h2
    have h2 : t / 2 ^ 63 = 1 := h2
    omega
  · rw [h3] at h2
    have h2 : t / 2 ^ 63 = 0 := h2
    omega
theorem uN_xor (x : Int64) : uN (x ^^^ (-9223372036854775808)) = (uN x + 9223372036854775808) % 18446744073709551616 := by
  rw [← nat_xor (uN_lt x)]
  exact UInt64.toNat_xor _ _
theorem uN_int (x : Int64) : x.toInt = if 2 * uN x < 18446744073709551616 then (uN x : Int) else (uN x : Int) - 18446744073709551616 := BitVec.toInt_eq_toNat_cond _
theorem uN_le (x y : Int64) : (x ^^^ (-9223372036854775808)) ≤ (y ^^^ (-9223372036854775808)) ↔ uN x ≤ uN y := by
  have hx := uN_lt x
  have hy := uN_lt y
  rw [Int64.le_iff_toInt_le, uN_int, uN_int, uN_xor, uN_xor]
  omega
theorem uN_sk (x : Int64) {k : Nat} (hk : k < 64) : uN (x.toUInt64 >>> ((nI k).toInt64.toUInt64 &&& Int64.toUInt64 63)).toInt64 = uN x / 2 ^ k := by
  have h : ((nI k).toInt64.toUInt64 &&& Int64.toUInt64 63).toNat % 64 = k := by
    rw [nI_l (by omega), UInt64.toNat_and]
    have e : (lN k).toUInt64.toNat = k % 2 ^ 64 := rfl
    have e2 : (Int64.toUInt64 63).toNat = 2 ^ 6 - 1 := by decide
    rw [e, e2, Nat.and_two_pow_sub_one_eq_mod]
    omega
  rw [uN_shr, h]
/-! ===== unsigned comparison by xor with the least ===== -/
theorem lN_bv (n : Nat) : (lN n).toBitVec = BitVec.ofNat 64 n := rfl
theorem lN_nat {n : Nat} (h : n < 2 ^ 64) : (lN n).toBitVec.toNat = n := by rw [lN_bv, BitVec.toNat_ofNat]; exact Nat.mod_eq_of_lt h
theorem lN_xor (a b : Nat) : lN a ^^^ lN b = lN (a ^^^ b) := by
  apply Int64.toBitVec_inj.mp; rw [Int64.toBitVec_xor, lN_bv, lN_bv, lN_bv]; apply BitVec.eq_of_getLsbD_eq; intro i hi; simp [BitVec.getLsbD_ofNat, Nat.testBit_xor, hi]
theorem lN_ti {m : Nat} (h : m < 2 ^ 64) : (lN m).toInt = if m < 2 ^ 63 then (m : Int) else (m : Int) - 2 ^ 64 := by
  have c := BitVec.toInt_eq_toNat_cond (lN m).toBitVec
  rw [lN_nat h] at c
  show (lN m).toBitVec.toInt = _
  rw [c]
  split <;> split <;> omega
theorem xor63 {x : Nat} (h : x < 2 ^ 63) : x ^^^ 2 ^ 63 = 2 ^ 63 + x := by
  apply Nat.eq_of_testBit_eq
  intro i
  rw [Nat.testBit_xor, Nat.testBit_two_pow]
  rcases Nat.lt_trichotomy i 63 with z | z | z
  · rw [Nat.testBit_two_pow_add_gt z, decide_eq_false (by omega)]; simp
  · subst z; rw [Nat.testBit_two_pow_add_eq]; simp
  · have hp : 2 ^ 64 ≤ 2 ^ i := Nat.pow_le_pow_right (by decide) z
    rw [Nat.testBit_lt_two_pow (show x < 2 ^ i by omega), Nat.testBit_lt_two_pow (show 2 ^ 63 + x < 2 ^ i by omega), decide_eq_false (by omega)]; rfl
theorem xorS {a : Nat} (h : a < 2 ^ 64) : (lN a ^^^ (-9223372036854775808)).toInt = (a : Int) - 2 ^ 63 := by
  rw [show (-9223372036854775808 : Int64) = lN (2 ^ 63) from by decide +kernel, lN_xor]
  rcases Nat.lt_or_ge a (2 ^ 63) with z | z
  · rw [xor63 z, lN_ti (by omega), if_neg (by omega)]; omega
  · obtain ⟨x, rfl⟩ : ∃ x, a = 2 ^ 63 + x := ⟨a - 2 ^ 63, by omega⟩
    rw [← xor63 (by omega), Nat.xor_assoc, Nat.xor_self, Nat.xor_zero, lN_ti (by omega), if_pos (by omega), xor63 (by omega)]; omega
theorem ultL {a b : Nat} (ha : a < 2 ^ 64) (hb : b < 2 ^ 64) : ((lN b ^^^ (-9223372036854775808)) ≤ (lN a ^^^ (-9223372036854775808))) ↔ b ≤ a := by
  rw [Int64.le_iff_toInt_le, xorS ha, xorS hb]; omega
/-! ===== Int64 masks of n low bits ===== -/
theorem cr_bits (W U M : BitVec 64) : ((W &&& U) &&& (U &&& (M ^^^ BitVec.allOnes 64))) = 0#64 ↔ (W &&& U) &&& M = W &&& U := by
  constructor
  · intro h
    apply BitVec.eq_of_getLsbD_eq
    intro i hi
    have e := congrArg (fun x => BitVec.getLsbD x i) h
    simp only [BitVec.getLsbD_and, BitVec.getLsbD_xor, BitVec.getLsbD_allOnes, BitVec.getLsbD_zero, hi, decide_true] at e ⊢
    revert e
    cases W.getLsbD i <;> cases U.getLsbD i <;> cases M.getLsbD i <;> decide
  · intro h
    apply BitVec.eq_of_getLsbD_eq
    intro i hi
    have e := congrArg (fun x => BitVec.getLsbD x i) h
    simp only [BitVec.getLsbD_and, BitVec.getLsbD_xor, BitVec.getLsbD_allOnes, BitVec.getLsbD_zero, hi, decide_true] at e ⊢
    revert e
    cases W.getLsbD i <;> cases U.getLsbD i <;> cases M.getLsbD i <;> decide
theorem cr_mask (w U m : Int64) (n : Nat) (hm : m.toBitVec.toNat = 2 ^ n - 1) : ((w &&& U) &&& (U &&& (m ^^^ (-1)))) = 0 ↔ (w &&& U).toBitVec.toNat < 2 ^ n := by
  have e0 : (-1 : Int64).toBitVec = BitVec.allOnes 64 := by decide
  have z0 : (0 : Int64).toBitVec = 0#64 := by decide
  rw [← Int64.toBitVec_inj, z0, Int64.toBitVec_and, Int64.toBitVec_and, Int64.toBitVec_and, Int64.toBitVec_xor, e0, cr_bits]
  generalize w.toBitVec &&& U.toBitVec = T
  rw [← BitVec.toNat_inj, BitVec.toNat_and, hm, Nat.and_two_pow_sub_one_eq_mod]
  constructor
  · intro h
    have t := Nat.mod_lt T.toNat (Nat.two_pow_pos n)
    rw [h] at t
    exact t
  · exact Nat.mod_eq_of_lt
theorem cr_shr (t : Int64) (x : UInt64) (n : Nat) (hx : x.toNat % 64 = n) : (t.toUInt64 >>> x).toInt64 = 0 ↔ t.toBitVec.toNat < 2 ^ n := by
  rw [← Int64.toBitVec_inj, ← BitVec.toNat_inj]
  show (t.toUInt64 >>> x).toNat = 0 ↔ t.toUInt64.toNat < 2 ^ n
  rw [UInt64.toNat_shiftRight, hx, Nat.shiftRight_eq_div_pow]
  constructor
  · intro h
    have d : t.toUInt64.toNat / 2 ^ n < 1 := by
      rw [h]
      decide
    have e := (Nat.div_lt_iff_lt_mul (Nat.two_pow_pos n)).mp d
    rw [Nat.one_mul] at e
    exact e
  · exact Nat.div_eq_of_lt
theorem cr_amt (s : Int64) : ∃ n, n < 64 ∧ s &&& 63 = lN n ∧ (s.toUInt64 &&& Int64.toUInt64 63).toNat % 64 = n := by
  have e : (s.toUInt64 &&& Int64.toUInt64 63).toNat = s.toUInt64.toNat % 2 ^ 6 := by
    rw [UInt64.toNat_and, show (Int64.toUInt64 63).toNat = 2 ^ 6 - 1 from by decide, Nat.and_two_pow_sub_one_eq_mod]
  refine ⟨s.toUInt64.toNat % 2 ^ 6, by omega, ?_, by omega⟩
  rw [← Int64.toBitVec_inj, ← BitVec.toNat_inj]
  show (s.toUInt64 &&& Int64.toUInt64 63).toNat = (BitVec.ofNat 64 (s.toUInt64.toNat % 2 ^ 6)).toNat
  rw [e, BitVec.toNat_ofNat]
  omega
end
section
/-! the ghost of both clause stores: n, predicates, atoms, arities, starts, lengths, parts -/
abbrev ig_C : Type := Nat × Nat × Nat × (Nat → Nat) × (Nat → Nat) × (Nat → Nat) × (Nat → Nat)
def ig_n (c : ig_C) : Nat := c.1
def ig_q (c : ig_C) : Nat := c.2.1
def ig_a (c : ig_C) : Nat := c.2.2.1
def ig_ar (c : ig_C) : Nat → Nat := c.2.2.2.1
def ig_st (c : ig_C) : Nat → Nat := c.2.2.2.2.1
def ig_L (c : ig_C) : Nat → Nat := c.2.2.2.2.2.1
def ig_P (c : ig_C) : Nat → Nat := c.2.2.2.2.2.2
/-- what a term stands for in a packed closure -/
def ig_rs (p t : Nat) : Nat := if t < 4 then t else if t = 4 then p / 64 % 8 else if t = 5 then p / 8 % 8 else p % 8
theorem ig_rs_c {p t : Nat} (h : t < 4) : ig_rs p t = t := by unfold ig_rs; rw [if_pos h]
theorem ig_rs_4 (p : Nat) : ig_rs p 4 = p / 64 % 8 := rfl
theorem ig_rs_5 (p : Nat) : ig_rs p 5 = p / 8 % 8 := rfl
theorem ig_rs_6 (p : Nat) : ig_rs p 6 = p % 8 := rfl
theorem ig_rs_lt (p t : Nat) : ig_rs p t < 8 := by
  unfold ig_rs
  split
  · omega
  · split
    · omega
    · split <;> omega
theorem ig_v3 {P : Nat → Prop} (h4 : P 4) (h5 : P 5) (h6 : P 6) : ∀ v, 4 ≤ v → v ≤ 6 → P v := by
  intro v a b
  rcases (show v = 4 ∨ v = 5 ∨ v = 6 by omega) with e | e | e <;> subst e <;> assumption
def ig_gv (σ : Nat → Nat) (t : Nat) : Nat := if t < 4 then t else σ t
theorem ig_gv_c {σ : Nat → Nat} {t : Nat} (h : t < 4) : ig_gv σ t = t := by unfold ig_gv; rw [if_pos h]
theorem ig_gv_v {σ : Nat → Nat} {t : Nat} (h : 4 ≤ t) : ig_gv σ t = σ t := by unfold ig_gv; rw [if_neg (by omega)]
def ig_tv (p : Nat) (τ : Nat → Nat) (v : Nat) : Nat := ig_gv τ (ig_rs p v)
theorem ig_gv_tv (p : Nat) (τ : Nat → Nat) (t : Nat) : ig_gv (ig_tv p τ) t = ig_gv τ (ig_rs p t) := by
  rcases Nat.lt_or_ge t 4 with h | h
  · rw [ig_gv_c h, ig_rs_c h, ig_gv_c h]
  · rw [ig_gv_v h]; rfl
def ig_sz (n a : Nat) : Nat := if a = 0 then 1 else if a = 1 then n else n * n
/-- the number of a ground atom -/
def ig_ao (c : ig_C) (q x y : Nat) : Nat := if ig_ar c q = 0 then ig_st c q else if ig_ar c q = 1 then ig_st c q + x else ig_st c q + x * ig_n c + y
def ig_lit (c : ig_C) (i : Nat) (σ : Nat → Nat) : Nat := ig_ao c (ig_P c (i + 1)) (ig_gv σ (ig_P c (i + 2))) (ig_gv σ (ig_P c (i + 3)))
def ig_LT (c : ig_C) (M : Nat → Bool) (i : Nat) (σ : Nat → Nat) : Prop := M (ig_lit c i σ) = true ↔ ig_P c i = 1
def ig_CT (c : ig_C) (M : Nat → Bool) (s : Nat) (σ : Nat → Nat) : Prop := ∃ q, q < ig_L c s ∧ ig_LT c M (s * 16 + q * 4) σ
def ig_TO (n t : Nat) : Prop := t < n ∨ (4 ≤ t ∧ t ≤ 6)
def ig_LO (c : ig_C) (i : Nat) : Prop := ig_P c i ≤ 1 ∧ ig_P c (i + 1) < ig_q c ∧ ig_TO (ig_n c) (ig_P c (i + 2)) ∧ ig_TO (ig_n c) (ig_P c (i + 3)) ∧
  (ig_ar c (ig_P c (i + 1)) = 0 → ig_P c (i + 2) = 0) ∧ (ig_ar c (ig_P c (i + 1)) ≤ 1 → ig_P c (i + 3) = 0)
def ig_CO (c : ig_C) (s : Nat) : Prop := ig_L c s ≤ 4 ∧ ∀ q, q < ig_L c s → ig_LO c (s * 16 + q * 4)
/-- an active slot -/
def ig_AS (c : ig_C) (s : Nat) : Prop := s < 23 ∧ 1 ≤ ig_L c s ∧ ig_CO c s
def ig_WF (c : ig_C) : Prop := 1 ≤ ig_n c ∧ ig_n c ≤ 4 ∧ ig_a c ≤ 10 ∧ ig_q c ≤ ig_a c ∧
  (∀ k, k < ig_q c → ig_ar c k ≤ 2 ∧ ig_st c k + ig_sz (ig_n c) (ig_ar c k) ≤ ig_a c) ∧
  (∀ j k, j < k → k < ig_q c → ig_st c j + ig_sz (ig_n c) (ig_ar c j) ≤ ig_st c k)
def ig_occ (c : ig_C) (s v : Nat) : Prop := ∃ q, q < ig_L c s ∧ (ig_P c (s * 16 + q * 4 + 2) = v ∨ ig_P c (s * 16 + q * 4 + 3) = v)
/-- a digit of a closure -/
def ig_vd (c : ig_C) (p v : Nat) : Prop := ig_rs p v = v ∨ (ig_occ c (p / 512) v ∧ (ig_rs p v < ig_n c ∨ (4 ≤ ig_rs p v ∧ ig_rs p v < v ∧ ig_occ c (p / 512) (ig_rs p v) ∧ ig_rs p (ig_rs p v) = ig_rs p v)))
def ig_VC (c : ig_C) (S : Nat → Prop) (p : Nat) : Prop := p < 11776 ∧ S (p / 512) ∧ ∀ v, 4 ≤ v → v ≤ 6 → ig_vd c p v
def ig_GI (c : ig_C) (M : Nat → Bool) (p : Nat) : Prop := ∀ τ : Nat → Nat, (∀ v, τ v < ig_n c) → ig_CT c M (p / 512) (ig_tv p τ)
def ig_Md (c : ig_C) (M : Nat → Bool) (N : Nat) (cl : Nat → Nat) : Prop := ∀ i, i < N → ig_GI c M (cl i)
def ig_Sat (c : ig_C) (N : Nat) (cl : Nat → Nat) : Prop := ∃ M, ig_Md c M N cl
/-- atoms lie in their predicate's row -/
theorem ig_ao_lt {c : ig_C} (w : ig_WF c) {q x y : Nat} (hq : q < ig_q c) (hx : x < ig_n c) (hy : y < ig_n c) : ig_st c q ≤ ig_ao c q x y ∧ ig_ao c q x y < ig_st c q + ig_sz (ig_n c) (ig_ar c q) := by
  obtain ⟨_, _, _, _, w1, _⟩ := w
  have h2 := (w1 q hq).1
  unfold ig_ao ig_sz
  split
  · omega
  · split
    · omega
    · have : x * ig_n c + ig_n c ≤ ig_n c * ig_n c := by
        have := Nat.mul_le_mul_right (ig_n c) (show x + 1 ≤ ig_n c by omega)
        rw [Nat.add_mul] at this; omega
      omega
theorem ig_ao_a {c : ig_C} (w : ig_WF c) {q x y : Nat} (hq : q < ig_q c) (hx : x < ig_n c) (hy : y < ig_n c) : ig_ao c q x y < ig_a c := by
  have h := ig_ao_lt w hq hx hy
  have := (w.2.2.2.2.1 q hq).2
  omega
theorem ig_dm {n x y x' y' : Nat} (hy : y < n) (hy' : y' < n) (h : x * n + y = x' * n + y') : x = x' ∧ y = y' := by
  have hx : x = x' := by
    rcases Nat.lt_trichotomy x x' with z | z | z
    · have := Nat.mul_le_mul_right n (show x + 1 ≤ x' by omega)
      rw [Nat.add_mul] at this; omega
    · exact z
    · have := Nat.mul_le_mul_right n (show x' + 1 ≤ x by omega)
      rw [Nat.add_mul] at this; omega
  subst hx
  exact ⟨rfl, by omega⟩
theorem ig_ao_inj {c : ig_C} (w : ig_WF c) {q x y q' x' y' : Nat} (hq : q < ig_q c) (hx : x < ig_n c) (hy : y < ig_n c) (hq' : q' < ig_q c) (hx' : x' < ig_n c) (hy' : y' < ig_n c)
    (h : ig_ao c q x y = ig_ao c q' x' y') : q = q' ∧ (ig_ar c q ≠ 0 → x = x') ∧ (ig_ar c q = 2 → y = y') := by
  have h1 := ig_ao_lt w hq hx hy
  have h2 := ig_ao_lt w hq' hx' hy'
  have w2 := w.2.2.2.2.2
  have e : q = q' := by
    rcases Nat.lt_trichotomy q q' with z | z | z
    · have := w2 q q' z hq'; omega
    · exact z
    · have := w2 q' q z hq; omega
  subst e
  refine ⟨rfl, ?_, ?_⟩
  · intro h0
    unfold ig_ao at h
    rw [if_neg h0, if_neg h0] at h
    split at h
    · omega
    · exact (ig_dm (y := y) (y' := y') hy hy' (by omega)).1
  · intro h0
    unfold ig_ao at h
    rw [if_neg (by omega), if_neg (by omega), if_neg (by omega), if_neg (by omega)] at h
    exact (ig_dm (x := x) (x' := x') hy hy' (by omega)).2
theorem ig_gv_n {n t : Nat} {σ : Nat → Nat} (ht : ig_TO n t) (hn : n ≤ 4) (hs : ∀ v, 4 ≤ v → v ≤ 6 → σ v < n) : ig_gv σ t < n := by
  rcases ht with h | h
  · rw [ig_gv_c (by omega)]; exact h
  · rw [ig_gv_v h.1]; exact hs t h.1 h.2
theorem ig_lit_a {c : ig_C} (w : ig_WF c) {i : Nat} {σ : Nat → Nat} (l : ig_LO c i) (hs : ∀ v, 4 ≤ v → v ≤ 6 → σ v < ig_n c) : ig_lit c i σ < ig_a c :=
  ig_ao_a w l.2.1 (ig_gv_n l.2.2.1 w.2.1 hs) (ig_gv_n l.2.2.2.1 w.2.1 hs)
/-- a term of a clause stands for a constant or a representative -/
theorem ig_rep {c : ig_C} {S : Nat → Prop} {p t : Nat} (w : ig_WF c) (h : ig_VC c S p) (ht : ig_TO (ig_n c) t) (ho : 4 ≤ t → ig_occ c (p / 512) t) :
    ig_rs p t < ig_n c ∨ (4 ≤ ig_rs p t ∧ ig_rs p t ≤ 6 ∧ ig_occ c (p / 512) (ig_rs p t) ∧ ig_rs p (ig_rs p t) = ig_rs p t) := by
  have hn := w.2.1
  rcases ht with h1 | ⟨h1, h2⟩
  · left; rw [ig_rs_c (by omega)]; exact h1
  · rcases h.2.2 t h1 h2 with e | ⟨_, e | e⟩
    · right; rw [e]; exact ⟨h1, h2, ho h1, e⟩
    · left; exact e
    · right; exact ⟨e.1, by omega, e.2.2.1, e.2.2.2⟩
theorem ig_tv_n {c : ig_C} {S : Nat → Prop} {p : Nat} {τ : Nat → Nat} (w : ig_WF c) (h : ig_VC c S p) (hτ : ∀ v, τ v < ig_n c) : ∀ v, 4 ≤ v → v ≤ 6 → ig_tv p τ v < ig_n c := by
  intro v a b
  unfold ig_tv
  rcases h.2.2 v a b with e | ⟨_, e | e⟩
  · rw [e, ig_gv_v a]; exact hτ v
  · rw [ig_gv_c (by have := w.2.1; omega)]; exact e
  · rw [ig_gv_v e.1]; exact hτ _
theorem ig_CT_congr {c : ig_C} {M : Nat → Bool} {s : Nat} {σ σ' : Nat → Nat} (co : ig_CO c s) (h : ∀ v, 4 ≤ v → v ≤ 6 → ig_occ c s v → σ v = σ' v) (hn : ig_n c ≤ 4) : ig_CT c M s σ → ig_CT c M s σ' := by
  rintro ⟨q, hq, hl⟩
  refine ⟨q, hq, ?_⟩
  have l := co.2 q hq
  have e : ig_lit c (s * 16 + q * 4) σ' = ig_lit c (s * 16 + q * 4) σ := by
    have gt : ∀ t, ig_TO (ig_n c) t → (4 ≤ t → ig_occ c s t) → ig_gv σ' t = ig_gv σ t := by
      intro t ht ho
      rcases ht with z | ⟨z1, z2⟩
      · rw [ig_gv_c (by omega), ig_gv_c (by omega)]
      · rw [ig_gv_v z1, ig_gv_v z1]; exact (h t z1 z2 (ho z1)).symm
    unfold ig_lit
    rw [gt _ l.2.2.1 (fun _ => ⟨q, hq, Or.inl rfl⟩), gt _ l.2.2.2.1 (fun _ => ⟨q, hq, Or.inr rfl⟩)]
  unfold ig_LT
  rw [e]; exact hl
end
section
/-! groups: 0-3 constants, 4-6 left, 7-9 right -/
def ig_U (g : Nat → Nat) (E : Nat → Nat → Prop) (T : Nat → Prop) : Prop :=
  (∀ k, k < 10 → g k ≤ k ∧ g (g k) = g k) ∧ (∀ k, k < 4 → g k = k) ∧ (∀ s t, E s t → s < 10 ∧ t < 10 ∧ g s = g t) ∧
  (∀ θ : Nat → Nat, (∀ k, k < 4 → θ k = k) → (∀ s t, E s t → θ s = θ t) → ∀ k, k < 10 → θ (g k) = θ k) ∧
  (∀ k, k < 10 → g k = k ∨ (T k ∧ T (g k)))
theorem ig_U0 {T : Nat → Prop} {g : Nat → Nat} (hg : ∀ k, k < 10 → g k = k) : ig_U g (fun _ _ => False) T := by
  refine ⟨fun k hk => ?_, fun k hk => hg k (by omega), fun _ _ h => h.elim, fun θ _ _ k hk => by rw [hg k hk], fun k hk => Or.inl (hg k hk)⟩
  rw [hg k hk, hg k hk]; exact ⟨Nat.le_refl _, rfl⟩
theorem ig_U_eq {T : Nat → Prop} {g : Nat → Nat} {E : Nat → Nat → Prop} {s t : Nat} (u : ig_U g E T) (hs : s < 10) (ht : t < 10) (h : g s = g t) : ig_U g (fun a b => E a b ∨ (a = s ∧ b = t)) T := by
  obtain ⟨u1, u2, u3, u4, u5⟩ := u
  refine ⟨u1, u2, ?_, ?_, u5⟩
  · rintro a b (e | ⟨rfl, rfl⟩)
    · exact u3 a b e
    · exact ⟨hs, ht, h⟩
  · intro θ h0 hE
    exact u4 θ h0 (fun a b e => hE a b (Or.inl e))
theorem ig_U_no {T : Nat → Prop} {g : Nat → Nat} {E : Nat → Nat → Prop} {s t : Nat} (u : ig_U g E T) (hs : s < 10) (ht : t < 10) (h : g s ≠ g t) (h1 : g s < 4) (h2 : g t < 4)
    (θ : Nat → Nat) (h0 : ∀ k, k < 4 → θ k = k) (hE : ∀ a b, E a b → θ a = θ b) : θ s ≠ θ t := by
  obtain ⟨u1, u2, u3, u4, u5⟩ := u
  rw [← u4 θ h0 hE s hs, ← u4 θ h0 hE t ht, h0 _ h1, h0 _ h2]; exact h
/-- the greater group is renamed -/
theorem ig_U_join {T : Nat → Prop} {g g' : Nat → Nat} {E : Nat → Nat → Prop} {s t lo hi : Nat} (u : ig_U g E T) (hs : s < 10) (ht : t < 10) (hTs : T s) (hTt : T t)
    (hlh : lo < hi) (h4 : 4 ≤ hi) (hx : (g s = lo ∧ g t = hi) ∨ (g s = hi ∧ g t = lo)) (hg' : ∀ k, k < 10 → g' k = if g k = hi then lo else g k) :
    ig_U g' (fun a b => E a b ∨ (a = s ∧ b = t)) T := by
  obtain ⟨u1, u2, u3, u4, u5⟩ := u
  have p1 : ∀ k, k < 10 → g k = hi → g' k = lo := fun k hk e => by rw [hg' k hk, if_pos e]
  have p2 : ∀ k, k < 10 → g k ≠ hi → g' k = g k := fun k hk e => by rw [hg' k hk, if_neg e]
  have bs := u1 s hs
  have bt' := u1 t ht
  have glo : g lo = lo := by
    rcases hx with ⟨a, b⟩ | ⟨a, b⟩
    · rw [← a]; exact bs.2
    · rw [← b]; exact bt'.2
  have ghi : g hi = hi := by
    rcases hx with ⟨a, b⟩ | ⟨a, b⟩
    · rw [← b]; exact bt'.2
    · rw [← a]; exact bs.2
  have hhi : hi < 10 := by rcases hx with ⟨a, b⟩ | ⟨a, b⟩ <;> omega
  have glo' : g' lo = lo := by rw [p2 lo (by omega) (by omega)]; exact glo
  have Tlo : T lo := by
    rcases hx with ⟨a, b⟩ | ⟨a, b⟩
    · rcases u5 s hs with e | e
      · rw [← a, e]; exact hTs
      · rw [← a]; exact e.2
    · rcases u5 t ht with e | e
      · rw [← b, e]; exact hTt
      · rw [← b]; exact e.2
  have Thi : T hi := by
    rcases hx with ⟨a, b⟩ | ⟨a, b⟩
    · rcases u5 t ht with e | e
      · rw [← b, e]; exact hTt
      · rw [← b]; exact e.2
    · rcases u5 s hs with e | e
      · rw [← a, e]; exact hTs
      · rw [← a]; exact e.2
  refine ⟨fun k hk => ?_, fun k hk => ?_, ?_, ?_, fun k hk => ?_⟩
  · have b := u1 k hk
    by_cases e : g k = hi
    · rw [p1 k hk e, glo']; exact ⟨by omega, rfl⟩
    · rw [p2 k hk e, p2 (g k) (by omega) (by rw [b.2]; exact e)]; exact b
  · rw [p2 k (by omega) (by rw [u2 k hk]; omega)]; exact u2 k hk
  · rintro a b (e | ⟨rfl, rfl⟩)
    · have h := u3 a b e
      refine ⟨h.1, h.2.1, ?_⟩
      rw [hg' a h.1, hg' b h.2.1, h.2.2]
    · refine ⟨hs, ht, ?_⟩
      rcases hx with ⟨x, y⟩ | ⟨x, y⟩
      · rw [p2 _ hs (by omega), p1 _ ht y]; exact x
      · rw [p1 _ hs x, p2 _ ht (by omega)]; exact y.symm
  · intro θ h0 hE k hk
    have u4' := u4 θ h0 (fun a b e => hE a b (Or.inl e))
    have est : θ s = θ t := hE s t (Or.inr ⟨rfl, rfl⟩)
    have elh : θ lo = θ hi := by
      have a := u4' s hs
      have b := u4' t ht
      rcases hx with ⟨x, y⟩ | ⟨x, y⟩
      · rw [x] at a; rw [y] at b; rw [a, b]; exact est
      · rw [x] at a; rw [y] at b; rw [a, b]; exact est.symm
    by_cases e : g k = hi
    · rw [p1 k hk e, elh, ← e]; exact u4' k hk
    · rw [p2 k hk e]; exact u4' k hk
  · by_cases e : g k = hi
    · right
      rw [p1 k hk e]
      refine ⟨?_, Tlo⟩
      rcases u5 k hk with z | z
      · rw [← z, e]; exact Thi
      · exact z.1
    · rw [p2 k hk e]; exact u5 k hk
/-- what a representative becomes -/
def ig_im (g : Nat → Nat) (sh old : Nat) : Nat :=
  if old < 4 then old else if g (old + sh) < 4 then g (old + sh) else if 4 < old ∧ g (4 + sh) = g (old + sh) then 4 else if 5 < old ∧ g (5 + sh) = g (old + sh) then 5 else old
theorem ig_im_c {g : Nat → Nat} {sh old : Nat} (h : old < 4) : ig_im g sh old = old := by unfold ig_im; rw [if_pos h]
theorem ig_im_le (g : Nat → Nat) (sh old : Nat) : ig_im g sh old ≤ old := by
  unfold ig_im
  split
  · omega
  · split
    · omega
    · split
      · omega
      · split <;> omega
/-- the three ways -/
theorem ig_im_3 {g : Nat → Nat} {sh old : Nat} (h4 : 4 ≤ old) (h6 : old ≤ 6) :
    (g (old + sh) < 4 ∧ ig_im g sh old = g (old + sh)) ∨ (4 ≤ g (old + sh) ∧ ∃ w, 4 ≤ w ∧ w < old ∧ g (w + sh) = g (old + sh) ∧ ig_im g sh old = w ∧ ig_im g sh w = w) ∨
    (4 ≤ g (old + sh) ∧ ig_im g sh old = old ∧ ∀ w, 4 ≤ w → w < old → g (w + sh) ≠ g (old + sh)) := by
  unfold ig_im
  rw [if_neg (show ¬ old < 4 by omega)]
  by_cases h1 : g (old + sh) < 4
  · left; rw [if_pos h1]; exact ⟨h1, rfl⟩
  · right
    rw [if_neg h1]
    by_cases h2 : 4 < old ∧ g (4 + sh) = g (old + sh)
    · left
      rw [if_pos h2]
      refine ⟨by omega, 4, Nat.le_refl _, h2.1, h2.2, rfl, ?_⟩
      rw [if_neg (by omega), if_neg (by omega), if_neg (by omega), if_neg (by omega)]
    · rw [if_neg h2]
      by_cases h3 : 5 < old ∧ g (5 + sh) = g (old + sh)
      · left
        rw [if_pos h3]
        have h2' : g (4 + sh) ≠ g (old + sh) := fun e => h2 ⟨by omega, e⟩
        refine ⟨by omega, 5, by omega, h3.1, h3.2, rfl, ?_⟩
        rw [if_neg (by omega), if_neg (by omega), if_neg (by rw [h3.2]; exact fun e => h2' e.2), if_neg (by omega)]
      · right
        rw [if_neg h3]
        refine ⟨by omega, rfl, fun w w4 wo e => ?_⟩
        rcases (show w = 4 ∨ w = 5 by omega) with z | z <;> subst z
        · exact h2 ⟨wo, e⟩
        · exact h3 ⟨wo, e⟩
def ig_nar (g : Nat → Nat) (sh p : Nat) : Nat := ((p / 512 * 8 + ig_im g sh (ig_rs p 4)) * 8 + ig_im g sh (ig_rs p 5)) * 8 + ig_im g sh (ig_rs p 6)
theorem ig_dig {s a b d : Nat} (ha : a < 8) (hb : b < 8) (hd : d < 8) :
    (((s * 8 + a) * 8 + b) * 8 + d) / 512 = s ∧ (((s * 8 + a) * 8 + b) * 8 + d) / 64 % 8 = a ∧ (((s * 8 + a) * 8 + b) * 8 + d) / 8 % 8 = b ∧ (((s * 8 + a) * 8 + b) * 8 + d) % 8 = d := by omega
theorem ig_im_lt (g : Nat → Nat) (sh p v : Nat) : ig_im g sh (ig_rs p v) < 8 := Nat.lt_of_le_of_lt (ig_im_le _ _ _) (ig_rs_lt _ _)
theorem ig_nar_s (g : Nat → Nat) (sh p : Nat) : ig_nar g sh p / 512 = p / 512 := (ig_dig (ig_im_lt g sh p 4) (ig_im_lt g sh p 5) (ig_im_lt g sh p 6)).1
theorem ig_nar_r (g : Nat → Nat) (sh p : Nat) : ∀ v, 4 ≤ v → v ≤ 6 → ig_rs (ig_nar g sh p) v = ig_im g sh (ig_rs p v) := by
  have h := ig_dig (s := p / 512) (ig_im_lt g sh p 4) (ig_im_lt g sh p 5) (ig_im_lt g sh p 6)
  exact ig_v3 h.2.1 h.2.2.1 h.2.2.2
theorem ig_self (p : Nat) : ((p / 512 * 8 + ig_rs p 4) * 8 + ig_rs p 5) * 8 + ig_rs p 6 = p := by
  rw [ig_rs_4, ig_rs_5, ig_rs_6]; omega
theorem ig_nar_le (g : Nat → Nat) (sh p : Nat) : ig_nar g sh p ≤ p := by
  have h := ig_self p
  have a := ig_im_le g sh (ig_rs p 4)
  have b := ig_im_le g sh (ig_rs p 5)
  have d := ig_im_le g sh (ig_rs p 6)
  unfold ig_nar
  omega
/-- a representative's image, in a group that touches occurring representatives alone -/
theorem ig_im_rep {c : ig_C} {g : Nat → Nat} {E : Nat → Nat → Prop} {T : Nat → Prop} {sh p r : Nat} (u : ig_U g E T) (hsh : sh ≤ 3)
    (hc : ∀ k, k < 4 → T k → k < ig_n c) (hv : ∀ v, 4 ≤ v → v ≤ 6 → T (v + sh) → ig_occ c (p / 512) v ∧ ig_rs p v = v) (h4 : 4 ≤ r) (h6 : r ≤ 6) :
    ig_im g sh r = r ∨ (ig_occ c (p / 512) r ∧ (ig_im g sh r < ig_n c ∨ (4 ≤ ig_im g sh r ∧ ig_im g sh r < r ∧ ig_occ c (p / 512) (ig_im g sh r) ∧ ig_rs p (ig_im g sh r) = ig_im g sh r ∧ ig_im g sh (ig_im g sh r) = ig_im g sh r))) := by
  obtain ⟨u1, u2, u3, u4, u5⟩ := u
  rcases ig_im_3 (g := g) (sh := sh) h4 h6 with ⟨a, e⟩ | ⟨a, w, w4, wr, ew, e, e'⟩ | ⟨a, e, _⟩
  · right
    rcases u5 (r + sh) (by omega) with z | z
    · omega
    · exact ⟨(hv r h4 h6 z.1).1, Or.inl (by rw [e]; exact hc _ a z.2)⟩
  · right
    have b1 := u1 (r + sh) (by omega)
    have b2 := u1 (w + sh) (by omega)
    have Tr : T (r + sh) := by
      rcases u5 (r + sh) (by omega) with z | z
      · omega
      · exact z.1
    have Tw : T (w + sh) := by
      rcases u5 (w + sh) (by omega) with z | z
      · rcases u5 (r + sh) (by omega) with y | y
        · omega
        · rw [← ew, z] at y; exact y.2
      · exact z.1
    have hw := hv w w4 (by omega) Tw
    refine ⟨(hv r h4 h6 Tr).1, Or.inr ?_⟩
    rw [e]
    exact ⟨w4, wr, hw.1, hw.2, e'⟩
  · left; exact e
theorem ig_nar_VC {c : ig_C} {S : Nat → Prop} {g : Nat → Nat} {E : Nat → Nat → Prop} {T : Nat → Prop} {sh p : Nat} (w : ig_WF c) (h : ig_VC c S p) (u : ig_U g E T) (hsh : sh ≤ 3)
    (hc : ∀ k, k < 4 → T k → k < ig_n c) (hv : ∀ v, 4 ≤ v → v ≤ 6 → T (v + sh) → ig_occ c (p / 512) v ∧ ig_rs p v = v) : ig_VC c S (ig_nar g sh p) := by
  have hs := ig_nar_s g sh p
  have hr := ig_nar_r g sh p
  have hn := w.2.1
  refine ⟨Nat.lt_of_le_of_lt (ig_nar_le g sh p) h.1, by rw [hs]; exact h.2.1, fun v v4 v6 => ?_⟩
  unfold ig_vd
  rw [hs, hr v v4 v6]
  rcases h.2.2 v v4 v6 with e | ⟨o, e | ⟨r4, rv, ro, rr⟩⟩
  · rw [e]
    rcases ig_im_rep u hsh hc hv v4 v6 with z | ⟨o, z | ⟨z1, z2, z3, z4, z5⟩⟩
    · exact Or.inl z
    · exact Or.inr ⟨o, Or.inl z⟩
    · refine Or.inr ⟨o, Or.inr ⟨z1, z2, z3, ?_⟩⟩
      rw [hr _ z1 (by omega), z4, z5]
  · rw [ig_im_c (by omega)]; exact Or.inr ⟨o, Or.inl e⟩
  · right
    refine ⟨o, ?_⟩
    rcases ig_im_rep u hsh hc hv r4 (by omega) with z | ⟨o, z | ⟨z1, z2, z3, z4, z5⟩⟩
    · right
      rw [z]
      refine ⟨r4, rv, ro, ?_⟩
      rw [hr _ r4 (by omega), rr, z]
    · exact Or.inl z
    · refine Or.inr ⟨z1, by omega, z3, ?_⟩
      rw [hr _ z1 (by omega), z4, z5]
/-- the narrowed closure is less general -/
theorem ig_nar_GI {c : ig_C} {S : Nat → Prop} {M : Nat → Bool} {g : Nat → Nat} {E : Nat → Nat → Prop} {T : Nat → Prop} {sh p : Nat} (w : ig_WF c) (h : ig_VC c S p) (hco : ig_CO c (p / 512)) (u : ig_U g E T) (hsh : sh ≤ 3)
    (hc : ∀ k, k < 4 → T k → k < ig_n c) (hv : ∀ v, 4 ≤ v → v ≤ 6 → T (v + sh) → ig_occ c (p / 512) v ∧ ig_rs p v = v) (hg : ig_GI c M p) : ig_GI c M (ig_nar g sh p) := by
  intro τ hτ
  have h' := ig_nar_VC w h u hsh hc hv
  have hb := ig_tv_n (τ := τ) w h' hτ
  have hn := w.1
  rw [ig_nar_s]
  refine ig_CT_congr hco ?_ w.2.1 (hg (fun r => if ig_gv τ (ig_im g sh r) < ig_n c then ig_gv τ (ig_im g sh r) else 0) ?_)
  · intro v v4 v6 _
    have hb := hb v v4 v6
    unfold ig_tv at hb ⊢
    rw [ig_nar_r g sh p v v4 v6] at hb ⊢
    rcases Nat.lt_or_ge (ig_rs p v) 4 with z | z
    · rw [ig_gv_c z, ig_im_c z, ig_gv_c z]
    · rw [ig_gv_v z, if_pos hb]
  · intro v
    show (if _ then _ else _) < _
    split
    · assumption
    · omega
/-- and keeps the ground instances that solve the equations -/
theorem ig_nar_tv {g : Nat → Nat} {sh p : Nat} {τ θ : Nat → Nat} {E : Nat → Nat → Prop} {T : Nat → Prop} (u : ig_U g E T) (hsh : sh ≤ 3) (hd : ∀ v, 4 ≤ v → v ≤ 6 → ig_rs p v ≤ 6) (h0 : ∀ k, k < 4 → θ k = k) (hθ : ∀ v, 4 ≤ v → v ≤ 6 → θ (v + sh) = τ v) (hE : ∀ a b, E a b → θ a = θ b) :
    ∀ v, 4 ≤ v → v ≤ 6 → ig_tv (ig_nar g sh p) τ v = ig_tv p τ v := by
  intro v v4 v6
  unfold ig_tv
  rw [ig_nar_r g sh p v v4 v6]
  have hd := hd v v4 v6
  generalize ig_rs p v = r at hd
  have u4 := u.2.2.2.1 θ h0 hE
  rcases Nat.lt_or_ge r 4 with z | z
  · rw [ig_im_c z]
  · rcases ig_im_3 (g := g) (sh := sh) z hd with ⟨a, e⟩ | ⟨a, w, w4, wr, ew, e, e'⟩ | ⟨a, e, _⟩
    · rw [e, ig_gv_c a, ig_gv_v z, ← hθ r z hd, ← u4 (r + sh) (by omega), h0 _ a]
    · rw [e, ig_gv_v w4, ig_gv_v z, ← hθ r z hd, ← hθ w w4 (by omega), ← u4 (r + sh) (by omega), ← u4 (w + sh) (by omega), ew]
    · rw [e]
end
section
def ig_up (t : Nat) : Nat := if t < 4 then t else t + 3
/-- the equations of two literals, and the terms that stand in them -/
def ig_E (c : ig_C) (p i p' j : Nat) : Nat → Nat → Prop := fun a b =>
  (False ∨ (a = ig_rs p (ig_P c (i + 2)) ∧ b = ig_up (ig_rs p' (ig_P c (j + 2))))) ∨ (a = ig_rs p (ig_P c (i + 3)) ∧ b = ig_up (ig_rs p' (ig_P c (j + 3))))
def ig_T (c : ig_C) (p i p' j : Nat) : Nat → Prop := fun k =>
  k = ig_rs p (ig_P c (i + 2)) ∨ k = ig_up (ig_rs p' (ig_P c (j + 2))) ∨ k = ig_rs p (ig_P c (i + 3)) ∨ k = ig_up (ig_rs p' (ig_P c (j + 3)))
def ig_CC (c : ig_C) (N : Nat) (cl : Nat → Nat) (p i p' j : Nat) : Prop := ig_P c i ≠ ig_P c j → ig_P c (i + 1) = ig_P c (j + 1) →
  (∀ θ : Nat → Nat, (∀ k, k < 4 → θ k = k) → ¬ (∀ a b, ig_E c p i p' j a b → θ a = θ b)) ∨
  ∃ g, ig_U g (ig_E c p i p' j) (ig_T c p i p' j) ∧ (∃ a, a < N ∧ cl a = ig_nar g 0 p) ∧ (∃ b, b < N ∧ cl b = ig_nar g 3 p')
/-- a position of a closure's clause -/
def ig_At (c : ig_C) (p i : Nat) : Prop := ∃ q, q < ig_L c (p / 512) ∧ i = p / 512 * 16 + q * 4
theorem ig_At_LO {c : ig_C} {S : Nat → Prop} {p i : Nat} (hA : ∀ s, S s → ig_AS c s) (h : ig_VC c S p) (a : ig_At c p i) : ig_LO c i := by
  obtain ⟨q, hq, rfl⟩ := a
  exact (hA _ h.2.1).2.2.2 q hq
/-- each of the two arguments -/
theorem ig_arg {c : ig_C} {S : Nat → Prop} {p i : Nat} (w : ig_WF c) (hA : ∀ s, S s → ig_AS c s) (h : ig_VC c S p) (a : ig_At c p i) :
    (ig_rs p (ig_P c (i + 2)) < ig_n c ∨ (4 ≤ ig_rs p (ig_P c (i + 2)) ∧ ig_rs p (ig_P c (i + 2)) ≤ 6 ∧ ig_occ c (p / 512) (ig_rs p (ig_P c (i + 2))) ∧ ig_rs p (ig_rs p (ig_P c (i + 2))) = ig_rs p (ig_P c (i + 2)))) ∧
    (ig_rs p (ig_P c (i + 3)) < ig_n c ∨ (4 ≤ ig_rs p (ig_P c (i + 3)) ∧ ig_rs p (ig_P c (i + 3)) ≤ 6 ∧ ig_occ c (p / 512) (ig_rs p (ig_P c (i + 3))) ∧ ig_rs p (ig_rs p (ig_P c (i + 3))) = ig_rs p (ig_P c (i + 3)))) := by
  have l := ig_At_LO hA h a
  obtain ⟨q, hq, rfl⟩ := a
  exact ⟨ig_rep w h l.2.2.1 (fun _ => ⟨q, hq, Or.inl rfl⟩), ig_rep w h l.2.2.2.1 (fun _ => ⟨q, hq, Or.inr rfl⟩)⟩
theorem ig_T_c {c : ig_C} {S : Nat → Prop} {p i p' j : Nat} (w : ig_WF c) (hA : ∀ s, S s → ig_AS c s) (h : ig_VC c S p) (h' : ig_VC c S p') (a : ig_At c p i) (a' : ig_At c p' j) :
    ∀ k, k < 4 → ig_T c p i p' j k → k < ig_n c := by
  obtain ⟨x1, x2⟩ := ig_arg w hA h a
  obtain ⟨y1, y2⟩ := ig_arg w hA h' a'
  intro k k4 hk
  rcases hk with e | e | e | e
  · omega
  · unfold ig_up at e; split at e <;> omega
  · omega
  · unfold ig_up at e; split at e <;> omega
theorem ig_T_l {c : ig_C} {S : Nat → Prop} {p i p' j : Nat} (w : ig_WF c) (hA : ∀ s, S s → ig_AS c s) (h : ig_VC c S p) (a : ig_At c p i) :
    ∀ v, 4 ≤ v → v ≤ 6 → ig_T c p i p' j (v + 0) → ig_occ c (p / 512) v ∧ ig_rs p v = v := by
  obtain ⟨x1, x2⟩ := ig_arg w hA h a
  have hn := w.2.1
  intro v v4 v6 hk
  rcases hk with e | e | e | e
  · rw [Nat.add_zero] at e
    rw [← e] at x1
    rcases x1 with z | z
    · omega
    · exact z.2.2
  · unfold ig_up at e; split at e <;> omega
  · rw [Nat.add_zero] at e
    rw [← e] at x2
    rcases x2 with z | z
    · omega
    · exact z.2.2
  · unfold ig_up at e; split at e <;> omega
theorem ig_T_r {c : ig_C} {S : Nat → Prop} {p i p' j : Nat} (w : ig_WF c) (hA : ∀ s, S s → ig_AS c s) (h : ig_VC c S p) (h' : ig_VC c S p') (a : ig_At c p i) (a' : ig_At c p' j) :
    ∀ v, 4 ≤ v → v ≤ 6 → ig_T c p i p' j (v + 3) → ig_occ c (p' / 512) v ∧ ig_rs p' v = v := by
  obtain ⟨x1, x2⟩ := ig_arg w hA h a
  obtain ⟨y1, y2⟩ := ig_arg w hA h' a'
  have hn := w.2.1
  intro v v4 v6 hk
  rcases hk with e | e | e | e
  · omega
  · have e' : v = ig_rs p' (ig_P c (j + 2)) := by unfold ig_up at e; split at e <;> omega
    rw [← e'] at y1
    rcases y1 with z | z
    · omega
    · exact z.2.2
  · omega
  · have e' : v = ig_rs p' (ig_P c (j + 3)) := by unfold ig_up at e; split at e <;> omega
    rw [← e'] at y2
    rcases y2 with z | z
    · omega
    · exact z.2.2
theorem ig_VC_6 {c : ig_C} {S : Nat → Prop} {p : Nat} (w : ig_WF c) (h : ig_VC c S p) : ∀ v, 4 ≤ v → v ≤ 6 → ig_rs p v ≤ 6 := by
  intro v v4 v6
  have hn := w.2.1
  rcases h.2.2 v v4 v6 with e | ⟨_, e | e⟩ <;> omega
/-- where both narrowings are idle, unified arguments have one abstraction -/
theorem ig_idle {g : Nat → Nat} {E : Nat → Nat → Prop} {T : Nat → Prop} {s t : Nat} (u : ig_U g E T) (h : g s = g (ig_up t)) (hs : s ≤ 6) (ht : t ≤ 6)
    (is : ig_im g 0 s = s) (it : ig_im g 3 t = t) : ig_gv (fun _ => 0) s = ig_gv (fun _ => 0) t := by
  have u2 := u.2.1
  rcases Nat.lt_or_ge s 4 with a | a
  · rcases Nat.lt_or_ge t 4 with b | b
    · unfold ig_up at h
      rw [if_pos b, u2 s a, u2 t b] at h
      rw [h]
    · exfalso
      unfold ig_up at h
      rw [if_neg (by omega), u2 s a] at h
      rcases ig_im_3 (g := g) (sh := 3) b ht with ⟨x, e⟩ | ⟨x, _⟩ | ⟨x, _⟩ <;> omega
  · rcases Nat.lt_or_ge t 4 with b | b
    · exfalso
      unfold ig_up at h
      rw [if_pos b, u2 t b] at h
      rcases ig_im_3 (g := g) (sh := 0) a hs with ⟨x, e⟩ | ⟨x, _⟩ | ⟨x, _⟩ <;> simp only [Nat.add_zero] at * <;> omega
    · rw [ig_gv_v a, ig_gv_v b]
def ig_Mn (c : ig_C) (N : Nat) (cl : Nat → Nat) (i : Nat) (τ1 : Nat → Nat) : Prop :=
  ∀ a, a < N → cl a / 512 = cl i / 512 → ∀ τ : Nat → Nat, (∀ v, τ v < ig_n c) → (∀ v, 4 ≤ v → v ≤ 6 → ig_tv (cl a) τ v = ig_tv (cl i) τ1 v) → cl i ≤ cl a
theorem ig_conf {c : ig_C} {S : Nat → Prop} {N : Nat} {cl ch : Nat → Nat} {M0 : Nat → Bool} (w : ig_WF c) (hA : ∀ s, S s → ig_AS c s) (hV : ∀ i, i < N → ig_VC c S (cl i))
    (hsel : ∀ i, i < N → ig_At c (cl i) (ch i) ∧ ig_LT c M0 (ch i) (ig_tv (cl i) (fun _ => 0))) {i j : Nat} {τ1 τ2 : Nat → Nat} (hi : i < N) (hj : j < N)
    (hcc : ig_CC c N cl (cl i) (ch i) (cl j) (ch j)) (t1 : ∀ v, τ1 v < ig_n c) (t2 : ∀ v, τ2 v < ig_n c) (m1 : ig_Mn c N cl i τ1) (m2 : ig_Mn c N cl j τ2)
    (hs : ig_P c (ch i) ≠ ig_P c (ch j)) (hl : ig_lit c (ch i) (ig_tv (cl i) τ1) = ig_lit c (ch j) (ig_tv (cl j) τ2)) : False := by
  have vi := hV i hi
  have vj := hV j hj
  obtain ⟨ai, si⟩ := hsel i hi
  obtain ⟨aj, sj⟩ := hsel j hj
  have li := ig_At_LO hA vi ai
  have lj := ig_At_LO hA vj aj
  have hn := w.2.1
  have b1 := ig_tv_n w vi t1
  have b2 := ig_tv_n w vj t2
  have inj := ig_ao_inj w li.2.1 (ig_gv_n li.2.2.1 hn b1) (ig_gv_n li.2.2.2.1 hn b1) lj.2.1 (ig_gv_n lj.2.2.1 hn b2) (ig_gv_n lj.2.2.2.1 hn b2) hl
  have ep := inj.1
  have w5 := (w.2.2.2.2.1 _ li.2.1).1
  have e2 : ig_gv (ig_tv (cl i) τ1) (ig_P c (ch i + 2)) = ig_gv (ig_tv (cl j) τ2) (ig_P c (ch j + 2)) := by
    by_cases z : ig_ar c (ig_P c (ch i + 1)) = 0
    · rw [li.2.2.2.2.1 z, lj.2.2.2.2.1 (by rw [← ep]; exact z)]; rfl
    · exact inj.2.1 z
  have e3 : ig_gv (ig_tv (cl i) τ1) (ig_P c (ch i + 3)) = ig_gv (ig_tv (cl j) τ2) (ig_P c (ch j + 3)) := by
    by_cases z : ig_ar c (ig_P c (ch i + 1)) ≤ 1
    · rw [li.2.2.2.2.2 z, lj.2.2.2.2.2 (by rw [← ep]; exact z)]; rfl
    · exact inj.2.2 (by omega)
  obtain ⟨x2, x3⟩ := ig_arg w hA vi ai
  obtain ⟨y2, y3⟩ := ig_arg w hA vj aj
  have th : ∃ θ : Nat → Nat, (∀ k, k < 4 → θ k = k) ∧ (∀ v, 4 ≤ v → v ≤ 6 → θ (v + 0) = τ1 v) ∧ (∀ v, 4 ≤ v → v ≤ 6 → θ (v + 3) = τ2 v) := by
    refine ⟨fun k => if k < 4 then k else if k < 7 then τ1 k else τ2 (k - 3), fun k hk => if_pos hk, fun v v4 v6 => ?_, fun v v4 v6 => ?_⟩
    · show (if v < 4 then v else if v < 7 then τ1 v else τ2 (v - 3)) = _
      rw [if_neg (by omega), if_pos (by omega)]
    · show (if v + 3 < 4 then v + 3 else if v + 3 < 7 then τ1 (v + 3) else τ2 (v + 3 - 3)) = _
      rw [if_neg (by omega), if_neg (by omega), Nat.add_sub_cancel]
  obtain ⟨θ, h0, hL, hR⟩ := th
  have tl : ∀ s, s ≤ 6 → θ s = ig_gv τ1 s := by
    intro s s6
    rcases Nat.lt_or_ge s 4 with z | z
    · rw [h0 s z, ig_gv_c z]
    · rw [ig_gv_v z]; exact hL s z s6
  have tr : ∀ s, s ≤ 6 → θ (ig_up s) = ig_gv τ2 s := by
    intro s s6
    unfold ig_up
    rcases Nat.lt_or_ge s 4 with z | z
    · rw [if_pos z, h0 s z, ig_gv_c z]
    · rw [if_neg (by omega), ig_gv_v z]; exact hR s z s6
  have hE : ∀ a b, ig_E c (cl i) (ch i) (cl j) (ch j) a b → θ a = θ b := by
    rintro a b ((f | ⟨rfl, rfl⟩) | ⟨rfl, rfl⟩)
    · exact f.elim
    · rw [tl _ (by omega), tr _ (by omega), ← ig_gv_tv, ← ig_gv_tv]; exact e2
    · rw [tl _ (by omega), tr _ (by omega), ← ig_gv_tv, ← ig_gv_tv]; exact e3
  rcases hcc hs ep with no | ⟨g, u, ⟨a, ha, ea⟩, ⟨b, hb, eb⟩⟩
  · exact no θ h0 hE
  have da := ig_VC_6 w vi
  have db := ig_VC_6 w vj
  have ka := m1 a ha (by rw [ea, ig_nar_s]) τ1 t1 (by rw [ea]; exact ig_nar_tv u (by omega) da h0 hL hE)
  have kb := m2 b hb (by rw [eb, ig_nar_s]) τ2 t2 (by rw [eb]; exact ig_nar_tv u (by omega) db h0 hR hE)
  have fa : ig_nar g 0 (cl i) = cl i := by have := ig_nar_le g 0 (cl i); omega
  have fb : ig_nar g 3 (cl j) = cl j := by have := ig_nar_le g 3 (cl j); omega
  have im0 : ∀ t, ig_TO (ig_n c) t → ig_im g 0 (ig_rs (cl i) t) = ig_rs (cl i) t := by
    intro t ht
    rcases ht with z | ⟨z, z'⟩
    · rw [ig_rs_c (by omega), ig_im_c (by omega)]
    · rw [← ig_nar_r g 0 (cl i) t z z', fa]
  have im3 : ∀ t, ig_TO (ig_n c) t → ig_im g 3 (ig_rs (cl j) t) = ig_rs (cl j) t := by
    intro t ht
    rcases ht with z | ⟨z, z'⟩
    · rw [ig_rs_c (by omega), ig_im_c (by omega)]
    · rw [← ig_nar_r g 3 (cl j) t z z', fb]
  have q2 := ig_idle u (u.2.2.1 _ _ (Or.inl (Or.inr ⟨rfl, rfl⟩))).2.2 (by omega) (by omega) (im0 _ li.2.2.1) (im3 _ lj.2.2.1)
  have q3 := ig_idle u (u.2.2.1 _ _ (Or.inr ⟨rfl, rfl⟩)).2.2 (by omega) (by omega) (im0 _ li.2.2.2.1) (im3 _ lj.2.2.2.1)
  have el : ig_lit c (ch i) (ig_tv (cl i) (fun _ => 0)) = ig_lit c (ch j) (ig_tv (cl j) (fun _ => 0)) := by
    unfold ig_lit
    rw [ig_gv_tv, ig_gv_tv, ig_gv_tv, ig_gv_tv, ep, q2, q3]
  unfold ig_LT at si sj
  rw [el] at si
  have pi := li.1
  have pj := lj.1
  have : ig_P c (ch i) = 1 ↔ ig_P c (ch j) = 1 := si.symm.trans sj
  omega
/-- a list that is closed under clashes has a model -/
theorem ig_complete {c : ig_C} {S : Nat → Prop} {N : Nat} {cl ch : Nat → Nat} {M0 : Nat → Bool} (w : ig_WF c) (hA : ∀ s, S s → ig_AS c s) (hV : ∀ i, i < N → ig_VC c S (cl i))
    (hsel : ∀ i, i < N → ig_At c (cl i) (ch i) ∧ ig_LT c M0 (ch i) (ig_tv (cl i) (fun _ => 0)))
    (hcc : ∀ i j, j < i → i < N → ig_CC c N cl (cl i) (ch i) (cl j) (ch j)) : ig_Sat c N cl := by
  have cf : ∀ i j (τ1 τ2 : Nat → Nat), i < N → j < N → (∀ v, τ1 v < ig_n c) → (∀ v, τ2 v < ig_n c) → ig_Mn c N cl i τ1 → ig_Mn c N cl j τ2 → ig_P c (ch i) ≠ ig_P c (ch j) → ig_lit c (ch i) (ig_tv (cl i) τ1) = ig_lit c (ch j) (ig_tv (cl j) τ2) → False := by
    intro i j τ1 τ2 hi hj t1 t2 m1 m2 hs hl
    rcases Nat.lt_trichotomy i j with z | z | z
    · exact ig_conf w hA hV hsel hj hi (hcc j i z hj) t2 t1 m2 m1 (Ne.symm hs) hl.symm
    · subst z; exact hs rfl
    · exact ig_conf w hA hV hsel hi hj (hcc i j z hi) t1 t2 m1 m2 hs hl
  refine ⟨fun k => @decide (∃ i τ1, i < N ∧ (∀ v, τ1 v < ig_n c) ∧ ig_Mn c N cl i τ1 ∧ ig_P c (ch i) = 1 ∧ ig_lit c (ch i) (ig_tv (cl i) τ1) = k) (Classical.propDecidable _), ?_⟩
  intro i0 hi0 τ0 ht0
  obtain ⟨k, ⟨i, hi, ek, es, τ1, t1, e1⟩, kmin⟩ := pk_least (fun k => ∃ i, i < N ∧ cl i = k ∧ cl i / 512 = cl i0 / 512 ∧ ∃ τ : Nat → Nat, (∀ v, τ v < ig_n c) ∧ ∀ v, 4 ≤ v → v ≤ 6 → ig_tv (cl i) τ v = ig_tv (cl i0) τ0 v) ⟨cl i0, i0, hi0, rfl, rfl, τ0, ht0, fun _ _ _ => rfl⟩
  have mn : ig_Mn c N cl i τ1 := by
    intro a ha hs τ hτ ht
    rcases Nat.lt_or_ge (cl a) (cl i) with z | z
    · exact (kmin (cl a) (by omega) ⟨a, ha, rfl, hs.trans es, τ, hτ, fun v v4 v6 => (ht v v4 v6).trans (e1 v v4 v6)⟩).elim
    · exact z
  obtain ⟨⟨q, hq, eq⟩, _⟩ := hsel i hi
  rw [← es]
  refine ig_CT_congr (hA _ (hV i hi).2.1).2.2 (fun v v4 v6 _ => e1 v v4 v6) w.2.1 ⟨q, hq, ?_⟩
  rw [← eq]
  constructor
  · intro h
    obtain ⟨i', τ', hi', t', m', p', l'⟩ := @of_decide_eq_true _ (Classical.propDecidable _) h
    refine Classical.byContradiction fun hp => ?_
    exact cf i i' τ1 τ' hi hi' t1 t' mn m' (by rw [p']; exact hp) l'.symm
  · intro h
    exact @decide_eq_true _ (Classical.propDecidable _) ⟨i, τ1, hi, t1, mn, h, rfl⟩
end
section
/-! counting closures and ground instances -/
def ig_ob (c : ig_C) (s v : Nat) : Bool := (List.range (ig_L c s)).any (fun q => ig_P c (s * 16 + q * 4 + 2) == v || ig_P c (s * 16 + q * 4 + 3) == v)
theorem ig_ob_iff (c : ig_C) (s v : Nat) : ig_ob c s v = true ↔ ig_occ c s v := by
  unfold ig_ob ig_occ
  rw [List.any_eq_true]
  constructor
  · rintro ⟨q, hq, h⟩
    rw [List.mem_range] at hq
    rw [Bool.or_eq_true, beq_iff_eq, beq_iff_eq] at h
    exact ⟨q, hq, h⟩
  · rintro ⟨q, hq, h⟩
    refine ⟨q, List.mem_range.mpr hq, ?_⟩
    rw [Bool.or_eq_true, beq_iff_eq, beq_iff_eq]
    exact h
def ig_ok (n : Nat) (o4 o5 o6 : Bool) (d : Nat) : Bool :=
  (d / 64 % 8 == 4 || (o4 && Nat.blt (d / 64 % 8) n)) &&
  (d / 8 % 8 == 5 || (o5 && (Nat.blt (d / 8 % 8) n || (d / 8 % 8 == 4 && o4 && d / 64 % 8 == 4)))) &&
  (d % 8 == 6 || (o6 && (Nat.blt (d % 8) n || (d % 8 == 4 && o4 && d / 64 % 8 == 4) || (d % 8 == 5 && o5 && d / 8 % 8 == 5))))
def ig_ds (n : Nat) (o4 o5 o6 : Bool) : List Nat := (List.range 512).filter (ig_ok n o4 o5 o6)
def ig_wy (n : Nat) (o4 o5 o6 : Bool) : Nat := (bif o4 then n else 1) * (bif o5 then n else 1) * (bif o6 then n else 1)
theorem ig_ds_len : ∀ n, n < 5 → 1 ≤ n → ∀ o4 o5 o6 : Bool, (n = 1 → (ig_ds n o4 o5 o6).length ≤ 15) ∧ (2 ≤ n → 8 * (ig_ds n o4 o5 o6).length ≤ 37 * ig_wy n o4 o5 o6) := by decide +kernel
theorem ig_ds_1 : ∀ n, n < 5 → 1 ≤ n → (ig_ds n false false false).length = 1 := by decide +kernel
theorem ig_VC_mem {c : ig_C} {S : Nat → Prop} {p : Nat} (h : ig_VC c S p) : p % 512 ∈ ig_ds (ig_n c) (ig_ob c (p / 512) 4) (ig_ob c (p / 512) 5) (ig_ob c (p / 512) 6) := by
  have h4 := h.2.2 4 (by omega) (by omega)
  have h5 := h.2.2 5 (by omega) (by omega)
  have h6 := h.2.2 6 (by omega) (by omega)
  unfold ig_vd at h4 h5 h6
  rw [ig_rs_4] at h4
  rw [ig_rs_5] at h5
  rw [ig_rs_6] at h6
  have a : p % 512 / 64 % 8 = p / 64 % 8 := by omega
  have b : p % 512 / 8 % 8 = p / 8 % 8 := by omega
  have d : p % 512 % 8 = p % 8 := by omega
  unfold ig_ds
  rw [List.mem_filter]
  refine ⟨List.mem_range.mpr (by omega), ?_⟩
  unfold ig_ok
  rw [a, b, d]
  rw [Bool.and_eq_true, Bool.and_eq_true]
  refine ⟨⟨?_, ?_⟩, ?_⟩
  · rcases h4 with e | ⟨o, e | e⟩
    · rw [e]; rfl
    · rw [(ig_ob_iff c _ 4).mpr o, Bool.or_eq_true]; right
      rw [Bool.true_and]; exact Nat.ble_eq.mpr e
    · omega
  · rcases h5 with e | ⟨o, e | ⟨e1, e2, e3, e4⟩⟩
    · rw [e]; rfl
    · rw [(ig_ob_iff c _ 5).mpr o, Bool.or_eq_true]; right
      rw [Bool.true_and, Bool.or_eq_true]; left; exact Nat.ble_eq.mpr e
    · have e5 : p / 8 % 8 = 4 := by omega
      rw [e5] at e3 e4
      rw [ig_rs_4] at e4
      rw [(ig_ob_iff c _ 5).mpr o, (ig_ob_iff c _ 4).mpr e3, e5, e4]
      simp
  · rcases h6 with e | ⟨o, e | ⟨e1, e2, e3, e4⟩⟩
    · rw [e]; rfl
    · rw [(ig_ob_iff c _ 6).mpr o, Bool.or_eq_true]; right
      rw [Bool.true_and, Bool.or_eq_true]; left; rw [Bool.or_eq_true]; left; exact Nat.ble_eq.mpr e
    · rcases (show p % 8 = 4 ∨ p % 8 = 5 by omega) with e5 | e5
      · rw [e5] at e3 e4
        rw [ig_rs_4] at e4
        rw [(ig_ob_iff c _ 6).mpr o, (ig_ob_iff c _ 4).mpr e3, e5, e4]
        simp
      · rw [e5] at e3 e4
        rw [ig_rs_5] at e4
        rw [(ig_ob_iff c _ 6).mpr o, (ig_ob_iff c _ 5).mpr e3, e5, e4]
        simp
def ig_row (c : ig_C) (s : Nat) : List Nat := (ig_ds (ig_n c) (ig_ob c s 4) (ig_ob c s 5) (ig_ob c s 6)).map (fun d => s * 512 + d)
theorem ig_row_mem {c : ig_C} {S : Nat → Prop} {p : Nat} (h : ig_VC c S p) : p ∈ ig_row c (p / 512) := by
  unfold ig_row
  rw [List.mem_map]
  exact ⟨p % 512, ig_VC_mem h, by omega⟩
def ig_ws (c : ig_C) (s : Nat) : Nat := ig_wy (ig_n c) (ig_ob c s 4) (ig_ob c s 5) (ig_ob c s 6)
def ig_sw (c : ig_C) : Nat → Nat
  | 0 => 0
  | s + 1 => ig_sw c s + ig_ws c s
def ig_uv (c : ig_C) : Nat → List Nat
  | 0 => []
  | s + 1 => ig_uv c s ++ ig_row c s
theorem ig_uv_mem {c : ig_C} {p : Nat} : ∀ {k s : Nat}, s < k → p ∈ ig_row c s → p ∈ ig_uv c k
  | 0, _, h, _ => by omega
  | k + 1, s, h, hp => by
    unfold ig_uv
    rw [List.mem_append]
    rcases Nat.lt_or_ge s k with z | z
    · left; exact ig_uv_mem z hp
    · right; rw [show k = s by omega]; exact hp
theorem ig_uv_len {c : ig_C} (w : ig_WF c) : ∀ k, (ig_n c = 1 → (ig_uv c k).length ≤ 15 * k) ∧ (2 ≤ ig_n c → 8 * (ig_uv c k).length ≤ 37 * ig_sw c k)
  | 0 => ⟨fun _ => Nat.le_refl _, fun _ => Nat.le_refl _⟩
  | k + 1 => by
    have ih := ig_uv_len w k
    have d := ig_ds_len (ig_n c) (by have := w.2.1; omega) w.1 (ig_ob c k 4) (ig_ob c k 5) (ig_ob c k 6)
    unfold ig_uv ig_sw ig_row
    rw [List.length_append, List.length_map]
    constructor
    · intro h; have := ih.1 h; have := d.1 h; omega
    · intro h; have := ih.2 h; have := d.2 h; unfold ig_ws; omega
/-- rows of the assumed units -/
def ig_un (c : ig_C) : Nat → List Nat
  | 0 => []
  | m + 1 => ig_un c m ++ ig_row c (13 + m)
theorem ig_un_mem {c : ig_C} {p : Nat} : ∀ {k s : Nat}, s < k → p ∈ ig_row c (13 + s) → p ∈ ig_un c k
  | 0, _, h, _ => by omega
  | k + 1, s, h, hp => by
    unfold ig_un
    rw [List.mem_append]
    rcases Nat.lt_or_ge s k with z | z
    · left; exact ig_un_mem z hp
    · right; rw [show k = s by omega]; exact hp
theorem ig_un_len {c : ig_C} (w : ig_WF c) : ∀ m, (∀ k, k < m → ∀ v, 4 ≤ v → ¬ ig_occ c (13 + k) v) → (ig_un c m).length = m
  | 0, _ => rfl
  | m + 1, h => by
    have f : ∀ v, 4 ≤ v → ig_ob c (13 + m) v = false := fun v hv => by
      rw [Bool.eq_false_iff]; exact fun e => h m (by omega) v hv ((ig_ob_iff c _ v).mp e)
    unfold ig_un ig_row
    rw [List.length_append, List.length_map, ig_un_len w m (fun k hk => h k (by omega)), f 4 (by omega), f 5 (by omega), f 6 (by omega), ig_ds_1 _ (by have := w.2.1; omega) w.1]
/-- few closures can arise -/
def ig_Cap (c : ig_C) (S : Nat → Prop) : Prop := ∃ V : List Nat, V.length ≤ 255 ∧ ∀ p, ig_VC c S p → p ∈ V
def ig_Sl (k m : Nat) (s : Nat) : Prop := s < k ∨ (13 ≤ s ∧ s < 13 + m)
theorem ig_cap {c : ig_C} (w : ig_WF c) {k m : Nat} (hk : k ≤ 12) (hm : m ≤ 10) (hw : ig_sw c k ≤ 48) (hu : ∀ i, i < m → ∀ v, 4 ≤ v → ¬ ig_occ c (13 + i) v) : ig_Cap c (ig_Sl k m) := by
  refine ⟨ig_uv c k ++ ig_un c m, ?_, fun p hp => ?_⟩
  · rw [List.length_append, ig_un_len w m hu]
    have u := ig_uv_len w k
    have h1 := w.1
    rcases (show ig_n c = 1 ∨ 2 ≤ ig_n c by omega) with z | z
    · have := u.1 z; omega
    · have := u.2 z; omega
  · rw [List.mem_append]
    have hr := ig_row_mem hp
    rcases hp.2.1 with z | ⟨z, z'⟩
    · left; exact ig_uv_mem z hr
    · right
      rw [show p / 512 = 13 + (p / 512 - 13) by omega] at hr
      exact ig_un_mem (show p / 512 - 13 < m by omega) hr
theorem ig_pig : ∀ (N : Nat) (f : Nat → Nat) (l : List Nat), (∀ i, i < N → f i ∈ l) → (∀ i j, i < j → j < N → f i ≠ f j) → N ≤ l.length
  | 0, _, _, _, _ => Nat.zero_le _
  | N + 1, f, l, h, d => by
    have hm := h N (by omega)
    have ih := ig_pig N f (l.erase (f N)) (fun i hi => (List.mem_erase_of_ne (d i N hi (by omega))).mpr (h i (by omega))) (fun i j a b => d i j a (by omega))
    rw [List.length_erase_of_mem hm] at ih
    have := List.length_pos_of_mem hm
    omega
theorem ig_cap_lt {c : ig_C} {S : Nat → Prop} (h : ig_Cap c S) {N : Nat} {cl : Nat → Nat} (hV : ∀ i, i < N → ig_VC c S (cl i)) (hd : ∀ i j, i < j → j < N → cl i ≠ cl j) : N ≤ 255 := by
  obtain ⟨V, hV1, hV2⟩ := h
  exact Nat.le_trans (ig_pig N cl V (fun i hi => hV2 _ (hV i hi)) hd) hV1
/-! ground instances -/
def ig_ic (n : Nat) (o4 o5 o6 : Bool) (d : Nat) : Bool := Nat.blt (d / 16) n && Nat.blt (d / 4 % 4) n && Nat.blt (d % 4) n && (o4 || d / 16 == 0) && (o5 || d / 4 % 4 == 0) && (o6 || d % 4 == 0)
def ig_il (n : Nat) (o4 o5 o6 : Bool) : List Nat := (List.range 64).filter (ig_ic n o4 o5 o6)
def ig_gd (n : Nat) (o4 o5 o6 : Bool) (k : Nat) : Nat :=
  let r6 := bif o6 then k / n else k
  let r5 := bif o5 then r6 / n else r6
  (bif o4 then r5 % n else 4) * 64 + (bif o5 then r6 % n else 5) * 8 + (bif o6 then k % n else 6)
def ig_pd (o4 o5 o6 : Bool) (d : Nat) : Nat := (bif o4 then d / 16 else 4) * 64 + (bif o5 then d / 4 % 4 else 5) * 8 + (bif o6 then d % 4 else 6)
theorem ig_il_len : ∀ n, n < 5 → 1 ≤ n → ∀ o4 o5 o6 : Bool, (ig_il n o4 o5 o6).length = ig_wy n o4 o5 o6 := by decide +kernel
theorem ig_il_gd : ∀ n, n < 5 → 1 ≤ n → ∀ o4 o5 o6 : Bool, ∀ k, k < 64 → k < ig_wy n o4 o5 o6 → ig_gd n o4 o5 o6 k = ig_pd o4 o5 o6 ((ig_il n o4 o5 o6).getD k 0) := by decide +kernel
def ig_inr (c : ig_C) (s : Nat) : List Nat := (ig_il (ig_n c) (ig_ob c s 4) (ig_ob c s 5) (ig_ob c s 6)).map (fun d => s * 64 + d)
def ig_fl (c : ig_C) : Nat → List Nat
  | 0 => []
  | s + 1 => ig_fl c s ++ ig_inr c s
theorem ig_inr_len {c : ig_C} (w : ig_WF c) (s : Nat) : (ig_inr c s).length = ig_ws c s := by
  unfold ig_inr ig_ws
  rw [List.length_map, ig_il_len _ (by have := w.2.1; omega) w.1]
theorem ig_fl_len {c : ig_C} (w : ig_WF c) : ∀ k, (ig_fl c k).length = ig_sw c k
  | 0 => rfl
  | k + 1 => by unfold ig_fl ig_sw; rw [List.length_append, ig_fl_len w k, ig_inr_len w]
theorem ig_inr_mem {c : ig_C} {s e : Nat} (h : e ∈ ig_inr c s) : e / 64 = s ∧ e % 64 ∈ ig_il (ig_n c) (ig_ob c s 4) (ig_ob c s 5) (ig_ob c s 6) := by
  unfold ig_inr at h
  rw [List.mem_map] at h
  obtain ⟨d, hd, rfl⟩ := h
  have h64 : d < 64 := by
    unfold ig_il at hd
    exact List.mem_range.mp (List.mem_filter.mp hd).1
  have a : (s * 64 + d) / 64 = s := by omega
  have b : (s * 64 + d) % 64 = d := by omega
  rw [a, b]; exact ⟨rfl, hd⟩
theorem ig_mem_inr {c : ig_C} {s d : Nat} (h : d ∈ ig_il (ig_n c) (ig_ob c s 4) (ig_ob c s 5) (ig_ob c s 6)) : s * 64 + d ∈ ig_inr c s := by
  unfold ig_inr
  rw [List.mem_map]
  exact ⟨d, h, rfl⟩
theorem ig_fl_mem {c : ig_C} {e : Nat} : ∀ {k : Nat}, e ∈ ig_fl c k → e / 64 < k ∧ e ∈ ig_inr c (e / 64)
  | 0, h => by unfold ig_fl at h; cases h
  | k + 1, h => by
    unfold ig_fl at h
    rw [List.mem_append] at h
    rcases h with h | h
    · have := ig_fl_mem h; exact ⟨by omega, this.2⟩
    · have e := (ig_inr_mem h).1
      rw [e]; exact ⟨by omega, h⟩
theorem ig_mem_fl {c : ig_C} {e : Nat} : ∀ {k s : Nat}, s < k → e ∈ ig_inr c s → e ∈ ig_fl c k
  | 0, _, h, _ => by omega
  | k + 1, s, h, he => by
    unfold ig_fl
    rw [List.mem_append]
    rcases Nat.lt_or_ge s k with z | z
    · left; exact ig_mem_fl z he
    · right; rw [show k = s by omega]; exact he
/-- the values of a code -/
def ig_va (d v : Nat) : Nat := if v = 4 then d / 16 % 4 else if v = 5 then d / 4 % 4 else d % 4
def ig_pk (c : ig_C) (e : Nat) : Nat := e / 64 * 512 + ig_pd (ig_ob c (e / 64) 4) (ig_ob c (e / 64) 5) (ig_ob c (e / 64) 6) (e % 64)
def ig_rt (s : Nat) : Nat := s * 512 + 302
theorem ig_ic_iff {n : Nat} {o4 o5 o6 : Bool} {d : Nat} (hd : d < 64) : ig_ic n o4 o5 o6 d = true ↔ (ig_va d 4 < n ∧ ig_va d 5 < n ∧ ig_va d 6 < n ∧ (o4 = true ∨ ig_va d 4 = 0) ∧ (o5 = true ∨ ig_va d 5 = 0) ∧ (o6 = true ∨ ig_va d 6 = 0)) := by
  have e : d / 16 = d / 16 % 4 := by omega
  unfold ig_ic
  rw [Bool.and_eq_true, Bool.and_eq_true, Bool.and_eq_true, Bool.and_eq_true, Bool.and_eq_true, Bool.or_eq_true, Bool.or_eq_true, Bool.or_eq_true, beq_iff_eq, beq_iff_eq, beq_iff_eq]
  unfold Nat.blt
  rw [Nat.ble_eq, Nat.ble_eq, Nat.ble_eq, e]
  show _ ↔ (d / 16 % 4 < n ∧ d / 4 % 4 < n ∧ d % 4 < n ∧ (o4 = true ∨ d / 16 % 4 = 0) ∧ (o5 = true ∨ d / 4 % 4 = 0) ∧ (o6 = true ∨ d % 4 = 0))
  constructor
  · rintro ⟨⟨⟨⟨⟨a, b⟩, c⟩, d⟩, e⟩, f⟩; exact ⟨a, b, c, d, e, f⟩
  · rintro ⟨a, b, c, d, e, f⟩; exact ⟨⟨⟨⟨⟨a, b⟩, c⟩, d⟩, e⟩, f⟩
theorem ig_il_mem {n : Nat} {o4 o5 o6 : Bool} {d : Nat} (h : d ∈ ig_il n o4 o5 o6) : d < 64 ∧ ig_ic n o4 o5 o6 d = true := by
  unfold ig_il at h
  rw [List.mem_filter] at h
  exact ⟨List.mem_range.mp h.1, h.2⟩
theorem ig_mem_il {n : Nat} {o4 o5 o6 : Bool} {d : Nat} (hd : d < 64) (h : ig_ic n o4 o5 o6 d = true) : d ∈ ig_il n o4 o5 o6 := by
  unfold ig_il
  rw [List.mem_filter]
  exact ⟨List.mem_range.mpr hd, h⟩
theorem ig_va_n {n : Nat} {o4 o5 o6 : Bool} {d : Nat} (h : d ∈ ig_il n o4 o5 o6) : ∀ v, 4 ≤ v → v ≤ 6 → ig_va d v < n := by
  have h2 := ig_il_mem h
  have i := (ig_ic_iff h2.1).mp h2.2
  exact ig_v3 i.1 i.2.1 i.2.2.1
theorem ig_pd_dig (o4 o5 o6 : Bool) {d : Nat} (hd : d < 64) (s : Nat) : (s * 512 + ig_pd o4 o5 o6 d) / 512 = s ∧ ig_rs (s * 512 + ig_pd o4 o5 o6 d) 4 = (bif o4 then ig_va d 4 else 4) ∧ ig_rs (s * 512 + ig_pd o4 o5 o6 d) 5 = (bif o5 then ig_va d 5 else 5) ∧ ig_rs (s * 512 + ig_pd o4 o5 o6 d) 6 = (bif o6 then ig_va d 6 else 6) := by
  rw [ig_rs_4, ig_rs_5, ig_rs_6]
  show _ ∧ _ = (bif o4 then d / 16 % 4 else 4) ∧ _ = (bif o5 then d / 4 % 4 else 5) ∧ _ = (bif o6 then d % 4 else 6)
  unfold ig_pd
  cases o4 <;> cases o5 <;> cases o6 <;> simp only [cond_true, cond_false] <;> omega
theorem ig_pk_dig {c : ig_C} (e : Nat) : ig_pk c e / 512 = e / 64 ∧ ∀ v, 4 ≤ v → v ≤ 6 → ig_rs (ig_pk c e) v = (bif ig_ob c (e / 64) v then ig_va (e % 64) v else v) := by
  have h := ig_pd_dig (ig_ob c (e / 64) 4) (ig_ob c (e / 64) 5) (ig_ob c (e / 64) 6) (show e % 64 < 64 by omega) (e / 64)
  exact ⟨h.1, ig_v3 h.2.1 h.2.2.1 h.2.2.2⟩
theorem ig_rt_dig (s : Nat) : ig_rt s / 512 = s ∧ ∀ v, 4 ≤ v → v ≤ 6 → ig_rs (ig_rt s) v = v := by
  unfold ig_rt
  refine ⟨by omega, ig_v3 ?_ ?_ ?_⟩
  · rw [ig_rs_4]; omega
  · rw [ig_rs_5]; omega
  · rw [ig_rs_6]; omega
theorem ig_rt_VC {c : ig_C} {S : Nat → Prop} {s : Nat} (hs : s < 23) (h : S s) : ig_VC c S (ig_rt s) := by
  have d := ig_rt_dig s
  refine ⟨by unfold ig_rt; omega, by rw [d.1]; exact h, fun v a b => Or.inl (d.2 v a b)⟩
theorem ig_pk_VC {c : ig_C} {S : Nat → Prop} {e : Nat} (hs : e / 64 < 23) (h : S (e / 64)) (he : e ∈ ig_inr c (e / 64)) : ig_VC c S (ig_pk c e) := by
  have d := ig_pk_dig (c := c) e
  have hv := ig_va_n (ig_inr_mem he).2
  refine ⟨by omega, by rw [d.1]; exact h, fun v a b => ?_⟩
  unfold ig_vd
  rw [d.2 v a b, d.1]
  cases o : ig_ob c (e / 64) v
  · exact Or.inl rfl
  · exact Or.inr ⟨(ig_ob_iff _ _ _).mp o, Or.inl (hv v a b)⟩
theorem ig_pk_GI {c : ig_C} {M : Nat → Bool} {e : Nat} (w : ig_WF c) (co : ig_CO c (e / 64)) (he : e ∈ ig_inr c (e / 64)) : ig_GI c M (ig_pk c e) ↔ ig_CT c M (e / 64) (ig_va (e % 64)) := by
  have d := ig_pk_dig (c := c) e
  have hv := ig_va_n (ig_inr_mem he).2
  have k : ∀ τ : Nat → Nat, ∀ v, 4 ≤ v → v ≤ 6 → ig_occ c (e / 64) v → ig_tv (ig_pk c e) τ v = ig_va (e % 64) v := by
    intro τ v a b o
    unfold ig_tv
    rw [d.2 v a b, (ig_ob_iff _ _ _).mpr o, cond_true, ig_gv_c]
    have := hv v a b
    have := w.2.1
    omega
  constructor
  · intro h
    have := h (fun _ => 0) (fun _ => w.1)
    rw [d.1] at this
    exact ig_CT_congr co (k _) w.2.1 this
  · intro h τ _
    rw [d.1]
    exact ig_CT_congr co (fun v a b o => (k τ v a b o).symm) w.2.1 h
theorem ig_rt_GI0 {c : ig_C} {M : Nat → Bool} {s : Nat} (co : ig_CO c s) (hn : ig_n c ≤ 4) : ig_GI c M (ig_rt s) ↔ ∀ τ : Nat → Nat, (∀ v, τ v < ig_n c) → ig_CT c M s τ := by
  have d := ig_rt_dig s
  have k : ∀ τ : Nat → Nat, ∀ v, 4 ≤ v → v ≤ 6 → ig_tv (ig_rt s) τ v = τ v := by
    intro τ v a b
    unfold ig_tv
    rw [d.2 v a b, ig_gv_v a]
  constructor
  · intro h τ ht
    have := h τ ht
    rw [d.1] at this
    exact ig_CT_congr co (fun v a b _ => k τ v a b) hn this
  · intro h τ ht
    rw [d.1]
    exact ig_CT_congr co (fun v a b _ => (k τ v a b).symm) hn (h τ ht)
theorem ig_rt_GI {c : ig_C} {M : Nat → Bool} {s : Nat} (w : ig_WF c) (co : ig_CO c s) : ig_GI c M (ig_rt s) ↔ ∀ e, e ∈ ig_inr c s → ig_CT c M s (ig_va (e % 64)) := by
  have hn1 := w.1
  have hn4 := w.2.1
  rw [ig_rt_GI0 co hn4]
  constructor
  · intro h e he
    have hv := ig_va_n (ig_inr_mem he).2
    refine ig_CT_congr co ?_ hn4 (h (fun v => if ig_va (e % 64) v < ig_n c then ig_va (e % 64) v else 0) (fun v => ?_))
    · intro v a b _
      show (if _ then _ else _) = _
      rw [if_pos (hv v a b)]
    · show (if _ then _ else _) < _
      split
      · assumption
      · omega
  · intro h τ ht
    have t4 := ht 4
    have t5 := ht 5
    have t6 := ht 6
    have key : ∃ d, d < 64 ∧ ig_va d 4 = (bif ig_ob c s 4 then τ 4 else 0) ∧ ig_va d 5 = (bif ig_ob c s 5 then τ 5 else 0) ∧ ig_va d 6 = (bif ig_ob c s 6 then τ 6 else 0) := by
      refine ⟨(bif ig_ob c s 4 then τ 4 else 0) * 16 + (bif ig_ob c s 5 then τ 5 else 0) * 4 + (bif ig_ob c s 6 then τ 6 else 0), ?_⟩
      have b4 : (bif ig_ob c s 4 then τ 4 else 0) < 4 := by cases ig_ob c s 4 <;> simp only [cond_true, cond_false] <;> omega
      have b5 : (bif ig_ob c s 5 then τ 5 else 0) < 4 := by cases ig_ob c s 5 <;> simp only [cond_true, cond_false] <;> omega
      have b6 : (bif ig_ob c s 6 then τ 6 else 0) < 4 := by cases ig_ob c s 6 <;> simp only [cond_true, cond_false] <;> omega
      generalize (bif ig_ob c s 4 then τ 4 else 0) = x at b4
      generalize (bif ig_ob c s 5 then τ 5 else 0) = y at b5
      generalize (bif ig_ob c s 6 then τ 6 else 0) = z at b6
      show _ ∧ (x * 16 + y * 4 + z) / 16 % 4 = x ∧ (x * 16 + y * 4 + z) / 4 % 4 = y ∧ (x * 16 + y * 4 + z) % 4 = z
      omega
    obtain ⟨d, d64, v4, v5, v6⟩ := key
    have hm : d ∈ ig_il (ig_n c) (ig_ob c s 4) (ig_ob c s 5) (ig_ob c s 6) := by
      refine ig_mem_il d64 ((ig_ic_iff d64).mpr ?_)
      rw [v4, v5, v6]
      cases ig_ob c s 4 <;> cases ig_ob c s 5 <;> cases ig_ob c s 6 <;> simp only [cond_true, cond_false] <;> simp <;> omega
    have := h _ (ig_mem_inr hm)
    rw [show (s * 64 + d) % 64 = d by omega] at this
    refine ig_CT_congr co ?_ hn4 this
    refine ig_v3 ?_ ?_ ?_
    · intro o; rw [v4, (ig_ob_iff _ _ _).mpr o]; rfl
    · intro o; rw [v5, (ig_ob_iff _ _ _).mpr o]; rfl
    · intro o; rw [v6, (ig_ob_iff _ _ _).mpr o]; rfl
end
section
/-! counts (turned from the worked example large-2) and masks -/
noncomputable def ig_b01 (P : Prop) : Nat := @ite Nat P (Classical.propDecidable P) 1 0
theorem ig_b01_t {P : Prop} (h : P) : ig_b01 P = 1 := by unfold ig_b01; rw [if_pos h]
theorem ig_b01_f {P : Prop} (h : ¬ P) : ig_b01 P = 0 := by unfold ig_b01; rw [if_neg h]
theorem ig_b01_le (P : Prop) : ig_b01 P ≤ 1 := by
  rcases Classical.em P with h | h
  · rw [ig_b01_t h]; omega
  · rw [ig_b01_f h]; omega
theorem ig_b01_mono {P Q : Prop} (h : P → Q) : ig_b01 P ≤ ig_b01 Q := by
  rcases Classical.em P with hp | hp
  · rw [ig_b01_t hp, ig_b01_t (h hp)]; omega
  · rw [ig_b01_f hp]; omega
noncomputable def ig_cn (P : Nat → Prop) : Nat → Nat
  | 0 => 0
  | k + 1 => ig_cn P k + ig_b01 (P k)
theorem ig_cn_mono {P Q : Nat → Prop} : ∀ {N : Nat}, (∀ k, k < N → P k → Q k) → ig_cn P N ≤ ig_cn Q N
  | 0, _ => Nat.le_refl _
  | N + 1, h => by
    have a := ig_cn_mono (P := P) (Q := Q) (N := N) (fun k hk => h k (by omega))
    have b := ig_b01_mono (h N (by omega))
    simp only [ig_cn]; omega
theorem ig_cn_lt {P Q : Nat → Prop} {a : Nat} (hp : ¬ P a) (hq : Q a) : ∀ {N : Nat}, (∀ k, k < N → P k → Q k) → a < N → ig_cn P N < ig_cn Q N
  | 0, _, h => by omega
  | N + 1, h, ha => by
    simp only [ig_cn]
    rcases Nat.lt_or_ge a N with z | z
    · have x := ig_cn_lt hp hq (N := N) (fun k hk => h k (by omega)) z
      have b := ig_b01_mono (h N (by omega))
      omega
    · have e : a = N := by omega
      subst e
      have x := ig_cn_mono (P := P) (Q := Q) (N := a) (fun k hk => h k (by omega))
      rw [ig_b01_t hq, ig_b01_f hp]; omega
theorem ig_cn_le (P : Nat → Prop) : ∀ N, ig_cn P N ≤ N
  | 0 => Nat.le_refl _
  | N + 1 => by have := ig_cn_le P N; have := ig_b01_le (P N); simp only [ig_cn]; omega
/-- free atoms -/
noncomputable def ig_fr (A : Nat) (t f : Int32) : Nat := ig_cn (fun k => bt t k = false ∧ bt f k = false) A
theorem ig_fr_le (A : Nat) (t f : Int32) : ig_fr A t f ≤ A := ig_cn_le _ _
theorem ig_fr_mono {A : Nat} {t f t' f' : Int32} (ht : ∀ k, bt t k = true → bt t' k = true) (hf : ∀ k, bt f k = true → bt f' k = true) : ig_fr A t' f' ≤ ig_fr A t f := by
  refine ig_cn_mono fun k _ h => ⟨?_, ?_⟩
  · cases e : bt t k
    · rfl
    · rw [ht k e] at h; exact absurd h.1 (by decide)
  · cases e : bt f k
    · rfl
    · rw [hf k e] at h; exact absurd h.2 (by decide)
theorem ig_fr_lt {A a : Nat} {t f t' f' : Int32} (ht : ∀ k, bt t k = true → bt t' k = true) (hf : ∀ k, bt f k = true → bt f' k = true) (ha : a < A) (h0 : bt t a = false ∧ bt f a = false) (h1 : bt t' a = true ∨ bt f' a = true) : ig_fr A t' f' < ig_fr A t f := by
  refine ig_cn_lt (a := a) ?_ h0 (fun k _ h => ⟨?_, ?_⟩) ha
  · rintro ⟨x, y⟩
    rcases h1 with z | z
    · rw [x] at z; cases z
    · rw [y] at z; cases z
  · cases e : bt t k
    · rfl
    · rw [ht k e] at h; exact absurd h.1 (by decide)
  · cases e : bt f k
    · rfl
    · rw [hf k e] at h; exact absurd h.2 (by decide)
theorem ig_b_lt {x : Int32} {k : Nat} (h : bt x k = true) : k < 32 := by
  rcases Nat.lt_or_ge k 32 with z | z
  · exact z
  · rw [b_big z] at h; cases h
theorem ig_b_ne {x : Int32} (h : ¬ x = 0) : ∃ k, bt x k = true := by
  refine Classical.byContradiction fun hn => h (b_ext fun i _ => ?_)
  rw [b_0]
  cases e : bt x i
  · rfl
  · exact (hn ⟨i, e⟩).elim
theorem ig_b_eq {x : Int32} (h : x = 0) (k : Nat) : bt x k = false := by rw [h]; exact b_0 k
theorem ig_b_not {x : Int32} {k : Nat} (hk : k < 32) : bt (x ^^^ (-1)) k = !bt x k := by
  rw [b_xor, b_m1 k hk]; cases bt x k <;> rfl
theorem ig_nat {x : Int32} (h : ∀ k, bt x k = true → k < 10) : ∃ o, o < 1024 ∧ x = nI o := by
  refine ⟨x.toBitVec.toNat, ?_, ?_⟩
  · refine Nat.lt_pow_two_of_testBit (n := 10) _ fun i hi => ?_
    rw [BitVec.testBit_toNat]
    cases e : x.toBitVec.getLsbD i
    · rfl
    · have := h i e; omega
  · apply Int32.toBitVec_inj.mp
    show x.toBitVec = BitVec.ofNat 32 x.toBitVec.toNat
    rw [BitVec.ofNat_toNat, BitVec.setWidth_eq]
theorem ig_p2 : ∀ a, a < 10 → ∀ k, k < 32 → bt (nI (2 ^ a)) k = decide (k = a) := by decide +kernel
theorem ig_p2b {a k : Nat} (ha : a < 10) : bt (nI (2 ^ a)) k = true ↔ k = a := by
  constructor
  · intro h
    rw [ig_p2 a ha k (ig_b_lt h)] at h
    exact of_decide_eq_true h
  · intro h
    rw [ig_p2 a ha k (by omega)]
    exact decide_eq_true h
theorem ig_one0 : ∀ o, o < 1024 → nI o ≠ 0 → (nI o &&& (nI o - 1)) = 0 → ∃ a, a < 10 ∧ nI o = nI (2 ^ a) := by decide +kernel
theorem ig_low0 : ∀ o, o < 1024 → nI o ≠ 0 → ∃ a, a < 10 ∧ bt (nI o) a = true ∧ (nI o &&& -(nI o)) = nI (2 ^ a) := by decide +kernel
theorem ig_one {x : Int32} (h : ∀ k, bt x k = true → k < 10) (h0 : ¬ x = 0) (h1 : (x &&& (x - 1)) = 0) : ∃ a, a < 10 ∧ ∀ k, bt x k = true ↔ k = a := by
  obtain ⟨o, ho, rfl⟩ := ig_nat h
  obtain ⟨a, ha, e⟩ := ig_one0 o ho h0 h1
  exact ⟨a, ha, fun k => by rw [e]; exact ig_p2b ha⟩
theorem ig_low {x : Int32} (h : ∀ k, bt x k = true → k < 10) (h0 : ¬ x = 0) : ∃ a, a < 10 ∧ bt x a = true ∧ (x &&& -x) = nI (2 ^ a) := by
  obtain ⟨o, ho, rfl⟩ := ig_nat h
  exact ig_low0 o ho h0
theorem ig_bit0 : ∀ a, a < 10 → (1 : Int32) <<< (nI a &&& 31) = nI (2 ^ a) := by decide +kernel
theorem ig_all0 : ∀ A, A < 11 → ∀ k, k < 32 → bt (((1 : Int32) <<< (nI A &&& 31)) - 1) k = decide (k < A) := by decide +kernel
/-- the free atoms as a mask -/
theorem ig_free {A : Nat} {t f : Int32} (hA : A ≤ 10) (k : Nat) : bt ((((1 : Int32) <<< (nI A &&& 31)) - 1) &&& ((t ||| f) ^^^ (-1))) k = true ↔ (k < A ∧ bt t k = false ∧ bt f k = false) := by
  rcases Nat.lt_or_ge k 32 with z | z
  · rw [b_and, ig_b_not z, b_or, ig_all0 A (by omega) k z, Bool.and_eq_true, decide_eq_true_eq]
    cases bt t k <;> cases bt f k <;> simp
  · rw [b_big z]
    constructor
    · intro h; cases h
    · intro h; omega
def ig_sm (M : Nat → Bool) (pos neg : Int32) : Prop := ∃ k, (bt pos k = true ∧ M k = true) ∨ (bt neg k = true ∧ M k = false)
def ig_ex (M : Nat → Bool) (t f : Int32) : Prop := (∀ k, bt t k = true → M k = true) ∧ (∀ k, bt f k = true → M k = false)
def ig_ms (A : Nat) (t f : Int32) : Prop := (∀ k, bt t k = true → k < A) ∧ (∀ k, bt f k = true → k < A) ∧ (∀ k, bt t k = true → bt f k = false)
def ig_cd (pos neg t f : Int32) : Prop := ¬ (((pos &&& t) ||| (neg &&& f)) ||| (pos &&& neg)) = 0 ∨ ¬ ((pos ||| neg) &&& ((t ||| f) ^^^ (-1))) = 0
def ig_pb (A : Nat) (pos neg : Int32) : Prop := (∀ k, bt pos k = true → k < A) ∧ (∀ k, bt neg k = true → k < A)
theorem ig_op {pos neg t f : Int32} (k : Nat) : bt ((pos ||| neg) &&& ((t ||| f) ^^^ (-1))) k = true ↔ ((bt pos k = true ∨ bt neg k = true) ∧ bt t k = false ∧ bt f k = false) := by
  rcases Nat.lt_or_ge k 32 with z | z
  · rw [b_and, ig_b_not z, b_or, b_or]
    cases bt t k <;> cases bt f k <;> cases bt pos k <;> cases bt neg k <;> simp
  · rw [b_big z, b_big z, b_big z]
    constructor
    · intro h; cases h
    · rintro ⟨h | h, _⟩ <;> cases h
theorem ig_cl0 {pos neg t f : Int32} (h : (((pos &&& t) ||| (neg &&& f)) ||| (pos &&& neg)) = 0) (k : Nat) : ¬ (bt pos k = true ∧ bt t k = true) ∧ ¬ (bt neg k = true ∧ bt f k = true) ∧ ¬ (bt pos k = true ∧ bt neg k = true) := by
  have := ig_b_eq h k
  rw [b_or, b_or, b_and, b_and, b_and] at this
  revert this
  cases bt t k <;> cases bt f k <;> cases bt pos k <;> cases bt neg k <;> simp
theorem ig_cl1 {pos neg t f : Int32} (h : ¬ (((pos &&& t) ||| (neg &&& f)) ||| (pos &&& neg)) = 0) : ∃ k, (bt pos k = true ∧ bt t k = true) ∨ (bt neg k = true ∧ bt f k = true) ∨ (bt pos k = true ∧ bt neg k = true) := by
  obtain ⟨k, hk⟩ := ig_b_ne h
  refine ⟨k, ?_⟩
  rw [b_or, b_or, b_and, b_and, b_and] at hk
  revert hk
  cases bt t k <;> cases bt f k <;> cases bt pos k <;> cases bt neg k <;> simp
/-- what satisfies an undecided clause is free -/
theorem ig_sm_op {M : Nat → Bool} {pos neg t f : Int32} (h : (((pos &&& t) ||| (neg &&& f)) ||| (pos &&& neg)) = 0) (he : ig_ex M t f) (hs : ig_sm M pos neg) :
    ∃ k, bt ((pos ||| neg) &&& ((t ||| f) ^^^ (-1))) k = true ∧ ((bt pos k = true ∧ M k = true) ∨ (bt neg k = true ∧ M k = false)) := by
  obtain ⟨k, hk⟩ := hs
  refine ⟨k, (ig_op k).mpr ?_, hk⟩
  have c := ig_cl0 h k
  have e1 := he.1 k
  have e2 := he.2 k
  rcases hk with ⟨a, b⟩ | ⟨a, b⟩
  · refine ⟨Or.inl a, ?_, ?_⟩
    · cases e : bt t k
      · rfl
      · exact (c.1 ⟨a, e⟩).elim
    · cases e : bt f k
      · rfl
      · rw [e2 e] at b; cases b
  · refine ⟨Or.inr a, ?_, ?_⟩
    · cases e : bt t k
      · rfl
      · rw [e1 e] at b; cases b
    · cases e : bt f k
      · rfl
      · exact (c.2.1 ⟨a, e⟩).elim
theorem ig_full {A : Nat} {pos neg t f : Int32} (hA : A ≤ 10) (hp : ig_pb A pos neg) (hm : ig_ms A t f) (h0 : ((((1 : Int32) <<< (nI A &&& 31)) - 1) &&& ((t ||| f) ^^^ (-1))) = 0) (hc : ig_cd pos neg t f) : ig_sm (fun k => bt t k) pos neg := by
  rcases hc with h | h
  · obtain ⟨k, ⟨a, b⟩ | ⟨a, b⟩ | ⟨a, b⟩⟩ := ig_cl1 h
    · exact ⟨k, Or.inl ⟨a, b⟩⟩
    · refine ⟨k, Or.inr ⟨a, ?_⟩⟩
      show bt t k = false
      cases e : bt t k
      · rfl
      · have := hm.2.2 k e; rw [b] at this; cases this
    · refine ⟨k, ?_⟩
      cases e : bt t k
      · exact Or.inr ⟨b, e⟩
      · exact Or.inl ⟨a, e⟩
  · obtain ⟨k, hk⟩ := ig_b_ne h
    rw [ig_op] at hk
    have kA : k < A := hk.1.elim (hp.1 k) (hp.2 k)
    have := ig_b_eq h0 k
    rw [(ig_free hA k).mpr ⟨kA, hk.2⟩] at this
    cases this
/-- the unit step -/
theorem ig_unit {A : Nat} {pos neg t f : Int32} (hA : A ≤ 10) (hp : ig_pb A pos neg) (hm : ig_ms A t f) (h : (((pos &&& t) ||| (neg &&& f)) ||| (pos &&& neg)) = 0)
    (o0 : ¬ ((pos ||| neg) &&& ((t ||| f) ^^^ (-1))) = 0) (o1 : (((pos ||| neg) &&& ((t ||| f) ^^^ (-1))) &&& (((pos ||| neg) &&& ((t ||| f) ^^^ (-1))) - 1)) = 0) :
    ∃ t' f', t' = t ||| (pos &&& ((pos ||| neg) &&& ((t ||| f) ^^^ (-1)))) ∧ f' = f ||| (neg &&& ((pos ||| neg) &&& ((t ||| f) ^^^ (-1)))) ∧ ig_ms A t' f' ∧
    (∀ k, bt t k = true → bt t' k = true) ∧ (∀ k, bt f k = true → bt f' k = true) ∧ ig_fr A t' f' < ig_fr A t f ∧ ∀ M, ig_ex M t f → ig_sm M pos neg → ig_ex M t' f' := by
  have hop := fun k => ig_op (pos := pos) (neg := neg) (t := t) (f := f) k
  have hso := fun M => ig_sm_op (M := M) (pos := pos) (neg := neg) (t := t) (f := f) h
  generalize ((pos ||| neg) &&& ((t ||| f) ^^^ (-1))) = o at *
  have oA : ∀ k, bt o k = true → k < A := fun k hk => ((hop k).mp hk).1.elim (hp.1 k) (hp.2 k)
  obtain ⟨a, ha, e⟩ := ig_one (fun k hk => by have := oA k hk; omega) o0 o1
  have ea := (e a).mpr rfl
  have fa := (hop a).mp ea
  have ca := (ig_cl0 h a).2.2
  have bt' : ∀ k, bt (t ||| (pos &&& o)) k = true ↔ (bt t k = true ∨ (bt pos k = true ∧ k = a)) := fun k => by
    rw [b_or, b_and, Bool.or_eq_true, Bool.and_eq_true, e k]
  have bf' : ∀ k, bt (f ||| (neg &&& o)) k = true ↔ (bt f k = true ∨ (bt neg k = true ∧ k = a)) := fun k => by
    rw [b_or, b_and, Bool.or_eq_true, Bool.and_eq_true, e k]
  refine ⟨_, _, rfl, rfl, ⟨?_, ?_, ?_⟩, fun k hk => (bt' k).mpr (Or.inl hk), fun k hk => (bf' k).mpr (Or.inl hk), ?_, ?_⟩
  · intro k hk
    rcases (bt' k).mp hk with z | z
    · exact hm.1 k z
    · exact hp.1 k z.1
  · intro k hk
    rcases (bf' k).mp hk with z | z
    · exact hm.2.1 k z
    · exact hp.2 k z.1
  · intro k hk
    rw [Bool.eq_false_iff]
    intro hk'
    rcases (bt' k).mp hk with z | ⟨z, y⟩
    · rcases (bf' k).mp hk' with z' | ⟨z', y'⟩
      · have := hm.2.2 k z; rw [z'] at this; cases this
      · subst y'; rw [fa.2.1] at z; cases z
    · subst y
      rcases (bf' k).mp hk' with z' | ⟨z', y'⟩
      · rw [fa.2.2] at z'; cases z'
      · exact ca ⟨z, z'⟩
  · refine ig_fr_lt (a := a) (fun k hk => (bt' k).mpr (Or.inl hk)) (fun k hk => (bf' k).mpr (Or.inl hk)) (oA a ea) fa.2 ?_
    rcases fa.1 with z | z
    · left; exact (bt' a).mpr (Or.inr ⟨z, rfl⟩)
    · right; exact (bf' a).mpr (Or.inr ⟨z, rfl⟩)
  · intro M he hs
    obtain ⟨k, hk, hv⟩ := hso M he hs
    have ek := (e k).mp hk
    subst ek
    constructor
    · intro j hj
      rcases (bt' j).mp hj with z | ⟨z, y⟩
      · exact he.1 j z
      · subst y
        rcases hv with v | v
        · exact v.2
        · exact (ca ⟨z, v.1⟩).elim
    · intro j hj
      rcases (bf' j).mp hj with z | ⟨z, y⟩
      · exact he.2 j z
      · subst y
        rcases hv with v | v
        · exact (ca ⟨v.1, z⟩).elim
        · exact v.2
/-- a decision: one atom false, later true -/
theorem ig_dec {A : Nat} {t f : Int32} (hA : A ≤ 10) (hm : ig_ms A t f) (h0 : ¬ ((((1 : Int32) <<< (nI A &&& 31)) - 1) &&& ((t ||| f) ^^^ (-1))) = 0) :
    ∃ d, d = ((((1 : Int32) <<< (nI A &&& 31)) - 1) &&& ((t ||| f) ^^^ (-1))) &&& -((((1 : Int32) <<< (nI A &&& 31)) - 1) &&& ((t ||| f) ^^^ (-1))) ∧
    1 ≤ ig_fr A t f ∧ ig_ms A t (f ||| d) ∧ ig_ms A (t ||| d) f ∧ ig_fr A t (f ||| d) < ig_fr A t f ∧ ig_fr A (t ||| d) f < ig_fr A t f ∧
    ∀ M, ig_ex M t f → (ig_ex M t (f ||| d) ∨ ig_ex M (t ||| d) f) := by
  have hfr := fun k => ig_free (t := t) (f := f) hA k
  generalize ((((1 : Int32) <<< (nI A &&& 31)) - 1) &&& ((t ||| f) ^^^ (-1))) = o at *
  obtain ⟨a, ha, hb, e⟩ := ig_low (fun k hk => by have := (hfr k).mp hk; omega) h0
  have fa := (hfr a).mp hb
  rw [e]
  have bb : ∀ x : Int32, ∀ k, bt (x ||| nI (2 ^ a)) k = true ↔ (bt x k = true ∨ k = a) := fun x k => by
    rw [b_or, Bool.or_eq_true, ig_p2b ha]
  have l1 : ig_fr A t (f ||| nI (2 ^ a)) < ig_fr A t f := ig_fr_lt (a := a) (fun _ h => h) (fun k h => (bb f k).mpr (Or.inl h)) fa.1 fa.2 (Or.inr ((bb f a).mpr (Or.inr rfl)))
  have l2 : ig_fr A (t ||| nI (2 ^ a)) f < ig_fr A t f := ig_fr_lt (a := a) (fun k h => (bb t k).mpr (Or.inl h)) (fun _ h => h) fa.1 fa.2 (Or.inl ((bb t a).mpr (Or.inr rfl)))
  refine ⟨_, rfl, by omega, ⟨hm.1, ?_, ?_⟩, ⟨?_, hm.2.1, ?_⟩, l1, l2, ?_⟩
  · intro k hk
    rcases (bb f k).mp hk with z | z
    · exact hm.2.1 k z
    · subst z; exact fa.1
  · intro k hk
    rw [Bool.eq_false_iff]
    intro hk'
    rcases (bb f k).mp hk' with z | z
    · have := hm.2.2 k hk; rw [z] at this; cases this
    · subst z; rw [fa.2.1] at hk; cases hk
  · intro k hk
    rcases (bb t k).mp hk with z | z
    · exact hm.1 k z
    · subst z; exact fa.1
  · intro k hk
    rcases (bb t k).mp hk with z | z
    · exact hm.2.2 k z
    · subst z; exact fa.2.2
  · intro M he
    cases em : M a
    · left
      refine ⟨he.1, fun k hk => ?_⟩
      rcases (bb f k).mp hk with z | z
      · exact he.2 k z
      · subst z; exact em
    · right
      refine ⟨fun k hk => ?_, he.2⟩
      rcases (bb t k).mp hk with z | z
      · exact he.1 k z
      · subst z; exact em
end
section
/-! the component's small methods -/
section
variable {f_n f_verdict f_preds f_atoms f_count f_refs f_size f_trueMask f_falseMask : Int32} {a_arities a_starts a_atomPred a_atomFirst a_atomSecond a_lengths a_parts a_model a_ref a_kept a_closure a_posMask a_negMask a_chosen a_known a_decided a_savedTrue a_savedFalse a_group : Nat → Int32}
def ig_XT (c : ig_C) (f_n f_atoms : Int32) (a_arities a_starts a_lengths a_parts : Nat → Int32) : Prop :=
  f_n = nI (ig_n c) ∧ f_atoms = nI (ig_a c) ∧ (∀ k, k < ig_q c → a_arities k = nI (ig_ar c k) ∧ a_starts k = nI (ig_st c k)) ∧
  (∀ s, s < 23 → a_lengths s = nI (ig_L c s) ∧ ig_L c s ≤ 4) ∧ (∀ k, k < 368 → a_parts k = nI (ig_P c k) ∧ ig_P c k < 16)
theorem ig_q10 {c : ig_C} (w : ig_WF c) {q : Nat} (h : q < ig_q c) : q < 10 := by
  have := w.2.2.1; have := w.2.2.2.1; omega
theorem ig_x_resolve {post : Int32 → Prop} {p t : Nat} (hp : p < 2 ^ 31) (ht : t ≤ 6) (h : post (nI (ig_rs p t))) : wpX_resolve post (f_n, f_verdict, f_preds, f_atoms, f_count, f_refs, f_size, f_trueMask, f_falseMask, a_arities, a_starts, a_atomPred, a_atomFirst, a_atomSecond, a_lengths, a_parts, a_model, a_ref, a_kept, a_closure, a_posMask, a_negMask, a_chosen, a_known, a_decided, a_savedTrue, a_savedFalse, a_group) (nI p) (nI t) := by
  unfold wpX_resolve
  dsimp only
  rcases Nat.lt_or_ge t 4 with z | z
  · rw [ig_rs_c z] at h
    exact br_f (nI_ge (b := 4) z (by decide)) h
  · rcases (show t = 4 ∨ t = 5 ∨ t = 6 by omega) with e | e | e <;> subst e
    · refine br_t (by decide) ?_
      rw [pk_shrN hp _ 6 (by decide), pk_andN (by omega) 3 (by decide)]
      exact h
    · refine br_t (by decide) ?_
      rw [pk_shrN hp _ 3 (by decide), pk_andN (by omega) 3 (by decide)]
      exact h
    · refine br_t (by decide) ?_
      rw [pk_shrN hp _ 0 (by decide), pk_andN (by omega) 3 (by decide)]
      rw [Nat.pow_zero, Nat.div_one]
      exact h
theorem ig_x_atomOf {post : Int32 → Prop} {c : ig_C} (t : ig_XT c f_n f_atoms a_arities a_starts a_lengths a_parts) (w : ig_WF c) {q x y : Nat} (hq : q < ig_q c) (h : post (nI (ig_ao c q x y))) : wpX_atomOf post (f_n, f_verdict, f_preds, f_atoms, f_count, f_refs, f_size, f_trueMask, f_falseMask, a_arities, a_starts, a_atomPred, a_atomFirst, a_atomSecond, a_lengths, a_parts, a_model, a_ref, a_kept, a_closure, a_posMask, a_negMask, a_chosen, a_known, a_decided, a_savedTrue, a_savedFalse, a_group) (nI q) (nI x) (nI y) := by
  have q10 := ig_q10 w hq
  have hi : vp_in (nI q) 10 := vp_in_nI q10 (by omega)
  have ha := (w.2.2.2.2.1 q hq).1
  unfold wpX_atomOf
  dsimp only
  rw [nI_clamp (show q < 2 ^ 31 by omega), (t.2.2.1 q hq).1, (t.2.2.1 q hq).2, t.1]
  unfold ig_ao at h
  refine ⟨hi, pk_eq (ig_ar c q) 0 (fun z => ⟨hi, ?_⟩) (fun z => ⟨hi, pk_eq (ig_ar c q) 1 (fun z' => ⟨hi, ?_⟩) (fun z' => ⟨hi, ?_⟩)⟩)⟩
  · rw [if_pos z] at h; exact h
  · rw [if_neg z, if_pos z'] at h; rw [nI_add]; exact h
  · rw [if_neg z, if_neg z'] at h; rw [pk_mul, nI_add, nI_add]; exact h
theorem ig_lit0 (c : ig_C) (p i : Nat) : ig_lit c i (ig_tv p (fun _ => 0)) = ig_ao c (ig_P c (i + 1)) (if ig_rs p (ig_P c (i + 2)) < 4 then ig_rs p (ig_P c (i + 2)) else 0) (if ig_rs p (ig_P c (i + 3)) < 4 then ig_rs p (ig_P c (i + 3)) else 0) := by
  unfold ig_lit
  rw [ig_gv_tv, ig_gv_tv]
  rfl
theorem ig_x_abs {post : Int32 → Prop} {c : ig_C} (t : ig_XT c f_n f_atoms a_arities a_starts a_lengths a_parts) (w : ig_WF c) {p i : Nat} (hp : p < 11776) (hi : i + 3 < 368) (l : ig_LO c i)
    (h : post ((1 : Int32) <<< (nI (ig_lit c i (ig_tv p (fun _ => 0))) &&& 31))) : wpX_abstractBit post (f_n, f_verdict, f_preds, f_atoms, f_count, f_refs, f_size, f_trueMask, f_falseMask, a_arities, a_starts, a_atomPred, a_atomFirst, a_atomSecond, a_lengths, a_parts, a_model, a_ref, a_kept, a_closure, a_posMask, a_negMask, a_chosen, a_known, a_decided, a_savedTrue, a_savedFalse, a_group) (nI p) (nI i) := by
  have hn := w.2.1
  have t2 : ig_P c (i + 2) ≤ 6 := by rcases l.2.2.1 with z | z <;> omega
  have t3 : ig_P c (i + 3) ≤ 6 := by rcases l.2.2.2.1 with z | z <;> omega
  have e1 : nI i + 1 = nI (i + 1) := nI_add i 1
  have e2 : nI i + 2 = nI (i + 2) := nI_add i 2
  have e3 : nI i + 3 = nI (i + 3) := nI_add i 3
  have r2 := ig_rs_lt p (ig_P c (i + 2))
  have r3 := ig_rs_lt p (ig_P c (i + 3))
  rw [ig_lit0] at h
  unfold wpX_abstractBit
  dsimp only
  rw [e2, e3, nI_clamp (show i + 2 < 2 ^ 31 by omega), nI_clamp (show i + 3 < 2 ^ 31 by omega), (t.2.2.2.2 (i + 2) (by omega)).1, (t.2.2.2.2 (i + 3) (by omega)).1]
  refine ⟨vp_in_nI (by omega) (by omega), ?_⟩
  refine ig_x_resolve (by omega) t2 ?_
  refine ⟨vp_in_nI (by omega) (by omega), ?_⟩
  refine ig_x_resolve (by omega) t3 ?_
  have fin : ∀ x y : Nat, post ((1 : Int32) <<< (nI (ig_ao c (ig_P c (i + 1)) x y) &&& 31)) → wX_abstractBit_53 post (nI i) (nI x) (nI y) f_n f_verdict f_preds f_atoms f_count f_refs f_size f_trueMask f_falseMask a_arities a_starts a_atomPred a_atomFirst a_atomSecond a_lengths a_parts a_model a_ref a_kept a_closure a_posMask a_negMask a_chosen a_known a_decided a_savedTrue a_savedFalse a_group := by
    intro x y hxy
    unfold wX_abstractBit_53
    rw [e1, nI_clamp (show i + 1 < 2 ^ 31 by omega), (t.2.2.2.2 (i + 1) (by omega)).1]
    exact ⟨vp_in_nI (by omega) (by omega), ig_x_atomOf t w l.2.1 hxy⟩
  refine pk_lt (ig_rs p (ig_P c (i + 2))) 4 (fun z => ?_) (fun z => ?_)
  · rw [if_pos z] at h
    unfold wX_abstractBit_39
    refine pk_lt (ig_rs p (ig_P c (i + 3))) 4 (fun z' => ?_) (fun z' => ?_)
    · rw [if_pos z'] at h; exact fin _ _ h
    · rw [if_neg (by omega)] at h; exact fin _ 0 h
  · rw [if_neg (by omega)] at h
    unfold wX_abstractBit_39
    refine pk_lt (ig_rs p (ig_P c (i + 3))) 4 (fun z' => ?_) (fun z' => ?_)
    · rw [if_pos z'] at h; exact fin 0 _ h
    · rw [if_neg (by omega)] at h; exact fin 0 0 h
/-- the masks of a closure's first q literals -/
def ig_MK (c : ig_C) (p q : Nat) (pos neg : Int32) : Prop :=
  (∀ k, bt pos k = true ↔ ∃ r, r < q ∧ ig_P c (p / 512 * 16 + r * 4) = 1 ∧ ig_lit c (p / 512 * 16 + r * 4) (ig_tv p (fun _ => 0)) = k) ∧
  (∀ k, bt neg k = true ↔ ∃ r, r < q ∧ ig_P c (p / 512 * 16 + r * 4) ≠ 1 ∧ ig_lit c (p / 512 * 16 + r * 4) (ig_tv p (fun _ => 0)) = k)
theorem ig_MK_0 {c : ig_C} {p : Nat} : ig_MK c p 0 0 0 := by
  refine ⟨fun k => ?_, fun k => ?_⟩ <;> rw [b_0] <;> constructor
  · intro h; cases h
  · rintro ⟨r, hr, _⟩; omega
  · intro h; cases h
  · rintro ⟨r, hr, _⟩; omega
theorem ig_MK_p {c : ig_C} {p q : Nat} {pos neg : Int32} (h : ig_MK c p q pos neg) (hp : ig_P c (p / 512 * 16 + q * 4) = 1) (ha : ig_lit c (p / 512 * 16 + q * 4) (ig_tv p (fun _ => 0)) < 10) :
    ig_MK c p (q + 1) (pos ||| ((1 : Int32) <<< (nI (ig_lit c (p / 512 * 16 + q * 4) (ig_tv p (fun _ => 0))) &&& 31))) neg := by
  refine ⟨fun k => ?_, fun k => ?_⟩
  · rw [ig_bit0 _ ha, b_or, Bool.or_eq_true, ig_p2b ha, h.1 k]
    constructor
    · rintro (⟨r, a, b, d⟩ | e)
      · exact ⟨r, by omega, b, d⟩
      · exact ⟨q, by omega, hp, e.symm⟩
    · rintro ⟨r, a, b, d⟩
      rcases (show r < q ∨ r = q by omega) with z | z
      · exact Or.inl ⟨r, z, b, d⟩
      · subst z; exact Or.inr d.symm
  · rw [h.2 k]
    constructor
    · rintro ⟨r, a, b, d⟩; exact ⟨r, by omega, b, d⟩
    · rintro ⟨r, a, b, d⟩
      rcases (show r < q ∨ r = q by omega) with z | z
      · exact ⟨r, z, b, d⟩
      · subst z; exact (b hp).elim
theorem ig_MK_n {c : ig_C} {p q : Nat} {pos neg : Int32} (h : ig_MK c p q pos neg) (hp : ig_P c (p / 512 * 16 + q * 4) ≠ 1) (ha : ig_lit c (p / 512 * 16 + q * 4) (ig_tv p (fun _ => 0)) < 10) :
    ig_MK c p (q + 1) pos (neg ||| ((1 : Int32) <<< (nI (ig_lit c (p / 512 * 16 + q * 4) (ig_tv p (fun _ => 0))) &&& 31))) := by
  refine ⟨fun k => ?_, fun k => ?_⟩
  · rw [h.1 k]
    constructor
    · rintro ⟨r, a, b, d⟩; exact ⟨r, by omega, b, d⟩
    · rintro ⟨r, a, b, d⟩
      rcases (show r < q ∨ r = q by omega) with z | z
      · exact ⟨r, z, b, d⟩
      · subst z; exact (hp b).elim
  · rw [ig_bit0 _ ha, b_or, Bool.or_eq_true, ig_p2b ha, h.2 k]
    constructor
    · rintro (⟨r, a, b, d⟩ | e)
      · exact ⟨r, by omega, b, d⟩
      · exact ⟨q, by omega, hp, e.symm⟩
    · rintro ⟨r, a, b, d⟩
      rcases (show r < q ∨ r = q by omega) with z | z
      · exact Or.inl ⟨r, z, b, d⟩
      · subst z; exact Or.inr d.symm
theorem ig_MK_sm {c : ig_C} {p : Nat} {pos neg : Int32} (h : ig_MK c p (ig_L c (p / 512)) pos neg) (M : Nat → Bool) : ig_sm M pos neg ↔ ig_CT c M (p / 512) (ig_tv p (fun _ => 0)) := by
  constructor
  · rintro ⟨k, ⟨a, b⟩ | ⟨a, b⟩⟩
    · obtain ⟨r, h1, h2, h3⟩ := (h.1 k).mp a
      refine ⟨r, h1, ?_⟩
      unfold ig_LT
      rw [h3]; exact ⟨fun _ => h2, fun _ => b⟩
    · obtain ⟨r, h1, h2, h3⟩ := (h.2 k).mp a
      refine ⟨r, h1, ?_⟩
      unfold ig_LT
      rw [h3, b]; exact ⟨fun z => (by cases z), fun z => (h2 z).elim⟩
  · rintro ⟨r, h1, h2⟩
    unfold ig_LT at h2
    by_cases z : ig_P c (p / 512 * 16 + r * 4) = 1
    · exact ⟨_, Or.inl ⟨(h.1 _).mpr ⟨r, h1, z, rfl⟩, h2.mpr z⟩⟩
    · refine ⟨_, Or.inr ⟨(h.2 _).mpr ⟨r, h1, z, rfl⟩, ?_⟩⟩
      rw [Bool.eq_false_iff]
      exact fun e => z (h2.mp e)
/-- a closure's literals under the zero substitution lie in range -/
theorem ig_lit_0 {c : ig_C} {S : Nat → Prop} {p i : Nat} (w : ig_WF c) (hA : ∀ s, S s → ig_AS c s) (h : ig_VC c S p) (a : ig_At c p i) : ig_lit c i (ig_tv p (fun _ => 0)) < ig_a c :=
  ig_lit_a w (ig_At_LO hA h a) (ig_tv_n w h (fun _ => w.1))
theorem ig_MK_pb {c : ig_C} {S : Nat → Prop} {p : Nat} {pos neg : Int32} (w : ig_WF c) (hA : ∀ s, S s → ig_AS c s) (hV : ig_VC c S p) (h : ig_MK c p (ig_L c (p / 512)) pos neg) : ig_pb (ig_a c) pos neg := by
  refine ⟨fun k hk => ?_, fun k hk => ?_⟩
  · obtain ⟨r, h1, h2, h3⟩ := (h.1 k).mp hk
    rw [← h3]; exact ig_lit_0 w hA hV ⟨r, h1, rfl⟩
  · obtain ⟨r, h1, h2, h3⟩ := (h.2 k).mp hk
    rw [← h3]; exact ig_lit_0 w hA hV ⟨r, h1, rfl⟩
end
end
section
/-! add, seedRoot, seedRoots, reset -/
section
variable {f_n f_verdict f_preds f_atoms f_count f_refs f_size f_trueMask f_falseMask : Int32} {a_arities a_starts a_atomPred a_atomFirst a_atomSecond a_lengths a_parts a_model a_ref a_kept a_closure a_posMask a_negMask a_chosen a_known a_decided a_savedTrue a_savedFalse a_group : Nat → Int32}
theorem ig_x_add64 {post : SX → Prop} {c : ig_C} {S : Nat → Prop} (t : ig_XT c f_n f_atoms a_arities a_starts a_lengths a_parts) (w : ig_WF c) (hA : ∀ s, S s → ig_AS c s) {p N : Nat} (hV : ig_VC c S p) (hN : N < 256) :
    ∀ d q, q + d = ig_L c (p / 512) → ∀ pm nm : Nat → Int32, ig_MK c p q (pm N) (nm N) →
    (∀ pm' nm' : Nat → Int32, (∀ j, j ≠ N → pm' j = pm j) → (∀ j, j ≠ N → nm' j = nm j) → ig_MK c p (ig_L c (p / 512)) (pm' N) (nm' N) → post (f_n, f_verdict, f_preds, f_atoms, f_count, f_refs, nI (N + 1), f_trueMask, f_falseMask, a_arities, a_starts, a_atomPred, a_atomFirst, a_atomSecond, a_lengths, a_parts, a_model, a_ref, a_kept, a_closure, pm', nm', a_chosen, a_known, a_decided, a_savedTrue, a_savedFalse, a_group)) →
    wX_add_64 post (nI p) (nI (p / 512)) f_n f_verdict f_preds f_atoms f_count f_refs (nI N) f_trueMask f_falseMask (d + 1) (nI q) a_arities a_starts a_atomPred a_atomFirst a_atomSecond a_lengths a_parts a_model a_ref a_kept a_closure pm nm a_chosen a_known a_decided a_savedTrue a_savedFalse a_group := by
  have hs := hA _ hV.2.1
  have h23 := hs.1
  have hL4 := hs.2.2.1
  have hin : vp_in (nI (p / 512)) 23 := vp_in_nI h23 (by omega)
  have hiN : vp_in (nI N) 256 := vp_in_nI hN (by omega)
  have el := (t.2.2.2.1 (p / 512) h23).1
  intro d
  induction d with
  | zero =>
    intro q hq pm nm hm K
    rw [wX_add_64]
    dsimp only
    rw [nI_clamp (show p / 512 < 2 ^ 31 by omega), el]
    refine ⟨hin, br_t (nI_le (by omega) (by omega)) (nm_r (nI_1 N) ?_)⟩
    have hq' : q = ig_L c (p / 512) := by omega
    subst hq'
    exact K pm nm (fun _ _ => rfl) (fun _ _ => rfl) hm
  | succ d ih =>
    intro q hq pm nm hm K
    rw [wX_add_64]
    dsimp only
    rw [nI_clamp (show p / 512 < 2 ^ 31 by omega), el]
    have ea : nI (p / 512) * 16 + nI q * 4 = nI (p / 512 * 16 + q * 4) := by
      show nI (p / 512) * nI 16 + nI q * nI 4 = _
      rw [pk_mul, pk_mul, nI_add]
    have at' : ig_At c p (p / 512 * 16 + q * 4) := ⟨q, by omega, rfl⟩
    have lo := ig_At_LO hA hV at'
    have la : ig_lit c (p / 512 * 16 + q * 4) (ig_tv p (fun _ => 0)) < 10 := by
      have := ig_lit_0 w hA hV at'
      have := w.2.2.1
      omega
    have p1 := lo.1
    refine ⟨hin, br_f (nI_ge (by omega) (by omega)) (nm_r ea ?_)⟩
    refine ig_x_abs t w hV.1 (by omega) lo ?_
    rw [nI_clamp (show p / 512 * 16 + q * 4 < 2 ^ 31 by omega), (t.2.2.2.2 (p / 512 * 16 + q * 4) (by omega)).1, nI_clamp (show N < 2 ^ 31 by omega)]
    refine ⟨vp_in_nI (by omega) (by omega), pk_eq (ig_P c (p / 512 * 16 + q * 4)) 1 (fun z => ?_) (fun z => ?_)⟩
    · refine ⟨hiN, hiN, nm_e (nm_r (nI_1 q) ?_)⟩
      refine ih (q + 1) (by omega) _ _ ?_ ?_
      · rw [pk_us]; exact ig_MK_p hm z la
      · intro pm' nm' h1 h2 h3
        exact K pm' nm' (fun j hj => by rw [h1 j hj, pk_un hj]) h2 h3
    · refine ⟨hiN, hiN, nm_e (nm_r (nI_1 q) ?_)⟩
      refine ih (q + 1) (by omega) _ _ ?_ ?_
      · rw [pk_us]; exact ig_MK_n hm z la
      · intro pm' nm' h1 h2 h3
        exact K pm' nm' h1 (fun j hj => by rw [h2 j hj, pk_un hj]) h3
/-- the closures of a run -/
def ig_DY (c : ig_C) (S : Nat → Prop) (N : Nat) (cl : Nat → Nat) (f_size : Int32) (a_closure a_posMask a_negMask a_known : Nat → Int32) : Prop :=
  f_size = nI N ∧ (∀ i, i < N → a_closure i = nI (cl i) ∧ ig_VC c S (cl i) ∧ ig_MK c (cl i) (ig_L c (cl i / 512)) (a_posMask i) (a_negMask i)) ∧
  (∀ i j, i < j → j < N → cl i ≠ cl j) ∧ (∀ i, i < N → a_known (cl i) ≠ 0) ∧ (∀ p, p < 11776 → a_known p ≠ 0 → ∃ i, i < N ∧ cl i = p)
def ig_Ex (N : Nat) (cl : Nat → Nat) (N' : Nat) (cl' : Nat → Nat) (p : Nat) : Prop :=
  N ≤ N' ∧ (∀ i, i < N → cl' i = cl i) ∧ (∃ a, a < N' ∧ cl' a = p) ∧ (∀ i, N ≤ i → i < N' → cl' i = p)
theorem ig_x_add {post : SX → Prop} {c : ig_C} {S : Nat → Prop} (t : ig_XT c f_n f_atoms a_arities a_starts a_lengths a_parts) (w : ig_WF c) (hA : ∀ s, S s → ig_AS c s) (hC : ig_Cap c S) {p N : Nat} {cl : Nat → Nat} (hV : ig_VC c S p)
    (D : ig_DY c S N cl f_size a_closure a_posMask a_negMask a_known)
    (K : ∀ N' cl' sz' clo' pm' nm' kn', ig_DY c S N' cl' sz' clo' pm' nm' kn' → ig_Ex N cl N' cl' p → post (f_n, f_verdict, f_preds, f_atoms, f_count, f_refs, sz', f_trueMask, f_falseMask, a_arities, a_starts, a_atomPred, a_atomFirst, a_atomSecond, a_lengths, a_parts, a_model, a_ref, a_kept, clo', pm', nm', a_chosen, kn', a_decided, a_savedTrue, a_savedFalse, a_group)) : wpX_add post (f_n, f_verdict, f_preds, f_atoms, f_count, f_refs, f_size, f_trueMask, f_falseMask, a_arities, a_starts, a_atomPred, a_atomFirst, a_atomSecond, a_lengths, a_parts, a_model, a_ref, a_kept, a_closure, a_posMask, a_negMask, a_chosen, a_known, a_decided, a_savedTrue, a_savedFalse, a_group) (nI p) := by
  obtain ⟨d1, d2, d3, d4, d5⟩ := D
  have hN : N ≤ 255 := ig_cap_lt hC (fun i hi => (d2 i hi).2.1) d3
  subst d1
  have hin : vp_in (nI p) 11776 := vp_in_nI hV.1 (by omega)
  have hiN : vp_in (nI N) 256 := vp_in_nI (by omega) (by omega)
  have p2 := hV.1
  unfold wpX_add
  dsimp only
  refine br_f (nI_ge (b := 256) (by omega) (by omega)) ⟨hin, ?_⟩
  rw [nI_clamp (show p < 2 ^ 31 by omega), nI_clamp (show N < 2 ^ 31 by omega), pk_shrN (by omega) _ 9 (by decide)]
  refine br_c (fun z => ?_) (fun z => ?_)
  · refine ⟨hin, nm_e ⟨hiN, nm_e ⟨hiN, nm_e ⟨hiN, nm_e (nm_e ?_)⟩⟩⟩⟩
    refine ⟨ig_L c (p / 512) + 1, ?_⟩
    refine ig_x_add64 (S := S) t w hA hV (by omega) (ig_L c (p / 512)) 0 (by omega) _ _ ?_ ?_
    · rw [pk_us, pk_us]; exact ig_MK_0
    · intro pm' nm' h1 h2 h3
      have hnew : ∀ i, i < N → cl i ≠ p := fun i hi e => by
        have := d4 i hi; rw [e] at this; exact this z
      refine K (N + 1) (fun i => if i = N then p else cl i) (nI (N + 1)) _ pm' nm' _ ⟨rfl, ?_, ?_, ?_, ?_⟩ ⟨by omega, ?_, ⟨N, by omega, if_pos rfl⟩, ?_⟩
      · intro i hi
        dsimp only
        by_cases e : i = N
        · subst e; rw [if_pos rfl, pk_us]; exact ⟨rfl, hV, h3⟩
        · rw [if_neg e, pk_un e, h1 i e, h2 i e, pk_un e, pk_un e]; exact d2 i (by omega)
      · intro i j hij hj
        dsimp only
        rw [if_neg (show i ≠ N by omega)]
        by_cases e : j = N
        · rw [if_pos e]; exact hnew i (by omega)
        · rw [if_neg e]; exact d3 i j hij (by omega)
      · intro i hi
        dsimp only
        by_cases e : i = N
        · rw [if_pos e, pk_us]; decide
        · rw [if_neg e, pk_un (hnew i (by omega))]; exact d4 i (by omega)
      · intro x hx hk
        by_cases e : x = p
        · exact ⟨N, by omega, (if_pos rfl).trans e.symm⟩
        · rw [pk_un e] at hk
          obtain ⟨i, hi, hc⟩ := d5 x hx hk
          exact ⟨i, by omega, (if_neg (show i ≠ N by omega)).trans hc⟩
      · intro i hi
        dsimp only
        rw [if_neg (show i ≠ N by omega)]
      · intro i hi hi'
        dsimp only
        rw [if_pos (show i = N by omega)]
  · exact K N cl (nI N) a_closure a_posMask a_negMask a_known ⟨rfl, d2, d3, d4, d5⟩ ⟨by omega, fun _ _ => rfl, d5 p hV.1 z, fun i a b => by omega⟩
/-- the list is a set of seeds -/
def ig_St (N : Nat) (cl : Nat → Nat) (R : Nat → Prop) : Prop := ∀ p, R p ↔ ∃ i, i < N ∧ cl i = p
theorem ig_St_Ex {N N' : Nat} {cl cl' : Nat → Nat} {R : Nat → Prop} {p : Nat} (h : ig_St N cl R) (e : ig_Ex N cl N' cl' p) : ig_St N' cl' (fun x => R x ∨ x = p) := by
  obtain ⟨e1, e2, ⟨a, ha, ea⟩, e4⟩ := e
  intro x
  constructor
  · rintro (hx | rfl)
    · obtain ⟨i, hi, ei⟩ := (h x).mp hx
      exact ⟨i, by omega, by rw [e2 i hi]; exact ei⟩
    · exact ⟨a, ha, ea⟩
  · rintro ⟨i, hi, ei⟩
    rcases Nat.lt_or_ge i N with z | z
    · left; rw [h x]; exact ⟨i, z, by rw [← e2 i z]; exact ei⟩
    · right; rw [← ei, e4 i z hi]
theorem ig_St_Sat {c : ig_C} {N : Nat} {cl : Nat → Nat} {R : Nat → Prop} (h : ig_St N cl R) : ig_Sat c N cl ↔ ∃ M, ∀ p, R p → ig_GI c M p := by
  constructor
  · rintro ⟨M, hM⟩
    refine ⟨M, fun p hp => ?_⟩
    obtain ⟨i, hi, e⟩ := (h p).mp hp
    rw [← e]; exact hM i hi
  · rintro ⟨M, hM⟩
    exact ⟨M, fun i hi => hM _ ((h _).mpr ⟨i, hi, rfl⟩)⟩
theorem ig_St_congr {N : Nat} {cl : Nat → Nat} {R R' : Nat → Prop} (h : ig_St N cl R) (e : ∀ p, R p ↔ R' p) : ig_St N cl R' := fun p => (e p).symm.trans (h p)
theorem ig_root0 : ∀ s, s < 23 → (((nI s <<< ((9 : Int32) &&& 31)) ||| 256) ||| 40) ||| 6 = nI (s * 512 + 302) := by decide +kernel
theorem ig_x_seedRoot {post : SX → Prop} {c : ig_C} {S : Nat → Prop} {R : Nat → Prop} (t : ig_XT c f_n f_atoms a_arities a_starts a_lengths a_parts) (w : ig_WF c) (hA : ∀ s, S s → ig_AS c s) (hC : ig_Cap c S) {s N : Nat} {cl : Nat → Nat} (hs : S s)
    (D : ig_DY c S N cl f_size a_closure a_posMask a_negMask a_known) (hR : ig_St N cl R)
    (K : ∀ N' cl' sz' clo' pm' nm' kn', ig_DY c S N' cl' sz' clo' pm' nm' kn' → ig_St N' cl' (fun x => R x ∨ x = ig_rt s) → post (f_n, f_verdict, f_preds, f_atoms, f_count, f_refs, sz', f_trueMask, f_falseMask, a_arities, a_starts, a_atomPred, a_atomFirst, a_atomSecond, a_lengths, a_parts, a_model, a_ref, a_kept, clo', pm', nm', a_chosen, kn', a_decided, a_savedTrue, a_savedFalse, a_group)) : wpX_seedRoot post (f_n, f_verdict, f_preds, f_atoms, f_count, f_refs, f_size, f_trueMask, f_falseMask, a_arities, a_starts, a_atomPred, a_atomFirst, a_atomSecond, a_lengths, a_parts, a_model, a_ref, a_kept, a_closure, a_posMask, a_negMask, a_chosen, a_known, a_decided, a_savedTrue, a_savedFalse, a_group) (nI s) := by
  have h23 := (hA s hs).1
  unfold wpX_seedRoot
  dsimp only
  rw [ig_root0 s h23]
  refine ig_x_add t w hA hC (ig_rt_VC h23 hs) D ?_
  intro N' cl' sz' clo' pm' nm' kn' D' E
  exact K N' cl' sz' clo' pm' nm' kn' D' (ig_St_Ex hR E)
theorem ig_x_seedRoots2 {post : SX → Prop} {c : ig_C} {S : Nat → Prop} (t : ig_XT c f_n f_atoms a_arities a_starts a_lengths a_parts) (w : ig_WF c) (hA : ∀ s, S s → ig_AS c s) (hC : ig_Cap c S) {e : Nat} (he : ∀ s, s < e → S s) (he' : e ≤ 23) :
    ∀ d s, s + d = e → ∀ (R : Nat → Prop) (N : Nat) (cl : Nat → Nat) (f_size : Int32) (a_closure a_posMask a_negMask a_known : Nat → Int32), ig_DY c S N cl f_size a_closure a_posMask a_negMask a_known → ig_St N cl R →
    (∀ N' cl' sz' clo' pm' nm' kn', ig_DY c S N' cl' sz' clo' pm' nm' kn' → ig_St N' cl' (fun x => R x ∨ ∃ j, s ≤ j ∧ j < e ∧ x = ig_rt j) → post (f_n, f_verdict, f_preds, f_atoms, f_count, f_refs, sz', f_trueMask, f_falseMask, a_arities, a_starts, a_atomPred, a_atomFirst, a_atomSecond, a_lengths, a_parts, a_model, a_ref, a_kept, clo', pm', nm', a_chosen, kn', a_decided, a_savedTrue, a_savedFalse, a_group)) →
    wX_seedRoots_2 post (nI e) (d + 1) (nI s) f_n f_verdict f_preds f_atoms f_count f_refs f_size f_trueMask f_falseMask a_arities a_starts a_atomPred a_atomFirst a_atomSecond a_lengths a_parts a_model a_ref a_kept a_closure a_posMask a_negMask a_chosen a_known a_decided a_savedTrue a_savedFalse a_group := by
  intro d
  induction d with
  | zero =>
    intro s hs R N cl f_size a_closure a_posMask a_negMask a_known D hR K
    rw [wX_seedRoots_2]
    dsimp only
    refine br_t (nI_le (by omega) (by omega)) (K N cl _ _ _ _ _ D (ig_St_congr hR fun p => ⟨Or.inl, ?_⟩))
    rintro (h | ⟨j, h1, h2, _⟩)
    · exact h
    · omega
  | succ d ih =>
    intro s hs R N cl f_size a_closure a_posMask a_negMask a_known D hR K
    rw [wX_seedRoots_2]
    dsimp only
    refine br_f (nI_ge (by omega) (by omega)) ?_
    refine ig_x_seedRoot t w hA hC (he s (by omega)) D hR ?_
    intro N' cl' sz' clo' pm' nm' kn' D' R'
    dsimp only
    refine nm_r (nI_1 s) ?_
    refine ih (s + 1) (by omega) _ N' cl' _ _ _ _ _ D' R' ?_
    intro N2 cl2 sz2 clo2 pm2 nm2 kn2 D2 R2
    refine K N2 cl2 sz2 clo2 pm2 nm2 kn2 D2 (ig_St_congr R2 fun p => ?_)
    constructor
    · rintro ((h | h) | ⟨j, h1, h2, h3⟩)
      · exact Or.inl h
      · exact Or.inr ⟨s, by omega, by omega, h⟩
      · exact Or.inr ⟨j, by omega, h2, h3⟩
    · rintro (h | ⟨j, h1, h2, h3⟩)
      · exact Or.inl (Or.inl h)
      · rcases (show j = s ∨ s + 1 ≤ j by omega) with z | z
        · subst z; exact Or.inl (Or.inr h3)
        · exact Or.inr ⟨j, z, h2, h3⟩
theorem ig_x_seedRoots {post : SX → Prop} {c : ig_C} {S : Nat → Prop} {R : Nat → Prop} (t : ig_XT c f_n f_atoms a_arities a_starts a_lengths a_parts) (w : ig_WF c) (hA : ∀ s, S s → ig_AS c s) (hC : ig_Cap c S) {e N : Nat} {cl : Nat → Nat} (he : ∀ s, s < e → S s) (he' : e ≤ 23)
    (D : ig_DY c S N cl f_size a_closure a_posMask a_negMask a_known) (hR : ig_St N cl R)
    (K : ∀ N' cl' sz' clo' pm' nm' kn', ig_DY c S N' cl' sz' clo' pm' nm' kn' → ig_St N' cl' (fun x => R x ∨ ∃ j, j < e ∧ x = ig_rt j) → post (f_n, f_verdict, f_preds, f_atoms, f_count, f_refs, sz', f_trueMask, f_falseMask, a_arities, a_starts, a_atomPred, a_atomFirst, a_atomSecond, a_lengths, a_parts, a_model, a_ref, a_kept, clo', pm', nm', a_chosen, kn', a_decided, a_savedTrue, a_savedFalse, a_group)) : wpX_seedRoots post (f_n, f_verdict, f_preds, f_atoms, f_count, f_refs, f_size, f_trueMask, f_falseMask, a_arities, a_starts, a_atomPred, a_atomFirst, a_atomSecond, a_lengths, a_parts, a_model, a_ref, a_kept, a_closure, a_posMask, a_negMask, a_chosen, a_known, a_decided, a_savedTrue, a_savedFalse, a_group) (nI e) := by
  unfold wpX_seedRoots
  dsimp only
  refine ⟨e + 1, ig_x_seedRoots2 t w hA hC he he' e 0 (by omega) R N cl _ _ _ _ _ D hR ?_⟩
  intro N' cl' sz' clo' pm' nm' kn' D' R'
  refine K N' cl' sz' clo' pm' nm' kn' D' (ig_St_congr R' fun p => ⟨?_, ?_⟩)
  · rintro (h | ⟨j, h1, h2, h3⟩)
    · exact Or.inl h
    · exact Or.inr ⟨j, h2, h3⟩
  · rintro (h | ⟨j, h2, h3⟩)
    · exact Or.inl h
    · exact Or.inr ⟨j, by omega, h2, h3⟩
/-- between runs -/
def ig_DL (f_size : Int32) (a_closure a_known : Nat → Int32) : Prop := ∃ N, N ≤ 256 ∧ f_size = nI N ∧ (∀ i, i < N → ∃ p, p < 11776 ∧ a_closure i = nI p) ∧ (∀ p, p < 11776 → a_known p ≠ 0 → ∃ i, i < N ∧ a_closure i = nI p)
theorem ig_DY_DL {c : ig_C} {S : Nat → Prop} {N : Nat} {cl : Nat → Nat} (hC : ig_Cap c S) (D : ig_DY c S N cl f_size a_closure a_posMask a_negMask a_known) : ig_DL f_size a_closure a_known := by
  obtain ⟨d1, d2, d3, d4, d5⟩ := D
  have hN : N ≤ 255 := ig_cap_lt hC (fun i hi => (d2 i hi).2.1) d3
  refine ⟨N, by omega, d1, fun i hi => ⟨cl i, (d2 i hi).2.1.1, (d2 i hi).1⟩, fun p hp hk => ?_⟩
  obtain ⟨i, hi, e⟩ := d5 p hp hk
  exact ⟨i, hi, by rw [← e]; exact (d2 i hi).1⟩
theorem ig_x_reset {post : SX → Prop} (D : ig_DL f_size a_closure a_known) (K : ∀ kn', (∀ p, p < 11776 → kn' p = 0) → post (f_n, f_verdict, f_preds, f_atoms, f_count, f_refs, 0, f_trueMask, f_falseMask, a_arities, a_starts, a_atomPred, a_atomFirst, a_atomSecond, a_lengths, a_parts, a_model, a_ref, a_kept, a_closure, a_posMask, a_negMask, a_chosen, kn', a_decided, a_savedTrue, a_savedFalse, a_group)) : wpX_reset post (f_n, f_verdict, f_preds, f_atoms, f_count, f_refs, f_size, f_trueMask, f_falseMask, a_arities, a_starts, a_atomPred, a_atomFirst, a_atomSecond, a_lengths, a_parts, a_model, a_ref, a_kept, a_closure, a_posMask, a_negMask, a_chosen, a_known, a_decided, a_savedTrue, a_savedFalse, a_group) := by
  obtain ⟨N, hN, rfl, d2, d3⟩ := D
  have L : ∀ d i, i + d = N → ∀ a_known : Nat → Int32, (∀ p, p < 11776 → a_known p ≠ 0 → ∃ j, i ≤ j ∧ j < N ∧ a_closure j = nI p) → wX_reset_2 post f_n f_verdict f_preds f_atoms f_count f_refs (nI N) f_trueMask f_falseMask (d + 1) (nI i) a_arities a_starts a_atomPred a_atomFirst a_atomSecond a_lengths a_parts a_model a_ref a_kept a_closure a_posMask a_negMask a_chosen a_known a_decided a_savedTrue a_savedFalse a_group := by
    intro d
    induction d with
    | zero =>
      intro i hi kn h
      rw [wX_reset_2]
      dsimp only
      refine br_t (nI_le (by omega) (by omega)) (K _ fun p hp => ?_)
      refine Classical.byContradiction fun z => ?_
      obtain ⟨j, a, b, _⟩ := h p hp z
      omega
    | succ d ih =>
      intro i hi kn h
      obtain ⟨p, hp, e⟩ := d2 i (by omega)
      rw [wX_reset_2]
      dsimp only
      rw [nI_clamp (show i < 2 ^ 31 by omega), e, nI_clamp (show p < 2 ^ 31 by omega)]
      refine br_f (nI_ge (by omega) (by omega)) ⟨vp_in_nI (by omega) (by omega), vp_in_nI hp (by omega), nm_e (nm_r (nI_1 i) ?_)⟩
      refine ih (i + 1) (by omega) _ fun x hx hk => ?_
      by_cases ex : x = p
      · rw [ex, pk_us] at hk
        exact (hk (by decide)).elim
      · rw [pk_un ex] at hk
        obtain ⟨j, a, b, ej⟩ := h x hx hk
        refine ⟨j, ?_, b, ej⟩
        rcases (show j = i ∨ i + 1 ≤ j by omega) with z | z
        · subst z
          rw [e] at ej
          exact (ex ((nI_eq (by omega) (by omega)).mp ej).symm).elim
        · exact z
  unfold wpX_reset
  dsimp only
  refine ⟨N + 1, L N 0 (by omega) a_known fun p hp hk => ?_⟩
  obtain ⟨i, hi, e⟩ := d3 p hp hk
  exact ⟨i, by omega, hi, e⟩
theorem ig_DY_0 {c : ig_C} {S : Nat → Prop} (h : ∀ p, p < 11776 → a_known p = 0) : ig_DY c S 0 (fun _ => 0) 0 a_closure a_posMask a_negMask a_known ∧ ig_St 0 (fun _ => 0) (fun _ => False) := by
  refine ⟨⟨rfl, fun i hi => by omega, fun i j a b => by omega, fun i hi => by omega, fun p hp hk => (hk (h p hp)).elim⟩, fun p => ⟨fun f => f.elim, ?_⟩⟩
  rintro ⟨i, hi, _⟩
  omega
end
end
section
/-! the propositional search -/
def ig_SW (A N : Nat) (pm nm : Nat → Int32) (t f r t' f' : Int32) : Prop :=
  (r = 0 ∧ ∀ M, ig_ex M t f → ¬ ∀ i, i < N → ig_sm M (pm i) (nm i)) ∨
  (r = 1 ∧ ig_ms A t' f' ∧ (∀ k, bt t k = true → bt t' k = true) ∧ (∀ k, bt f k = true → bt f' k = true) ∧
    (∀ M, ig_ex M t f → (∀ i, i < N → ig_sm M (pm i) (nm i)) → ig_ex M t' f') ∧ ((t' = t ∧ f' = f ∧ ∀ i, i < N → ig_cd (pm i) (nm i) t f) ∨ ig_fr A t' f' < ig_fr A t f))
def ig_PR (A N : Nat) (pm nm : Nat → Int32) (t f r t' f' : Int32) : Prop :=
  (r = 0 ∧ ∀ M, ig_ex M t f → ¬ ∀ i, i < N → ig_sm M (pm i) (nm i)) ∨
  (r = 1 ∧ ig_ms A t' f' ∧ (∀ M, ig_ex M t f → (∀ i, i < N → ig_sm M (pm i) (nm i)) → ig_ex M t' f') ∧ ig_fr A t' f' ≤ ig_fr A t f ∧ ∀ i, i < N → ig_cd (pm i) (nm i) t' f')
theorem ig_fr_or {A : Nat} {t f t' f' : Int32} (h : (t' ||| f') = (t ||| f)) : ig_fr A t' f' ≤ ig_fr A t f := by
  refine ig_cn_mono fun k _ hk => ?_
  have e := congrArg (fun x => bt x k) h
  rw [b_or, b_or, hk.1, hk.2] at e
  cases x : bt t k <;> cases y : bt f k <;> rw [x, y] at e <;> simp at e
  exact ⟨rfl, rfl⟩
section
variable {f_n f_verdict f_preds f_atoms f_count f_refs f_size f_trueMask f_falseMask : Int32} {a_arities a_starts a_atomPred a_atomFirst a_atomSecond a_lengths a_parts a_model a_ref a_kept a_closure a_posMask a_negMask a_chosen a_known a_decided a_savedTrue a_savedFalse a_group : Nat → Int32}
theorem ig_x_sweep2 {post : Int32 → SX → Prop} {A N : Nat} (hA : A ≤ 10) (hN : N < 256) (hpb : ∀ i, i < N → ig_pb A (a_posMask i) (a_negMask i)) {t0 f0 : Int32}
    (K : ∀ r t' f', ig_SW A N a_posMask a_negMask t0 f0 r t' f' → post r (f_n, f_verdict, f_preds, f_atoms, f_count, f_refs, nI N, t', f', a_arities, a_starts, a_atomPred, a_atomFirst, a_atomSecond, a_lengths, a_parts, a_model, a_ref, a_kept, a_closure, a_posMask, a_negMask, a_chosen, a_known, a_decided, a_savedTrue, a_savedFalse, a_group)) :
    ∀ d i, i + d = N → ∀ t f, ig_ms A t f → (∀ k, bt t0 k = true → bt t k = true) → (∀ k, bt f0 k = true → bt f k = true) →
      (∀ M, ig_ex M t0 f0 → (∀ i, i < N → ig_sm M (a_posMask i) (a_negMask i)) → ig_ex M t f) → ((t = t0 ∧ f = f0 ∧ ∀ j, j < i → ig_cd (a_posMask j) (a_negMask j) t0 f0) ∨ ig_fr A t f < ig_fr A t0 f0) →
      wX_sweep_2 post f_n f_verdict f_preds f_atoms f_count f_refs (nI N) a_arities a_starts a_atomPred a_atomFirst a_atomSecond a_lengths a_parts a_model a_ref a_kept a_closure a_posMask a_negMask a_chosen a_known a_decided a_savedTrue a_savedFalse a_group (d + 1) (nI i) t f := by
  intro d
  induction d with
  | zero =>
    intro i hi t f h1 h2 h3 h4 h5
    have e : i = N := by omega
    subst e
    rw [wX_sweep_2]
    dsimp only
    exact br_t (nI_le (by omega) (by omega)) (K 1 t f (Or.inr ⟨rfl, h1, h2, h3, h4, h5⟩))
  | succ d ih =>
    intro i hi t f h1 h2 h3 h4 h5
    have hin : vp_in (nI i) 256 := vp_in_nI (by omega) (by omega)
    have pb := hpb i (by omega)
    rw [wX_sweep_2]
    dsimp only
    rw [nI_clamp (show i < 2 ^ 31 by omega)]
    refine br_f (nI_ge (by omega) (by omega)) ⟨hin, nm_e ⟨hin, nm_e ?_⟩⟩
    have same : ∀ z : ig_cd (a_posMask i) (a_negMask i) t f, wX_sweep_2 post f_n f_verdict f_preds f_atoms f_count f_refs (nI N) a_arities a_starts a_atomPred a_atomFirst a_atomSecond a_lengths a_parts a_model a_ref a_kept a_closure a_posMask a_negMask a_chosen a_known a_decided a_savedTrue a_savedFalse a_group (d + 1) (nI (i + 1)) t f := by
      intro z
      refine ih (i + 1) (by omega) t f h1 h2 h3 h4 ?_
      rcases h5 with ⟨e1, e2, e3⟩ | h5
      · left
        refine ⟨e1, e2, fun j hj => ?_⟩
        rcases (show j < i ∨ j = i by omega) with y | y
        · exact e3 j y
        · subst y; rw [← e1, ← e2]; exact z
      · exact Or.inr h5
    refine br_c (fun z => nm_e (br_c (fun z1 => ?_) (fun z1 => br_c (fun z2 => ?_) (fun z2 => nm_r (nI_1 i) (same (Or.inr z1)))))) (fun z => nm_r (nI_1 i) (same (Or.inl z)))
    · refine K 0 t f (Or.inl ⟨rfl, fun M he hs => ?_⟩)
      obtain ⟨k, hk, _⟩ := ig_sm_op z (h4 M he hs) (hs i (by omega))
      rw [ig_b_eq z1 k] at hk; cases hk
    · obtain ⟨t', f', et, ef, g1, g2, g3, g4, g5⟩ := ig_unit hA pb h1 z z1 z2
      refine nm_r et.symm (nm_r ef.symm (nm_r (nI_1 i) ?_))
      refine ih (i + 1) (by omega) t' f' g1 (fun k hk => g2 k (h2 k hk)) (fun k hk => g3 k (h3 k hk)) (fun M he hs => g5 M (h4 M he hs) (hs i (by omega))) (Or.inr ?_)
      rcases h5 with ⟨e1, e2, _⟩ | h5
      · rw [e1, e2] at g4; exact g4
      · omega
theorem ig_x_sweep {post : Int32 → SX → Prop} {A N : Nat} (hA : A ≤ 10) (hN : N < 256) (hpb : ∀ i, i < N → ig_pb A (a_posMask i) (a_negMask i)) (hm : ig_ms A f_trueMask f_falseMask)
    (K : ∀ r t' f', ig_SW A N a_posMask a_negMask f_trueMask f_falseMask r t' f' → post r (f_n, f_verdict, f_preds, f_atoms, f_count, f_refs, nI N, t', f', a_arities, a_starts, a_atomPred, a_atomFirst, a_atomSecond, a_lengths, a_parts, a_model, a_ref, a_kept, a_closure, a_posMask, a_negMask, a_chosen, a_known, a_decided, a_savedTrue, a_savedFalse, a_group)) : wpX_sweep post (f_n, f_verdict, f_preds, f_atoms, f_count, f_refs, nI N, f_trueMask, f_falseMask, a_arities, a_starts, a_atomPred, a_atomFirst, a_atomSecond, a_lengths, a_parts, a_model, a_ref, a_kept, a_closure, a_posMask, a_negMask, a_chosen, a_known, a_decided, a_savedTrue, a_savedFalse, a_group) := by
  unfold wpX_sweep
  dsimp only
  exact ⟨N + 1, ig_x_sweep2 hA hN hpb K N 0 (by omega) _ _ hm (fun _ h => h) (fun _ h => h) (fun _ h _ => h) (Or.inl ⟨rfl, rfl, fun j hj => by omega⟩)⟩
theorem ig_x_propagate2 {post : Int32 → SX → Prop} {A N : Nat} (hA : A ≤ 10) (hN : N < 256) (hpb : ∀ i, i < N → ig_pb A (a_posMask i) (a_negMask i)) {t0 f0 : Int32}
    (K : ∀ r t' f', ig_PR A N a_posMask a_negMask t0 f0 r t' f' → post r (f_n, f_verdict, f_preds, f_atoms, f_count, f_refs, nI N, t', f', a_arities, a_starts, a_atomPred, a_atomFirst, a_atomSecond, a_lengths, a_parts, a_model, a_ref, a_kept, a_closure, a_posMask, a_negMask, a_chosen, a_known, a_decided, a_savedTrue, a_savedFalse, a_group)) :
    ∀ d i, i + d ≤ 10 → ∀ t f, ig_fr A t f ≤ d → ig_ms A t f → ig_fr A t f ≤ ig_fr A t0 f0 →
      (∀ M, ig_ex M t0 f0 → (∀ i, i < N → ig_sm M (a_posMask i) (a_negMask i)) → ig_ex M t f) →
      wX_propagate_2 post (d + 1) (nI i) f_n f_verdict f_preds f_atoms f_count f_refs (nI N) t f a_arities a_starts a_atomPred a_atomFirst a_atomSecond a_lengths a_parts a_model a_ref a_kept a_closure a_posMask a_negMask a_chosen a_known a_decided a_savedTrue a_savedFalse a_group := by
  intro d
  induction d with
  | zero =>
    intro i hi t f hf h1 h2 h3
    rw [wX_propagate_2]
    dsimp only
    refine br_f (nI_ge (b := 12) (by omega) (by omega)) (nm_e (ig_x_sweep hA hN hpb h1 ?_))
    intro r t' f' hs
    dsimp only
    rcases hs with ⟨rfl, hs⟩ | ⟨rfl, g1, g2, g3, g4, g5⟩
    · exact br_t rfl (K 0 t' f' (Or.inl ⟨rfl, fun M he ha => hs M (h3 M he ha) ha⟩))
    · refine br_f (by decide) ?_
      rcases g5 with ⟨rfl, rfl, g5⟩ | g5
      · exact br_t rfl (K 1 _ _ (Or.inr ⟨rfl, h1, h3, h2, g5⟩))
      · omega
  | succ d ih =>
    intro i hi t f hf h1 h2 h3
    rw [wX_propagate_2]
    dsimp only
    refine br_f (nI_ge (b := 12) (by omega) (by omega)) (nm_e (ig_x_sweep hA hN hpb h1 ?_))
    intro r t' f' hs
    dsimp only
    rcases hs with ⟨rfl, hs⟩ | ⟨rfl, g1, g2, g3, g4, g5⟩
    · exact br_t rfl (K 0 t' f' (Or.inl ⟨rfl, fun M he ha => hs M (h3 M he ha) ha⟩))
    · refine br_f (by decide) ?_
      refine br_c (fun z => ?_) (fun z => ?_)
      · rcases g5 with ⟨rfl, rfl, g5⟩ | g5
        · exact K 1 _ _ (Or.inr ⟨rfl, h1, h3, h2, g5⟩)
        · have := ig_fr_or (A := A) z.symm
          omega
      · rcases g5 with ⟨rfl, rfl, g5⟩ | g5
        · exact (z rfl).elim
        · exact nm_r (nI_1 i) (ih (i + 1) (by omega) t' f' (by omega) g1 (by omega) (fun M he ha => g4 M (h3 M he ha) ha))
theorem ig_x_propagate {post : Int32 → SX → Prop} {A N : Nat} (hA : A ≤ 10) (hN : N < 256) (hpb : ∀ i, i < N → ig_pb A (a_posMask i) (a_negMask i)) (hm : ig_ms A f_trueMask f_falseMask)
    (K : ∀ r t' f', ig_PR A N a_posMask a_negMask f_trueMask f_falseMask r t' f' → post r (f_n, f_verdict, f_preds, f_atoms, f_count, f_refs, nI N, t', f', a_arities, a_starts, a_atomPred, a_atomFirst, a_atomSecond, a_lengths, a_parts, a_model, a_ref, a_kept, a_closure, a_posMask, a_negMask, a_chosen, a_known, a_decided, a_savedTrue, a_savedFalse, a_group)) : wpX_propagate post (f_n, f_verdict, f_preds, f_atoms, f_count, f_refs, nI N, f_trueMask, f_falseMask, a_arities, a_starts, a_atomPred, a_atomFirst, a_atomSecond, a_lengths, a_parts, a_model, a_ref, a_kept, a_closure, a_posMask, a_negMask, a_chosen, a_known, a_decided, a_savedTrue, a_savedFalse, a_group) := by
  unfold wpX_propagate
  dsimp only
  have := ig_fr_le A f_trueMask f_falseMask
  exact ⟨10 + 1, ig_x_propagate2 hA hN hpb K 10 0 (by omega) _ _ (by omega) hm (Nat.le_refl _) (fun _ h _ => h)⟩
end
def ig_wt : Nat → Nat
  | 0 => 1
  | k + 1 => 2 * ig_wt k + 1
theorem ig_wt_1 : ∀ k, 1 ≤ ig_wt k
  | 0 => Nat.le_refl _
  | k + 1 => by unfold ig_wt; omega
theorem ig_wt_s (k : Nat) : ig_wt (k + 1) = 2 * ig_wt k + 1 := rfl
theorem ig_wt_m {a : Nat} : ∀ {b : Nat}, a ≤ b → ig_wt a ≤ ig_wt b
  | 0, h => by rw [show a = 0 by omega]; exact Nat.le_refl _
  | b + 1, h => by
    rcases (show a = b + 1 ∨ a ≤ b by omega) with z | z
    · rw [z]; exact Nat.le_refl _
    · have := ig_wt_m z; rw [ig_wt_s]; omega
/-- room for the pending right branches -/
noncomputable def ig_bs (A : Nat) (dc sT sF : Nat → Int32) : Nat → Nat
  | 0 => 0
  | j + 1 => ig_bs A dc sT sF j + ig_wt (ig_fr A (sT j ||| dc j) (sF j))
theorem ig_bs_congr {A : Nat} {dc sT sF dc' sT' sF' : Nat → Int32} : ∀ {d : Nat}, (∀ j, j < d → dc' j = dc j ∧ sT' j = sT j ∧ sF' j = sF j) → ig_bs A dc' sT' sF' d = ig_bs A dc sT sF d
  | 0, _ => rfl
  | d + 1, h => by
    have e := h d (by omega)
    unfold ig_bs
    rw [ig_bs_congr (d := d) (fun j hj => h j (by omega)), e.1, e.2.1, e.2.2]
def ig_SR (N : Nat) (pm nm : Nat → Int32) (r t' : Int32) : Prop :=
  (r = 0 ∧ ∀ M, ¬ ∀ i, i < N → ig_sm M (pm i) (nm i)) ∨ (r = 1 ∧ ∀ i, i < N → ig_sm (fun k => bt t' k) (pm i) (nm i))
def ig_SI (A N : Nat) (pm nm dc sT sF : Nat → Int32) (d : Nat) (t f : Int32) : Prop :=
  ig_ms A t f ∧ ig_fr A t f + d ≤ A ∧ (∀ j, j < d → ig_ms A (sT j ||| dc j) (sF j) ∧ ig_fr A (sT j ||| dc j) (sF j) + j ≤ A) ∧
  (∀ M, (∀ i, i < N → ig_sm M (pm i) (nm i)) → ig_ex M t f ∨ ∃ j, j < d ∧ ig_ex M (sT j ||| dc j) (sF j))
section
variable {f_n f_verdict f_preds f_atoms f_count f_refs f_size f_trueMask f_falseMask : Int32} {a_arities a_starts a_atomPred a_atomFirst a_atomSecond a_lengths a_parts a_model a_ref a_kept a_closure a_posMask a_negMask a_chosen a_known a_decided a_savedTrue a_savedFalse a_group : Nat → Int32}
theorem ig_x_search14 {post : Int32 → SX → Prop} {A N : Nat} (hA : A ≤ 10) (hN : N < 256) (hpb : ∀ i, i < N → ig_pb A (a_posMask i) (a_negMask i))
    (K : ∀ r t' f' dc' sT' sF', ig_SR N a_posMask a_negMask r t' → post r (f_n, f_verdict, f_preds, nI A, f_count, f_refs, nI N, t', f', a_arities, a_starts, a_atomPred, a_atomFirst, a_atomSecond, a_lengths, a_parts, a_model, a_ref, a_kept, a_closure, a_posMask, a_negMask, a_chosen, a_known, dc', sT', sF', a_group)) :
    ∀ m d x, x + m ≤ 4095 → ∀ t f dc sT sF, ig_SI A N a_posMask a_negMask dc sT sF d t f → ig_bs A dc sT sF d + ig_wt (ig_fr A t f) ≤ m →
      wX_search_14 post (m + 1) (nI d) (nI x) f_n f_verdict f_preds (nI A) f_count f_refs (nI N) t f a_arities a_starts a_atomPred a_atomFirst a_atomSecond a_lengths a_parts a_model a_ref a_kept a_closure a_posMask a_negMask a_chosen a_known dc sT sF a_group := by
  intro m
  induction m with
  | zero =>
    intro d x hx t f dc sT sF I hm
    have := ig_wt_1 (ig_fr A t f)
    omega
  | succ m ih =>
    intro d x hx t f dc sT sF I hm
    obtain ⟨i1, i2, i3, i4⟩ := I
    rw [wX_search_14]
    dsimp only
    refine br_f (nI_ge (b := 4096) (by omega) (by omega)) (ig_x_propagate hA hN hpb i1 ?_)
    intro r t' f' hp
    dsimp only
    rcases hp with ⟨rfl, hp⟩ | ⟨rfl, g1, g2, g3, g4⟩
    · refine br_t rfl (pk_eq d 0 (fun z => ?_) (fun z => ?_))
      · refine K 0 _ _ _ _ _ (Or.inl ⟨rfl, fun M ha => ?_⟩)
        rcases i4 M ha with e | ⟨j, hj, _⟩
        · exact hp M e ha
        · omega
      · have hd : vp_in (nI (d - 1)) 10 := vp_in_nI (by omega) (by omega)
        refine nm_r (sb_m1 (by omega)) ?_
        rw [nI_clamp (show d - 1 < 2 ^ 31 by omega)]
        refine ⟨hd, hd, nm_e ⟨hd, nm_e (nm_r (nI_1 x) ?_)⟩⟩
        have j3 := i3 (d - 1) (by omega)
        refine ih (d - 1) (x + 1) (by omega) _ _ _ _ _ ⟨j3.1, j3.2, fun j hj => i3 j (by omega), fun M ha => ?_⟩ ?_
        · rcases i4 M ha with e | ⟨j, hj, e⟩
          · exact (hp M e ha).elim
          · rcases (show j < d - 1 ∨ j = d - 1 by omega) with y | y
            · exact Or.inr ⟨j, y, e⟩
            · subst y; exact Or.inl e
        · have e := ig_wt_1 (ig_fr A t f)
          have eb : ig_bs A dc sT sF d = ig_bs A dc sT sF (d - 1) + ig_wt (ig_fr A (sT (d - 1) ||| dc (d - 1)) (sF (d - 1))) := by
            obtain ⟨e', he⟩ : ∃ e', d = e' + 1 := ⟨d - 1, by omega⟩
            subst he
            rfl
          omega
    · refine br_f (by decide) (nm_e (br_c (fun z => ?_) (fun z => ?_)))
      · exact K 1 _ _ _ _ _ (Or.inr ⟨rfl, fun i hi => ig_full hA (hpb i hi) g1 z (g4 i hi)⟩)
      · obtain ⟨b, eb, q1, q2, q3, q4, q5, q6⟩ := ig_dec hA g1 z
        have hd : vp_in (nI d) 10 := vp_in_nI (by omega) (by omega)
        rw [← eb, nI_clamp (show d < 2 ^ 31 by omega)]
        refine ⟨hd, nm_e ⟨hd, nm_e ⟨hd, nm_e ⟨hd, nm_e (nm_r (nI_1 d) (nm_r (nI_1 x) ?_))⟩⟩⟩⟩
        rw [pk_us]
        have ag : ∀ j, j < d → upd dc d b j = dc j ∧ upd sT d t' j = sT j ∧ upd sF d f' j = sF j := fun j hj => ⟨pk_un (by omega), pk_un (by omega), pk_un (by omega)⟩
        refine ih (d + 1) (x + 1) (by omega) _ _ _ _ _ ⟨q2, by omega, fun j hj => ?_, fun M ha => ?_⟩ ?_
        · rcases (show j < d ∨ j = d by omega) with y | y
          · rw [(ag j y).1, (ag j y).2.1, (ag j y).2.2]; exact i3 j y
          · subst y; rw [pk_us, pk_us, pk_us]; exact ⟨q3, by omega⟩
        · rcases i4 M ha with e | ⟨j, hj, e⟩
          · rcases q6 M (g2 M e ha) with e | e
            · exact Or.inl e
            · exact Or.inr ⟨d, by omega, by rw [pk_us, pk_us, pk_us]; exact e⟩
          · exact Or.inr ⟨j, by omega, by rw [(ag j hj).1, (ag j hj).2.1, (ag j hj).2.2]; exact e⟩
        · rw [show ig_bs A (upd dc d b) (upd sT d t') (upd sF d f') (d + 1) = ig_bs A (upd dc d b) (upd sT d t') (upd sF d f') d + ig_wt (ig_fr A (upd sT d t' d ||| upd dc d b d) (upd sF d f' d)) from rfl]
          rw [ig_bs_congr ag, pk_us, pk_us, pk_us]
          obtain ⟨e, he⟩ : ∃ e, ig_fr A t' f' = e + 1 := ⟨ig_fr A t' f' - 1, by omega⟩
          have w1 := ig_wt_m (show ig_fr A t' (f' ||| b) ≤ e by omega)
          have w2 := ig_wt_m (show ig_fr A (t' ||| b) f' ≤ e by omega)
          have w3 := ig_wt_m g3
          rw [he, ig_wt_s] at w3
          omega
theorem ig_ms_0 (A : Nat) : ig_ms A 0 0 := by
  refine ⟨fun k h => ?_, fun k h => ?_, fun k h => ?_⟩ <;> rw [b_0] at h <;> cases h
theorem ig_x_search {post : Int32 → SX → Prop} {A N : Nat} (hA : A ≤ 10) (hN : N < 256) (hpb : ∀ i, i < N → ig_pb A (a_posMask i) (a_negMask i))
    (K : ∀ r t' f' dc' sT' sF', ig_SR N a_posMask a_negMask r t' → post r (f_n, f_verdict, f_preds, nI A, f_count, f_refs, nI N, t', f', a_arities, a_starts, a_atomPred, a_atomFirst, a_atomSecond, a_lengths, a_parts, a_model, a_ref, a_kept, a_closure, a_posMask, a_negMask, a_chosen, a_known, dc', sT', sF', a_group)) : wpX_search post (f_n, f_verdict, f_preds, nI A, f_count, f_refs, nI N, f_trueMask, f_falseMask, a_arities, a_starts, a_atomPred, a_atomFirst, a_atomSecond, a_lengths, a_parts, a_model, a_ref, a_kept, a_closure, a_posMask, a_negMask, a_chosen, a_known, a_decided, a_savedTrue, a_savedFalse, a_group) := by
  unfold wpX_search
  dsimp only
  have h1 := ig_fr_le A 0 0
  have h2 := ig_wt_m (show ig_fr A 0 0 ≤ 10 by omega)
  have h3 : ig_wt 10 = 2047 := by decide
  refine ⟨4095 + 1, ig_x_search14 hA hN hpb K 4095 0 0 (by omega) _ _ _ _ _ ⟨ig_ms_0 A, by omega, fun j hj => by omega, fun M _ => Or.inl ⟨fun k h => ?_, fun k h => ?_⟩⟩ ?_⟩
  · rw [b_0] at h; cases h
  · rw [b_0] at h; cases h
  · show 0 + _ ≤ _
    omega
end
end
section
/-! selection -/
theorem ig_tst {x : Int32} {a : Nat} (ha : a < 10) : (x &&& ((1 : Int32) <<< (nI a &&& 31))) = 0 ↔ bt x a = false := by
  rw [ig_bit0 a ha]
  constructor
  · intro h
    have := ig_b_eq h a
    rw [b_and, (ig_p2b ha).mpr rfl, Bool.and_true] at this
    exact this
  · intro h
    refine b_ext fun i _ => ?_
    rw [b_0, b_and]
    cases e : bt (nI (2 ^ a)) i
    · rw [Bool.and_false]
    · rw [(ig_p2b ha).mp e, h, Bool.false_and]
section
variable {f_n f_verdict f_preds f_atoms f_count f_refs f_size f_trueMask f_falseMask : Int32} {a_arities a_starts a_atomPred a_atomFirst a_atomSecond a_lengths a_parts a_model a_ref a_kept a_closure a_posMask a_negMask a_chosen a_known a_decided a_savedTrue a_savedFalse a_group : Nat → Int32}
theorem ig_x_trueLit7 {post : Int32 → Prop} {c : ig_C} {S : Nat → Prop} (t : ig_XT c f_n f_atoms a_arities a_starts a_lengths a_parts) (w : ig_WF c) (hA : ∀ s, S s → ig_AS c s) {p : Nat} (hV : ig_VC c S p)
    (K : ∀ i, ig_At c p i → ig_LT c (fun k => bt f_trueMask k) i (ig_tv p (fun _ => 0)) → post (nI i)) :
    ∀ d q, q + d = ig_L c (p / 512) → (∃ r, q ≤ r ∧ r < ig_L c (p / 512) ∧ ig_LT c (fun k => bt f_trueMask k) (p / 512 * 16 + r * 4) (ig_tv p (fun _ => 0))) →
    wX_trueLiteral_7 post (nI p) (nI (p / 512)) f_n f_verdict f_preds f_atoms f_count f_refs f_size f_trueMask f_falseMask a_arities a_starts a_atomPred a_atomFirst a_atomSecond a_lengths a_parts a_model a_ref a_kept a_closure a_posMask a_negMask a_chosen a_known a_decided a_savedTrue a_savedFalse a_group (d + 1) (nI q) := by
  have hs := hA _ hV.2.1
  have h23 := hs.1
  have hL4 := hs.2.2.1
  have hin : vp_in (nI (p / 512)) 23 := vp_in_nI h23 (by omega)
  have el := (t.2.2.2.1 (p / 512) h23).1
  intro d
  induction d with
  | zero =>
    rintro q hq ⟨r, h1, h2, _⟩
    omega
  | succ d ih =>
    rintro q hq ⟨r, h1, h2, h3⟩
    have ea : nI (p / 512) * 16 + nI q * 4 = nI (p / 512 * 16 + q * 4) := by
      show nI (p / 512) * nI 16 + nI q * nI 4 = _
      rw [pk_mul, pk_mul, nI_add]
    have at' : ig_At c p (p / 512 * 16 + q * 4) := ⟨q, by omega, rfl⟩
    have lo := ig_At_LO hA hV at'
    have la : ig_lit c (p / 512 * 16 + q * 4) (ig_tv p (fun _ => 0)) < 10 := by
      have := ig_lit_0 w hA hV at'
      have := w.2.2.1
      omega
    have p1 := lo.1
    rw [wX_trueLiteral_7]
    dsimp only
    rw [nI_clamp (show p / 512 < 2 ^ 31 by omega), el]
    refine ⟨hin, br_f (nI_ge (by omega) (by omega)) (nm_r ea (ig_x_abs t w hV.1 (by omega) lo ?_))⟩
    have no : ¬ ig_LT c (fun k => bt f_trueMask k) (p / 512 * 16 + q * 4) (ig_tv p (fun _ => 0)) → wX_trueLiteral_7 post (nI p) (nI (p / 512)) f_n f_verdict f_preds f_atoms f_count f_refs f_size f_trueMask f_falseMask a_arities a_starts a_atomPred a_atomFirst a_atomSecond a_lengths a_parts a_model a_ref a_kept a_closure a_posMask a_negMask a_chosen a_known a_decided a_savedTrue a_savedFalse a_group (d + 1) (nI (q + 1)) := by
      intro hn
      refine ih (q + 1) (by omega) ⟨r, ?_, h2, h3⟩
      rcases (show r = q ∨ q + 1 ≤ r by omega) with z | z
      · subst z; exact (hn h3).elim
      · exact z
    have hx : vp_in (nI (p / 512 * 16 + q * 4)) 368 := vp_in_nI (by omega) (by omega)
    refine br_c (fun z => ?_) (fun z => ?_)
    · rw [ig_tst la] at z
      unfold wX_trueLiteral_51 wX_trueLiteral_71
      rw [nI_clamp (show p / 512 * 16 + q * 4 < 2 ^ 31 by omega), (t.2.2.2.2 (p / 512 * 16 + q * 4) (by omega)).1]
      refine ⟨hx, pk_eq (ig_P c (p / 512 * 16 + q * 4)) 1 (fun y => br_f (by decide) (nm_r (nI_1 q) (no ?_))) (fun y => br_t rfl (K _ at' ?_))⟩
      · intro hl
        have := hl.mpr y
        dsimp only at this
        rw [z] at this; cases this
      · constructor
        · intro h; dsimp only at h; rw [z] at h; cases h
        · intro h; exact (y h).elim
    · rw [ig_tst la] at z
      have z := ts_nf z
      unfold wX_trueLiteral_51 wX_trueLiteral_71
      rw [nI_clamp (show p / 512 * 16 + q * 4 < 2 ^ 31 by omega), (t.2.2.2.2 (p / 512 * 16 + q * 4) (by omega)).1]
      refine ⟨hx, pk_eq (ig_P c (p / 512 * 16 + q * 4)) 1 (fun y => br_t rfl (K _ at' ?_)) (fun y => br_f (by decide) (nm_r (nI_1 q) (no ?_)))⟩
      · exact ⟨fun _ => y, fun _ => z⟩
      · intro hl
        exact y (hl.mp z)
theorem ig_x_trueLit {post : Int32 → Prop} {c : ig_C} {S : Nat → Prop} (t : ig_XT c f_n f_atoms a_arities a_starts a_lengths a_parts) (w : ig_WF c) (hA : ∀ s, S s → ig_AS c s) {p : Nat} (hV : ig_VC c S p)
    (hs : ig_CT c (fun k => bt f_trueMask k) (p / 512) (ig_tv p (fun _ => 0)))
    (K : ∀ i, ig_At c p i → ig_LT c (fun k => bt f_trueMask k) i (ig_tv p (fun _ => 0)) → post (nI i)) : wpX_trueLiteral post (f_n, f_verdict, f_preds, f_atoms, f_count, f_refs, f_size, f_trueMask, f_falseMask, a_arities, a_starts, a_atomPred, a_atomFirst, a_atomSecond, a_lengths, a_parts, a_model, a_ref, a_kept, a_closure, a_posMask, a_negMask, a_chosen, a_known, a_decided, a_savedTrue, a_savedFalse, a_group) (nI p) := by
  have := hV.1
  unfold wpX_trueLiteral
  dsimp only
  refine nm_r (pk_shrN (by omega) _ 9 (by decide)) ⟨ig_L c (p / 512) + 1, ?_⟩
  obtain ⟨r, h1, h2⟩ := hs
  exact ig_x_trueLit7 (S := S) t w hA hV K (ig_L c (p / 512)) 0 (by omega) ⟨r, by omega, h1, h2⟩
def ig_CH (c : ig_C) (N : Nat) (cl : Nat → Nat) (a_chosen : Nat → Int32) (M : Nat → Bool) (ch : Nat → Nat) : Prop :=
  ∀ i, i < N → a_chosen i = nI (ch i) ∧ ig_At c (cl i) (ch i) ∧ ig_LT c M (ch i) (ig_tv (cl i) (fun _ => 0))
theorem ig_x_select2 {post : SX → Prop} {c : ig_C} {S : Nat → Prop} (t : ig_XT c f_n f_atoms a_arities a_starts a_lengths a_parts) (w : ig_WF c) (hA : ∀ s, S s → ig_AS c s) {N : Nat} {cl : Nat → Nat} (hN : N < 256)
    (hV : ∀ i, i < N → a_closure i = nI (cl i) ∧ ig_VC c S (cl i)) (hs : ∀ i, i < N → ig_CT c (fun k => bt f_trueMask k) (cl i / 512) (ig_tv (cl i) (fun _ => 0)))
    (K : ∀ ch' ch, ig_CH c N cl ch' (fun k => bt f_trueMask k) ch → post (f_n, f_verdict, f_preds, f_atoms, f_count, f_refs, nI N, f_trueMask, f_falseMask, a_arities, a_starts, a_atomPred, a_atomFirst, a_atomSecond, a_lengths, a_parts, a_model, a_ref, a_kept, a_closure, a_posMask, a_negMask, ch', a_known, a_decided, a_savedTrue, a_savedFalse, a_group)) :
    ∀ d i, i + d = N → ∀ (a_chosen : Nat → Int32) (ch : Nat → Nat), ig_CH c i cl a_chosen (fun k => bt f_trueMask k) ch → wX_select_2 post f_n f_verdict f_preds f_atoms f_count f_refs (nI N) f_trueMask f_falseMask (d + 1) (nI i) a_arities a_starts a_atomPred a_atomFirst a_atomSecond a_lengths a_parts a_model a_ref a_kept a_closure a_posMask a_negMask a_chosen a_known a_decided a_savedTrue a_savedFalse a_group := by
  intro d
  induction d with
  | zero =>
    intro i hi a_chosen ch h
    have e : i = N := by omega
    subst e
    rw [wX_select_2]
    dsimp only
    exact br_t (nI_le (by omega) (by omega)) (K _ ch h)
  | succ d ih =>
    intro i hi a_chosen ch h
    have hv := hV i (by omega)
    rw [wX_select_2]
    dsimp only
    rw [nI_clamp (show i < 2 ^ 31 by omega), hv.1]
    refine br_f (nI_ge (by omega) (by omega)) ⟨vp_in_nI (by omega) (by omega), ig_x_trueLit t w hA hv.2 (hs i (by omega)) ?_⟩
    intro x hx1 hx2
    refine ⟨vp_in_nI (by omega) (by omega), nm_e (nm_r (nI_1 i) ?_)⟩
    refine ih (i + 1) (by omega) _ (fun j => if j = i then x else ch j) fun j hj => ?_
    dsimp only
    by_cases e : j = i
    · subst e; rw [if_pos rfl, pk_us]; exact ⟨rfl, hx1, hx2⟩
    · rw [if_neg e, pk_un e]; exact h j (by omega)
theorem ig_x_select {post : SX → Prop} {c : ig_C} {S : Nat → Prop} (t : ig_XT c f_n f_atoms a_arities a_starts a_lengths a_parts) (w : ig_WF c) (hA : ∀ s, S s → ig_AS c s) {N : Nat} {cl : Nat → Nat} (hN : N < 256)
    (hV : ∀ i, i < N → a_closure i = nI (cl i) ∧ ig_VC c S (cl i)) (hs : ∀ i, i < N → ig_CT c (fun k => bt f_trueMask k) (cl i / 512) (ig_tv (cl i) (fun _ => 0)))
    (K : ∀ ch' ch, ig_CH c N cl ch' (fun k => bt f_trueMask k) ch → post (f_n, f_verdict, f_preds, f_atoms, f_count, f_refs, nI N, f_trueMask, f_falseMask, a_arities, a_starts, a_atomPred, a_atomFirst, a_atomSecond, a_lengths, a_parts, a_model, a_ref, a_kept, a_closure, a_posMask, a_negMask, ch', a_known, a_decided, a_savedTrue, a_savedFalse, a_group)) : wpX_select post (f_n, f_verdict, f_preds, f_atoms, f_count, f_refs, nI N, f_trueMask, f_falseMask, a_arities, a_starts, a_atomPred, a_atomFirst, a_atomSecond, a_lengths, a_parts, a_model, a_ref, a_kept, a_closure, a_posMask, a_negMask, a_chosen, a_known, a_decided, a_savedTrue, a_savedFalse, a_group) := by
  unfold wpX_select
  dsimp only
  exact ⟨N + 1, ig_x_select2 (S := S) t w hA hN hV hs K N 0 (by omega) _ (fun _ => 0) (fun j hj => by omega)⟩
end
end
section
/-! unification -/
def ig_GT (a_group : Nat → Int32) (g : Nat → Nat) : Prop := ∀ k, k < 10 → a_group k = nI (g k)
section
variable {f_n f_verdict f_preds f_atoms f_count f_refs f_size f_trueMask f_falseMask : Int32} {a_arities a_starts a_atomPred a_atomFirst a_atomSecond a_lengths a_parts a_model a_ref a_kept a_closure a_posMask a_negMask a_chosen a_known a_decided a_savedTrue a_savedFalse a_group : Nat → Int32}
theorem ig_x_join67 {post : Int32 → SX → Prop} {g : Nat → Nat} {lo hi : Nat} (hg : ∀ k, k < 10 → g k < 10) (hh : hi < 10)
    (K : ∀ gr', ig_GT gr' (fun j => if g j = hi then lo else g j) → post 1 (f_n, f_verdict, f_preds, f_atoms, f_count, f_refs, f_size, f_trueMask, f_falseMask, a_arities, a_starts, a_atomPred, a_atomFirst, a_atomSecond, a_lengths, a_parts, a_model, a_ref, a_kept, a_closure, a_posMask, a_negMask, a_chosen, a_known, a_decided, a_savedTrue, a_savedFalse, gr')) :
    ∀ d k, k + d = 10 → ∀ a_group : Nat → Int32, (∀ j, j < 10 → a_group j = nI (if j < k ∧ g j = hi then lo else g j)) →
    wX_join_67 post (nI lo) (nI hi) f_n f_verdict f_preds f_atoms f_count f_refs f_size f_trueMask f_falseMask (d + 1) (nI k) a_arities a_starts a_atomPred a_atomFirst a_atomSecond a_lengths a_parts a_model a_ref a_kept a_closure a_posMask a_negMask a_chosen a_known a_decided a_savedTrue a_savedFalse a_group := by
  intro d
  induction d with
  | zero =>
    intro k hk a_group h
    rw [wX_join_67]
    dsimp only
    refine br_t (nI_le (a := 10) (by omega) (by omega)) (K _ fun j hj => ?_)
    rw [h j hj]
    dsimp only
    by_cases e : g j = hi
    · rw [if_pos ⟨by omega, e⟩, if_pos e]
    · rw [if_neg (fun z => e z.2), if_neg e]
  | succ d ih =>
    intro k hk a_group h
    have hin : vp_in (nI k) 10 := vp_in_nI (by omega) (by omega)
    have g10 := hg k (by omega)
    rw [wX_join_67]
    dsimp only
    rw [nI_clamp (show k < 2 ^ 31 by omega), h k (by omega), if_neg (by omega)]
    refine br_f (nI_ge (b := 10) (by omega) (by omega)) ⟨hin, pk_eq (g k) hi (fun z => ⟨hin, nm_e (nm_r (nI_1 k) ?_)⟩) (fun z => nm_r (nI_1 k) ?_)⟩
    · refine ih (k + 1) (by omega) _ fun j hj => ?_
      by_cases e : j = k
      · subst e; rw [pk_us, if_pos ⟨by omega, z⟩]
      · rw [pk_un e, h j hj]
        by_cases y : g j = hi
        · by_cases y' : j < k
          · rw [if_pos ⟨y', y⟩, if_pos ⟨by omega, y⟩]
          · rw [if_neg (fun q => y' q.1), if_neg (fun q => by omega)]
        · rw [if_neg (fun q => y q.2), if_neg (fun q => y q.2)]
    · refine ih (k + 1) (by omega) _ fun j hj => ?_
      rw [h j hj]
      by_cases y : g j = hi
      · have : j ≠ k := fun e => z (by rw [← e]; exact y)
        by_cases y' : j < k
        · rw [if_pos ⟨y', y⟩, if_pos ⟨by omega, y⟩]
        · rw [if_neg (fun q => y' q.1), if_neg (fun q => by omega)]
      · rw [if_neg (fun q => y q.2), if_neg (fun q => y q.2)]
theorem ig_x_join {post : Int32 → SX → Prop} {g : Nat → Nat} {E : Nat → Nat → Prop} {T : Nat → Prop} {s t : Nat} (hg : ig_GT a_group g) (u : ig_U g E T) (hs : s < 10) (ht : t < 10) (hTs : T s) (hTt : T t)
    (K0 : (∀ θ : Nat → Nat, (∀ k, k < 4 → θ k = k) → (∀ a b, E a b → θ a = θ b) → θ s ≠ θ t) → post 0 (f_n, f_verdict, f_preds, f_atoms, f_count, f_refs, f_size, f_trueMask, f_falseMask, a_arities, a_starts, a_atomPred, a_atomFirst, a_atomSecond, a_lengths, a_parts, a_model, a_ref, a_kept, a_closure, a_posMask, a_negMask, a_chosen, a_known, a_decided, a_savedTrue, a_savedFalse, a_group))
    (K1 : ∀ gr' g', ig_GT gr' g' → ig_U g' (fun a b => E a b ∨ (a = s ∧ b = t)) T → post 1 (f_n, f_verdict, f_preds, f_atoms, f_count, f_refs, f_size, f_trueMask, f_falseMask, a_arities, a_starts, a_atomPred, a_atomFirst, a_atomSecond, a_lengths, a_parts, a_model, a_ref, a_kept, a_closure, a_posMask, a_negMask, a_chosen, a_known, a_decided, a_savedTrue, a_savedFalse, gr')) : wpX_join post (f_n, f_verdict, f_preds, f_atoms, f_count, f_refs, f_size, f_trueMask, f_falseMask, a_arities, a_starts, a_atomPred, a_atomFirst, a_atomSecond, a_lengths, a_parts, a_model, a_ref, a_kept, a_closure, a_posMask, a_negMask, a_chosen, a_known, a_decided, a_savedTrue, a_savedFalse, a_group) (nI s) (nI t) := by
  have his : vp_in (nI s) 10 := vp_in_nI hs (by omega)
  have hit : vp_in (nI t) 10 := vp_in_nI ht (by omega)
  have hb : ∀ k, k < 10 → g k < 10 := fun k hk => Nat.lt_of_le_of_lt (u.1 k hk).1 hk
  have bs := hb s hs
  have bt' := hb t ht
  unfold wpX_join
  dsimp only
  rw [nI_clamp (show s < 2 ^ 31 by omega), nI_clamp (show t < 2 ^ 31 by omega), hg s hs, hg t ht]
  refine ⟨his, nm_e ⟨hit, nm_e (pk_eq (g s) (g t) (fun z => ?_) (fun z => ?_))⟩⟩
  · exact K1 a_group g hg (ig_U_eq u hs ht z)
  · have go : ¬ (g s < 4 ∧ g t < 4) → wX_join_36 post (nI (g s)) (nI (g t)) f_n f_verdict f_preds f_atoms f_count f_refs f_size f_trueMask f_falseMask a_arities a_starts a_atomPred a_atomFirst a_atomSecond a_lengths a_parts a_model a_ref a_kept a_closure a_posMask a_negMask a_chosen a_known a_decided a_savedTrue a_savedFalse a_group := by
      intro h4
      unfold wX_join_36 wX_join_48
      refine pk_le (g t) (g s) (fun y => ?_) (fun y => ?_)
      · refine br_t (nI_le y (by omega)) ⟨10 + 1, ig_x_join67 hb (by omega) (fun gr' hgr => ?_) 10 0 (by omega) _ fun j hj => ?_⟩
        · exact K1 gr' _ hgr (ig_U_join u hs ht hTs hTt (show g t < g s by omega) (by omega) (Or.inr ⟨rfl, rfl⟩) (fun k _ => rfl))
        · rw [if_neg (fun q => by omega)]; exact hg j hj
      · refine br_f (nI_ge y (by omega)) ⟨10 + 1, ig_x_join67 hb (by omega) (fun gr' hgr => ?_) 10 0 (by omega) _ fun j hj => ?_⟩
        · exact K1 gr' _ hgr (ig_U_join u hs ht hTs hTt (show g s < g t by omega) (by omega) (Or.inl ⟨rfl, rfl⟩) (fun k _ => rfl))
        · rw [if_neg (fun q => by omega)]; exact hg j hj
    refine pk_le 4 (g s) (fun y => go (by omega)) (fun y => pk_le 4 (g t) (fun y' => go (by omega)) (fun y' => ?_))
    exact K0 fun θ h0 hE => ig_U_no u hs ht z y y' θ h0 hE
theorem ig_x_joinArgs {post : Int32 → SX → Prop} {c : ig_C} (tx : ig_XT c f_n f_atoms a_arities a_starts a_lengths a_parts) {g : Nat → Nat} {E : Nat → Nat → Prop} {T : Nat → Prop} {i j p p' x y fd : Nat}
    (hi : i < 256) (hj : j < 256) (hp : p < 11776) (hp' : p' < 11776) (e1 : a_closure i = nI p) (e2 : a_closure j = nI p') (e3 : a_chosen i = nI x) (e4 : a_chosen j = nI y) (hx : x + fd < 368) (hy : y + fd < 368) (hP : ig_P c (x + fd) ≤ 6) (hQ : ig_P c (y + fd) ≤ 6)
    (hs : ig_rs p (ig_P c (x + fd)) ≤ 6) (ht : ig_rs p' (ig_P c (y + fd)) ≤ 6)
    (hg : ig_GT a_group g) (u : ig_U g E T) (hTs : T (ig_rs p (ig_P c (x + fd)))) (hTt : T (ig_up (ig_rs p' (ig_P c (y + fd)))))
    (K0 : (∀ θ : Nat → Nat, (∀ k, k < 4 → θ k = k) → (∀ a b, E a b → θ a = θ b) → θ (ig_rs p (ig_P c (x + fd))) ≠ θ (ig_up (ig_rs p' (ig_P c (y + fd))))) → post 0 (f_n, f_verdict, f_preds, f_atoms, f_count, f_refs, f_size, f_trueMask, f_falseMask, a_arities, a_starts, a_atomPred, a_atomFirst, a_atomSecond, a_lengths, a_parts, a_model, a_ref, a_kept, a_closure, a_posMask, a_negMask, a_chosen, a_known, a_decided, a_savedTrue, a_savedFalse, a_group))
    (K1 : ∀ gr' g', ig_GT gr' g' → ig_U g' (fun a b => E a b ∨ (a = ig_rs p (ig_P c (x + fd)) ∧ b = ig_up (ig_rs p' (ig_P c (y + fd))))) T → post 1 (f_n, f_verdict, f_preds, f_atoms, f_count, f_refs, f_size, f_trueMask, f_falseMask, a_arities, a_starts, a_atomPred, a_atomFirst, a_atomSecond, a_lengths, a_parts, a_model, a_ref, a_kept, a_closure, a_posMask, a_negMask, a_chosen, a_known, a_decided, a_savedTrue, a_savedFalse, gr')) : wpX_joinArguments post (f_n, f_verdict, f_preds, f_atoms, f_count, f_refs, f_size, f_trueMask, f_falseMask, a_arities, a_starts, a_atomPred, a_atomFirst, a_atomSecond, a_lengths, a_parts, a_model, a_ref, a_kept, a_closure, a_posMask, a_negMask, a_chosen, a_known, a_decided, a_savedTrue, a_savedFalse, a_group) (nI i) (nI j) (nI fd) := by
  have hii : vp_in (nI i) 256 := vp_in_nI hi (by omega)
  have hij : vp_in (nI j) 256 := vp_in_nI hj (by omega)
  unfold wpX_joinArguments
  dsimp only
  rw [nI_clamp (show i < 2 ^ 31 by omega), nI_clamp (show j < 2 ^ 31 by omega), e1, e2, e3, e4, nI_add, nI_add, nI_clamp (show x + fd < 2 ^ 31 by omega), nI_clamp (show y + fd < 2 ^ 31 by omega), (tx.2.2.2.2 (x + fd) hx).1, (tx.2.2.2.2 (y + fd) hy).1]
  refine ⟨hii, hii, vp_in_nI hx (by omega), ig_x_resolve (by omega) hP ⟨hij, hij, vp_in_nI hy (by omega), ig_x_resolve (by omega) hQ ?_⟩⟩
  have fin : ∀ z, z = ig_up (ig_rs p' (ig_P c (y + fd))) → wX_joinArguments_65 post (nI (ig_rs p (ig_P c (x + fd)))) (nI z) f_n f_verdict f_preds f_atoms f_count f_refs f_size f_trueMask f_falseMask a_arities a_starts a_atomPred a_atomFirst a_atomSecond a_lengths a_parts a_model a_ref a_kept a_closure a_posMask a_negMask a_chosen a_known a_decided a_savedTrue a_savedFalse a_group := by
    intro z ez
    subst ez
    unfold wX_joinArguments_65
    refine ig_x_join hg u (by omega) (by unfold ig_up; split <;> omega) hTs hTt (fun h => ?_) (fun gr' g' h1 h2 => ?_)
    · dsimp only; exact ⟨narrow_b0, K0 h⟩
    · dsimp only; exact ⟨narrow_b1, K1 gr' g' h1 h2⟩
  refine pk_lt (ig_rs p' (ig_P c (y + fd))) 4 (fun z => fin _ ?_) (fun z => ?_)
  · unfold ig_up; rw [if_pos z]
  · have e : nI (ig_rs p' (ig_P c (y + fd))) + 3 = nI (ig_rs p' (ig_P c (y + fd)) + 3) := nI_add _ 3
    rw [e]
    refine fin _ ?_
    unfold ig_up; rw [if_neg (by omega)]
theorem ig_x_clash {post : Int32 → SX → Prop} {c : ig_C} {S : Nat → Prop} (tx : ig_XT c f_n f_atoms a_arities a_starts a_lengths a_parts) (w : ig_WF c) (hA : ∀ s, S s → ig_AS c s) {i j p p' x y : Nat}
    (hi : i < 256) (hj : j < 256) (hp : ig_VC c S p) (hp' : ig_VC c S p') (e1 : a_closure i = nI p) (e2 : a_closure j = nI p') (e3 : a_chosen i = nI x) (e4 : a_chosen j = nI y) (ax : ig_At c p x) (ay : ig_At c p' y)
    (K0 : ∀ gr', (ig_P c x ≠ ig_P c y → ig_P c (x + 1) = ig_P c (y + 1) → ∀ θ : Nat → Nat, (∀ k, k < 4 → θ k = k) → ¬ (∀ a b, ig_E c p x p' y a b → θ a = θ b)) → post 0 (f_n, f_verdict, f_preds, f_atoms, f_count, f_refs, f_size, f_trueMask, f_falseMask, a_arities, a_starts, a_atomPred, a_atomFirst, a_atomSecond, a_lengths, a_parts, a_model, a_ref, a_kept, a_closure, a_posMask, a_negMask, a_chosen, a_known, a_decided, a_savedTrue, a_savedFalse, gr'))
    (K1 : ∀ gr' g, ig_GT gr' g → ig_U g (ig_E c p x p' y) (ig_T c p x p' y) → post 1 (f_n, f_verdict, f_preds, f_atoms, f_count, f_refs, f_size, f_trueMask, f_falseMask, a_arities, a_starts, a_atomPred, a_atomFirst, a_atomSecond, a_lengths, a_parts, a_model, a_ref, a_kept, a_closure, a_posMask, a_negMask, a_chosen, a_known, a_decided, a_savedTrue, a_savedFalse, gr')) : wpX_clash post (f_n, f_verdict, f_preds, f_atoms, f_count, f_refs, f_size, f_trueMask, f_falseMask, a_arities, a_starts, a_atomPred, a_atomFirst, a_atomSecond, a_lengths, a_parts, a_model, a_ref, a_kept, a_closure, a_posMask, a_negMask, a_chosen, a_known, a_decided, a_savedTrue, a_savedFalse, a_group) (nI i) (nI j) := by
  have hii : vp_in (nI i) 256 := vp_in_nI hi (by omega)
  have hij : vp_in (nI j) 256 := vp_in_nI hj (by omega)
  have lx := ig_At_LO hA hp ax
  have ly := ig_At_LO hA hp' ay
  obtain ⟨r2, r3⟩ := ig_arg w hA hp ax
  obtain ⟨r2', r3'⟩ := ig_arg w hA hp' ay
  have hn := w.2.1
  have bx : x + 3 < 368 := by
    obtain ⟨q, hq, e⟩ := ax
    have := (hA _ hp.2.1).1
    have := (hA _ hp.2.1).2.2.1
    omega
  have bY : y + 3 < 368 := by
    obtain ⟨q, hq, e⟩ := ay
    have := (hA _ hp'.2.1).1
    have := (hA _ hp'.2.1).2.2.1
    omega
  have x2 : ig_P c (x + 2) ≤ 6 := by rcases lx.2.2.1 with z | z <;> omega
  have x3 : ig_P c (x + 3) ≤ 6 := by rcases lx.2.2.2.1 with z | z <;> omega
  have y2 : ig_P c (y + 2) ≤ 6 := by rcases ly.2.2.1 with z | z <;> omega
  have y3 : ig_P c (y + 3) ≤ 6 := by rcases ly.2.2.2.1 with z | z <;> omega
  have q1 := lx.1
  have q2 := ly.1
  have q3 := (tx.2.2.2.2 (x + 1) (by omega)).2
  have q4 := (tx.2.2.2.2 (y + 1) (by omega)).2
  have ea : nI x + 1 = nI (x + 1) := nI_1 x
  have eb : nI y + 1 = nI (y + 1) := nI_1 y
  have loop : ∀ d k, k + d = 10 → ∀ a_group : Nat → Int32, (∀ j, j < k → a_group j = nI j) → wX_clash_56 post (nI i) (nI j) f_n f_verdict f_preds f_atoms f_count f_refs f_size f_trueMask f_falseMask (d + 1) (nI k) a_arities a_starts a_atomPred a_atomFirst a_atomSecond a_lengths a_parts a_model a_ref a_kept a_closure a_posMask a_negMask a_chosen a_known a_decided a_savedTrue a_savedFalse a_group := by
    intro d
    induction d with
    | zero =>
      intro k hk a_group h
      have ek : k = 10 := by omega
      subst ek
      rw [wX_clash_56]
      dsimp only
      refine br_t (nI_le (a := 10) (by omega) (by omega)) ?_
      refine ig_x_joinArgs (fd := 2) tx hi hj hp.1 hp'.1 e1 e2 e3 e4 (by omega) (by omega) x2 y2 (by omega) (by omega) (g := fun k => k) h (ig_U0 (T := ig_T c p x p' y) (fun _ _ => rfl)) (Or.inl rfl) (Or.inr (Or.inl rfl)) (fun h => ?_) (fun gr' g' h1 h2 => ?_)
      · dsimp only
        refine br_t rfl (K0 _ fun _ _ θ h0 hE => ?_)
        exact h θ h0 (fun _ _ f => f.elim) (hE _ _ (Or.inl (Or.inr ⟨rfl, rfl⟩)))
      · dsimp only
        refine br_f (by decide) ?_
        refine ig_x_joinArgs (fd := 3) tx hi hj hp.1 hp'.1 e1 e2 e3 e4 (by omega) (by omega) x3 y3 (by omega) (by omega) h1 h2 (Or.inr (Or.inr (Or.inl rfl))) (Or.inr (Or.inr (Or.inr rfl))) (fun h => ?_) (fun gr2 g2 h3 h4 => ?_)
        · dsimp only
          refine br_t rfl (K0 _ fun _ _ θ h0 hE => ?_)
          exact h θ h0 (fun a b f => hE a b (Or.inl f)) (hE _ _ (Or.inr ⟨rfl, rfl⟩))
        · dsimp only
          exact br_f (by decide) (K1 gr2 g2 h3 h4)
    | succ d ih =>
      intro k hk a_group h
      rw [wX_clash_56]
      dsimp only
      rw [nI_clamp (show k < 2 ^ 31 by omega)]
      refine br_f (nI_ge (b := 10) (by omega) (by omega)) ⟨vp_in_nI (by omega) (by omega), nm_e (nm_r (nI_1 k) ?_)⟩
      refine ih (k + 1) (by omega) _ fun j hj => ?_
      by_cases e : j = k
      · subst e; rw [pk_us]
      · rw [pk_un e]; exact h j (by omega)
  unfold wpX_clash
  dsimp only
  rw [nI_clamp (show i < 2 ^ 31 by omega), nI_clamp (show j < 2 ^ 31 by omega), e3, e4]
  refine ⟨hii, nm_e ⟨hij, nm_e ?_⟩⟩
  rw [ea, eb, nI_clamp (show x < 2 ^ 31 by omega), nI_clamp (show y < 2 ^ 31 by omega), nI_clamp (show x + 1 < 2 ^ 31 by omega), nI_clamp (show y + 1 < 2 ^ 31 by omega), (tx.2.2.2.2 x (by omega)).1, (tx.2.2.2.2 y (by omega)).1, (tx.2.2.2.2 (x + 1) (by omega)).1, (tx.2.2.2.2 (y + 1) (by omega)).1]
  refine ⟨vp_in_nI (by omega) (by omega), vp_in_nI (by omega) (by omega), pk_eq (ig_P c x) (ig_P c y) (fun z => ?_) (fun z => ⟨vp_in_nI (by omega) (by omega), vp_in_nI (by omega) (by omega), pk_eq (ig_P c (x + 1)) (ig_P c (y + 1)) (fun z' => ?_) (fun z' => ?_)⟩)⟩
  · exact K0 a_group fun h _ => (h z).elim
  · exact ⟨10 + 1, loop 10 0 (by omega) a_group (fun j hj => by omega)⟩
  · exact K0 a_group fun _ h => (z' h).elim
theorem ig_x_image {post : Int32 → Prop} {g : Nat → Nat} {sh old : Nat} (hg : ig_GT a_group g) (hb : ∀ k, k < 10 → g k < 10) (hsh : sh ≤ 3) (ho : old ≤ 6) (K : post (nI (ig_im g sh old))) : wpX_image post (f_n, f_verdict, f_preds, f_atoms, f_count, f_refs, f_size, f_trueMask, f_falseMask, a_arities, a_starts, a_atomPred, a_atomFirst, a_atomSecond, a_lengths, a_parts, a_model, a_ref, a_kept, a_closure, a_posMask, a_negMask, a_chosen, a_known, a_decided, a_savedTrue, a_savedFalse, a_group) (nI old) (nI sh) := by
  unfold wpX_image
  dsimp only
  unfold ig_im at K
  rcases Nat.lt_or_ge old 4 with z | z
  · rw [if_pos z] at K
    exact br_f (nI_ge (b := 4) z (by omega)) K
  · rw [if_neg (by omega)] at K
    have b := hb (old + sh) (by omega)
    refine br_t (nI_le (a := 4) z (by omega)) ?_
    rw [nI_add, nI_clamp (show old + sh < 2 ^ 31 by omega), hg (old + sh) (by omega)]
    refine ⟨vp_in_nI (by omega) (by omega), nm_e ?_⟩
    refine pk_le 4 (g (old + sh)) (fun y => ?_) (fun y => ?_)
    · rw [if_neg (by omega)] at K
      have fin : ∀ n, post (nI old) → wX_image_26 post (nI old) (nI sh) (nI (g (old + sh))) f_n f_verdict f_preds f_atoms f_count f_refs f_size f_trueMask f_falseMask a_arities a_starts a_atomPred a_atomFirst a_atomSecond a_lengths a_parts a_model a_ref a_kept a_closure a_posMask a_negMask a_chosen a_known a_decided a_savedTrue a_savedFalse a_group (n + 1) (nI old) := by
        intro n h
        rw [wX_image_26]
        dsimp only
        exact br_t (nI_le (Nat.le_refl _) (by omega)) h
      have step : ∀ n v, 4 ≤ v → v < old → (g (v + sh) = g (old + sh) → post (nI v)) → (g (v + sh) ≠ g (old + sh) → wX_image_26 post (nI old) (nI sh) (nI (g (old + sh))) f_n f_verdict f_preds f_atoms f_count f_refs f_size f_trueMask f_falseMask a_arities a_starts a_atomPred a_atomFirst a_atomSecond a_lengths a_parts a_model a_ref a_kept a_closure a_posMask a_negMask a_chosen a_known a_decided a_savedTrue a_savedFalse a_group n (nI (v + 1))) → wX_image_26 post (nI old) (nI sh) (nI (g (old + sh))) f_n f_verdict f_preds f_atoms f_count f_refs f_size f_trueMask f_falseMask a_arities a_starts a_atomPred a_atomFirst a_atomSecond a_lengths a_parts a_model a_ref a_kept a_closure a_posMask a_negMask a_chosen a_known a_decided a_savedTrue a_savedFalse a_group (n + 1) (nI v) := by
        intro n v v4 vo h1 h2
        have b' := hb (v + sh) (by omega)
        rw [wX_image_26]
        dsimp only
        rw [nI_add, nI_clamp (show v + sh < 2 ^ 31 by omega), hg (v + sh) (by omega)]
        exact br_f (nI_ge vo (by omega)) ⟨vp_in_nI (by omega) (by omega), pk_eq (g (v + sh)) (g (old + sh)) h1 (fun q => nm_r (nI_1 v) (h2 q))⟩
      refine ⟨2 + 1, ?_⟩
      rcases (show old = 4 ∨ old = 5 ∨ old = 6 by omega) with e | e | e <;> subst e
      · rw [if_neg (by omega), if_neg (by omega)] at K
        exact fin _ K
      · refine step 2 4 (by omega) (by omega) (fun q => ?_) (fun q => fin _ ?_)
        · rw [if_pos ⟨by omega, q⟩] at K; exact K
        · rw [if_neg (fun x => q x.2), if_neg (by omega)] at K; exact K
      · refine step 2 4 (by omega) (by omega) (fun q => ?_) (fun q => step 1 5 (by omega) (by omega) (fun q' => ?_) (fun q' => fin _ ?_))
        · rw [if_pos ⟨by omega, q⟩] at K; exact K
        · rw [if_neg (fun x => q x.2), if_pos ⟨by omega, q'⟩] at K; exact K
        · rw [if_neg (fun x => q x.2), if_neg (fun x => q' x.2)] at K; exact K
    · rw [if_pos y] at K
      exact K
theorem ig_x_narrow {post : Int32 → Prop} {g : Nat → Nat} {sh p : Nat} (hg : ig_GT a_group g) (hb : ∀ k, k < 10 → g k < 10) (hsh : sh ≤ 3) (hp : p < 11776) (hd : ∀ v, 4 ≤ v → v ≤ 6 → ig_rs p v ≤ 6) (K : post (nI (ig_nar g sh p))) : wpX_narrow post (f_n, f_verdict, f_preds, f_atoms, f_count, f_refs, f_size, f_trueMask, f_falseMask, a_arities, a_starts, a_atomPred, a_atomFirst, a_atomSecond, a_lengths, a_parts, a_model, a_ref, a_kept, a_closure, a_posMask, a_negMask, a_chosen, a_known, a_decided, a_savedTrue, a_savedFalse, a_group) (nI p) (nI sh) := by
  unfold wpX_narrow
  dsimp only
  refine nm_r (pk_shrN (by omega) _ 9 (by decide)) ?_
  have step : ∀ n v out, 4 ≤ v → v ≤ 6 → wX_narrow_8 post (nI p) (nI sh) f_n f_verdict f_preds f_atoms f_count f_refs f_size f_trueMask f_falseMask a_arities a_starts a_atomPred a_atomFirst a_atomSecond a_lengths a_parts a_model a_ref a_kept a_closure a_posMask a_negMask a_chosen a_known a_decided a_savedTrue a_savedFalse a_group n (nI (out * 8 + ig_im g sh (ig_rs p v))) (nI (v + 1)) → wX_narrow_8 post (nI p) (nI sh) f_n f_verdict f_preds f_atoms f_count f_refs f_size f_trueMask f_falseMask a_arities a_starts a_atomPred a_atomFirst a_atomSecond a_lengths a_parts a_model a_ref a_kept a_closure a_posMask a_negMask a_chosen a_known a_decided a_savedTrue a_savedFalse a_group (n + 1) (nI out) (nI v) := by
    intro n v out v4 v6 h
    rw [wX_narrow_8]
    dsimp only
    refine br_f (nI_nlt (a := 6) v6 (by omega)) (ig_x_resolve (by omega) v6 (ig_x_image hg hb hsh (hd v v4 v6) ?_))
    refine nm_r (e' := nI (out * 8 + ig_im g sh (ig_rs p v))) ?_ (nm_r (nI_1 v) h)
    show nI out * nI 8 + _ = _
    rw [pk_mul, nI_add]
  refine ⟨3 + 1, step 3 4 _ (by omega) (by omega) (step 2 5 _ (by omega) (by omega) (step 1 6 _ (by omega) (by omega) ?_))⟩
  rw [wX_narrow_8]
  dsimp only
  exact br_t (nI_lt (a := 6) (by omega) (by omega)) K
end
end
section
/-! growing, and the decision -/
theorem ig_CC_mono {c : ig_C} {N N' : Nat} {cl cl' : Nat → Nat} {p i p' j : Nat} (hN : N ≤ N') (hc : ∀ a, a < N → cl' a = cl a) (h : ig_CC c N cl p i p' j) : ig_CC c N' cl' p i p' j := by
  intro h1 h2
  rcases h h1 h2 with z | ⟨g, u, ⟨a, ha, ea⟩, ⟨b, hb, eb⟩⟩
  · exact Or.inl z
  · exact Or.inr ⟨g, u, ⟨a, by omega, by rw [hc a ha]; exact ea⟩, ⟨b, by omega, by rw [hc b hb]; exact eb⟩⟩
def ig_GW (c : ig_C) (B : Nat) (cl0 ch : Nat → Nat) (N : Nat) (cl : Nat → Nat) (i j : Nat) : Prop :=
  B ≤ N ∧ (∀ a, a < B → cl a = cl0 a) ∧ (∀ M, ig_Md c M B cl0 → ig_Md c M N cl) ∧ (∀ i' j', j' < i' → (i' < i ∨ (i' = i ∧ j' < j)) → ig_CC c N cl (cl0 i') (ch i') (cl0 j') (ch j'))
theorem ig_GW_Ex {c : ig_C} {B : Nat} {cl0 ch : Nat → Nat} {N : Nat} {cl : Nat → Nat} {i j N' : Nat} {cl' : Nat → Nat} {p : Nat} (h : ig_GW c B cl0 ch N cl i j) (e : ig_Ex N cl N' cl' p) (hg : ∀ M, ig_Md c M B cl0 → ig_GI c M p) : ig_GW c B cl0 ch N' cl' i j := by
  obtain ⟨h1, h2, h3, h4⟩ := h
  obtain ⟨e1, e2, _, e4⟩ := e
  refine ⟨by omega, fun a ha => by rw [e2 a (by omega)]; exact h2 a ha, fun M hM a ha => ?_, fun i' j' a b => ig_CC_mono e1 e2 (h4 i' j' a b)⟩
  rcases Nat.lt_or_ge a N with z | z
  · rw [e2 a z]; exact h3 M hM a z
  · rw [e4 a z ha]; exact hg M hM
section
variable {f_n f_verdict f_preds f_atoms f_count f_refs f_size f_trueMask f_falseMask : Int32} {a_arities a_starts a_atomPred a_atomFirst a_atomSecond a_lengths a_parts a_model a_ref a_kept a_closure a_posMask a_negMask a_chosen a_known a_decided a_savedTrue a_savedFalse a_group : Nat → Int32}
theorem ig_x_grow14 {post : Int32 → SX → Prop} {J : Int32 → Int32 → Int32 → Int32 → Int32 → Int32 → Int32 → Int32 → Int32 → Int32 → (Nat → Int32) → (Nat → Int32) → (Nat → Int32) → (Nat → Int32) → (Nat → Int32) → (Nat → Int32) → (Nat → Int32) → (Nat → Int32) → (Nat → Int32) → (Nat → Int32) → (Nat → Int32) → (Nat → Int32) → (Nat → Int32) → (Nat → Int32) → (Nat → Int32) → (Nat → Int32) → (Nat → Int32) → (Nat → Int32) → (Nat → Int32) → Prop}
    {c : ig_C} {S : Nat → Prop} (tx : ig_XT c f_n f_atoms a_arities a_starts a_lengths a_parts) (w : ig_WF c) (hA : ∀ s, S s → ig_AS c s) (hC : ig_Cap c S) {B : Nat} {cl0 ch : Nat → Nat} {M0 : Nat → Bool} (hB : B < 256) (hV0 : ∀ i, i < B → ig_VC c S (cl0 i)) (hch : ig_CH c B cl0 a_chosen M0 ch) {i : Nat} (hi : i < B)
    (K : ∀ N' cl' sz' clo' pm' nm' kn' gr', ig_DY c S N' cl' sz' clo' pm' nm' kn' → ig_GW c B cl0 ch N' cl' (i + 1) 0 → J (nI (i + 1)) f_n f_verdict f_preds f_atoms f_count f_refs sz' f_trueMask f_falseMask a_arities a_starts a_atomPred a_atomFirst a_atomSecond a_lengths a_parts a_model a_ref a_kept clo' pm' nm' a_chosen kn' a_decided a_savedTrue a_savedFalse gr') :
    ∀ d j, j + d = i → ∀ (N : Nat) (cl : Nat → Nat) (f_size : Int32) (a_closure a_posMask a_negMask a_known a_group : Nat → Int32), ig_DY c S N cl f_size a_closure a_posMask a_negMask a_known → ig_GW c B cl0 ch N cl i j →
      wX_grow_14 post J (nI B) (nI i) (d + 1) (nI j) f_n f_verdict f_preds f_atoms f_count f_refs f_size f_trueMask f_falseMask a_arities a_starts a_atomPred a_atomFirst a_atomSecond a_lengths a_parts a_model a_ref a_kept a_closure a_posMask a_negMask a_chosen a_known a_decided a_savedTrue a_savedFalse a_group := by
  intro d
  induction d with
  | zero =>
    intro j hj N cl f_size a_closure a_posMask a_negMask a_known a_group D G
    rw [wX_grow_14]
    dsimp only
    refine br_t (nI_le (by omega) (by omega)) (nm_r (nI_1 i) (K N cl _ _ _ _ _ _ D ⟨G.1, G.2.1, G.2.2.1, fun i' j' a b => G.2.2.2 i' j' a (by omega)⟩))
  | succ d ih =>
    intro j hj N cl f_size a_closure a_posMask a_negMask a_known a_group D G
    have hiN : i < N := by have := G.1; omega
    have hjN : j < N := by omega
    have ei := G.2.1 i hi
    have ej := G.2.1 j (by omega)
    have di := D.2.1 i hiN
    have dj := D.2.1 j hjN
    rw [ei] at di
    rw [ej] at dj
    have hci := hch i hi
    have hcj := hch j (by omega)
    have vi := hV0 i hi
    have vj := hV0 j (by omega)
    rw [wX_grow_14]
    dsimp only
    refine br_f (nI_ge (by omega) (by omega)) ?_
    refine ig_x_clash tx w hA (by omega) (by omega) vi vj di.1 dj.1 hci.1 hcj.1 hci.2.1 hcj.2.1 (fun gr' h => ?_) (fun gr' g hg u => ?_)
    · dsimp only
      refine br_t rfl (nm_r (nI_1 j) ?_)
      refine ih (j + 1) (by omega) N cl _ _ _ _ _ _ D ⟨G.1, G.2.1, G.2.2.1, fun i' j' a b => ?_⟩
      rcases (show (i' < i ∨ (i' = i ∧ j' < j)) ∨ (i' = i ∧ j' = j) by omega) with z | ⟨rfl, rfl⟩
      · exact G.2.2.2 i' j' a z
      · intro h1 h2
        exact Or.inl (h h1 h2)
    · dsimp only
      have hb : ∀ k, k < 10 → g k < 10 := fun k hk => Nat.lt_of_le_of_lt (u.1 k hk).1 hk
      have tc := ig_T_c w hA vi vj hci.2.1 hcj.2.1
      have tl := ig_T_l (p' := cl0 j) (j := ch j) w hA vi hci.2.1
      have tr := ig_T_r w hA vi vj hci.2.1 hcj.2.1
      refine br_f (by decide) ⟨vp_in_nI (by omega) (by omega), ?_⟩
      rw [nI_clamp (show i < 2 ^ 31 by omega), nI_clamp (show j < 2 ^ 31 by omega), di.1, dj.1]
      refine ig_x_narrow (sh := 0) hg hb (by omega) vi.1 (ig_VC_6 w vi) ⟨vp_in_nI (by omega) (by omega), ?_⟩
      refine ig_x_narrow (sh := 3) hg hb (by omega) vj.1 (ig_VC_6 w vj) ?_
      refine ig_x_add tx w hA hC (ig_nar_VC w vi u (by omega) tc tl) D ?_
      intro N1 cl1 sz1 clo1 pm1 nm1 kn1 D1 E1
      dsimp only
      refine ig_x_add tx w hA hC (ig_nar_VC w vj u (by omega) tc tr) D1 ?_
      intro N2 cl2 sz2 clo2 pm2 nm2 kn2 D2 E2
      dsimp only
      refine nm_r (nI_1 j) ?_
      have G1 := ig_GW_Ex G E1 (fun M hM => ig_nar_GI w vi (hA _ vi.2.1).2.2 u (by omega) tc tl (hM i hi))
      have G2 := ig_GW_Ex G1 E2 (fun M hM => ig_nar_GI w vj (hA _ vj.2.1).2.2 u (by omega) tc tr (hM j (by omega)))
      refine ih (j + 1) (by omega) N2 cl2 _ _ _ _ _ _ D2 ⟨G2.1, G2.2.1, G2.2.2.1, fun i' j' a b => ?_⟩
      rcases (show (i' < i ∨ (i' = i ∧ j' < j)) ∨ (i' = i ∧ j' = j) by omega) with z | ⟨rfl, rfl⟩
      · exact G2.2.2.2 i' j' a z
      · intro h1 h2
        obtain ⟨a1, ha1, ea1⟩ := E1.2.2.1
        obtain ⟨a2, ha2, ea2⟩ := E2.2.2.1
        have := E2.1
        exact Or.inr ⟨g, u, ⟨a1, by omega, by rw [E2.2.1 a1 ha1]; exact ea1⟩, ⟨a2, ha2, ea2⟩⟩
theorem ig_x_grow7 {post : Int32 → SX → Prop} {c : ig_C} {S : Nat → Prop} (tx : ig_XT c f_n f_atoms a_arities a_starts a_lengths a_parts) (w : ig_WF c) (hA : ∀ s, S s → ig_AS c s) (hC : ig_Cap c S) {B : Nat} {cl0 ch : Nat → Nat} {M0 : Nat → Bool} (hB : B < 256) (hV0 : ∀ i, i < B → ig_VC c S (cl0 i)) (hch : ig_CH c B cl0 a_chosen M0 ch)
    (K : ∀ r N' cl' sz' clo' pm' nm' kn' gr', ig_DY c S N' cl' sz' clo' pm' nm' kn' → ig_GW c B cl0 ch N' cl' B 0 → ((r = 0 ∧ N' = B) ∨ (r = 1 ∧ B < N')) → post r (f_n, f_verdict, f_preds, f_atoms, f_count, f_refs, sz', f_trueMask, f_falseMask, a_arities, a_starts, a_atomPred, a_atomFirst, a_atomSecond, a_lengths, a_parts, a_model, a_ref, a_kept, clo', pm', nm', a_chosen, kn', a_decided, a_savedTrue, a_savedFalse, gr')) :
    ∀ d i, i + d = B → ∀ (N : Nat) (cl : Nat → Nat) (f_size : Int32) (a_closure a_posMask a_negMask a_known a_group : Nat → Int32), ig_DY c S N cl f_size a_closure a_posMask a_negMask a_known → ig_GW c B cl0 ch N cl i 0 →
      wX_grow_7 post (nI B) (d + 1) (nI i) f_n f_verdict f_preds f_atoms f_count f_refs f_size f_trueMask f_falseMask a_arities a_starts a_atomPred a_atomFirst a_atomSecond a_lengths a_parts a_model a_ref a_kept a_closure a_posMask a_negMask a_chosen a_known a_decided a_savedTrue a_savedFalse a_group := by
  intro d
  induction d with
  | zero =>
    intro i hi N cl f_size a_closure a_posMask a_negMask a_known a_group D G
    have hN : N ≤ 255 := ig_cap_lt hC (fun i hi => (D.2.1 i hi).2.1) D.2.2.1
    have e : i = B := by omega
    subst e
    have g1 := G.1
    have es := D.1
    rw [wX_grow_7]
    dsimp only
    refine br_t (nI_le (by omega) (by omega)) (pk_le N i (fun z => ?_) (fun z => ?_) es)
    · exact K 0 N cl _ _ _ _ _ _ D G (Or.inl ⟨rfl, by omega⟩)
    · exact K 1 N cl _ _ _ _ _ _ D G (Or.inr ⟨rfl, z⟩)
  | succ d ih =>
    intro i hi N cl f_size a_closure a_posMask a_negMask a_known a_group D G
    rw [wX_grow_7]
    dsimp only
    refine br_f (nI_ge (by omega) (by omega)) ⟨i + 1, ?_⟩
    refine ig_x_grow14 tx w hA hC hB hV0 hch (by omega) ?_ i 0 (by omega) N cl _ _ _ _ _ _ D G
    intro N' cl' sz' clo' pm' nm' kn' gr' D' G'
    exact ih (i + 1) (by omega) N' cl' _ _ _ _ _ _ D' G'
theorem ig_x_grow {post : Int32 → SX → Prop} {c : ig_C} {S : Nat → Prop} (tx : ig_XT c f_n f_atoms a_arities a_starts a_lengths a_parts) (w : ig_WF c) (hA : ∀ s, S s → ig_AS c s) (hC : ig_Cap c S) {B : Nat} {cl0 ch : Nat → Nat} {M0 : Nat → Bool} (hch : ig_CH c B cl0 a_chosen M0 ch)
    (D : ig_DY c S B cl0 f_size a_closure a_posMask a_negMask a_known)
    (K : ∀ r N' cl' sz' clo' pm' nm' kn' gr', ig_DY c S N' cl' sz' clo' pm' nm' kn' → (∀ a, a < B → cl' a = cl0 a) → (∀ M, ig_Md c M B cl0 → ig_Md c M N' cl') →
      ((r = 0 ∧ ∀ i j, j < i → i < B → ig_CC c B cl0 (cl0 i) (ch i) (cl0 j) (ch j)) ∨ (r = 1 ∧ B < N')) → post r (f_n, f_verdict, f_preds, f_atoms, f_count, f_refs, sz', f_trueMask, f_falseMask, a_arities, a_starts, a_atomPred, a_atomFirst, a_atomSecond, a_lengths, a_parts, a_model, a_ref, a_kept, clo', pm', nm', a_chosen, kn', a_decided, a_savedTrue, a_savedFalse, gr')) : wpX_grow post (f_n, f_verdict, f_preds, f_atoms, f_count, f_refs, f_size, f_trueMask, f_falseMask, a_arities, a_starts, a_atomPred, a_atomFirst, a_atomSecond, a_lengths, a_parts, a_model, a_ref, a_kept, a_closure, a_posMask, a_negMask, a_chosen, a_known, a_decided, a_savedTrue, a_savedFalse, a_group) := by
  have hB : B ≤ 255 := ig_cap_lt hC (fun i hi => (D.2.1 i hi).2.1) D.2.2.1
  have es := D.1
  unfold wpX_grow
  dsimp only
  refine ⟨B + 1, ?_⟩
  subst es
  refine ig_x_grow7 tx w hA hC (by omega) (fun i hi => (D.2.1 i hi).2.1) hch ?_ B 0 (by omega) B cl0 _ _ _ _ _ _ D ⟨Nat.le_refl _, fun _ _ => rfl, fun _ h => h, fun i' j' a b => by omega⟩
  intro r N' cl' sz' clo' pm' nm' kn' gr' D' G' hr
  refine K r N' cl' sz' clo' pm' nm' kn' gr' D' G'.2.1 G'.2.2.1 ?_
  rcases hr with ⟨h1, h2⟩ | h
  · left
    refine ⟨h1, fun i j hj hi => ?_⟩
    subst h2
    exact ig_CC_mono (Nat.le_refl _) (fun a ha => (G'.2.1 a ha).symm) (G'.2.2.2 i j hj (Or.inl hi))
  · exact Or.inr h
theorem ig_x_sat2 {post : Int32 → SX → Prop} {c : ig_C} {S : Nat → Prop} (tx : ig_XT c f_n f_atoms a_arities a_starts a_lengths a_parts) (w : ig_WF c) (hA : ∀ s, S s → ig_AS c s) (hC : ig_Cap c S) {N0 : Nat} {cl0 : Nat → Nat}
    (K : ∀ r N' cl' sz' t' f' clo' pm' nm' ch' kn' dc' sT' sF' gr', ig_DY c S N' cl' sz' clo' pm' nm' kn' → ((r = 0 ∧ ¬ ig_Sat c N0 cl0) ∨ (r = 1 ∧ ig_Sat c N0 cl0)) → post r (f_n, f_verdict, f_preds, f_atoms, f_count, f_refs, sz', t', f', a_arities, a_starts, a_atomPred, a_atomFirst, a_atomSecond, a_lengths, a_parts, a_model, a_ref, a_kept, clo', pm', nm', ch', kn', dc', sT', sF', gr')) :
    ∀ n x, ∀ (N : Nat) (cl : Nat → Nat) (f_size f_trueMask f_falseMask : Int32) (a_closure a_posMask a_negMask a_chosen a_known a_decided a_savedTrue a_savedFalse a_group : Nat → Int32), ig_DY c S N cl f_size a_closure a_posMask a_negMask a_known → 256 < N + n → x ≤ N →
      N0 ≤ N → (∀ i, i < N0 → cl i = cl0 i) → (∀ M, ig_Md c M N0 cl0 → ig_Md c M N cl) → wX_satisfiable_2 post n (nI x) f_n f_verdict f_preds f_atoms f_count f_refs f_size f_trueMask f_falseMask a_arities a_starts a_atomPred a_atomFirst a_atomSecond a_lengths a_parts a_model a_ref a_kept a_closure a_posMask a_negMask a_chosen a_known a_decided a_savedTrue a_savedFalse a_group := by
  intro n
  induction n with
  | zero =>
    intro x N cl f_size f_trueMask f_falseMask a_closure a_posMask a_negMask a_chosen a_known a_decided a_savedTrue a_savedFalse a_group D hd hx h1 h2 h3
    have hN : N ≤ 255 := ig_cap_lt hC (fun i hi => (D.2.1 i hi).2.1) D.2.2.1
    omega
  | succ n ih =>
    intro x N cl f_size f_trueMask f_falseMask a_closure a_posMask a_negMask a_chosen a_known a_decided a_savedTrue a_savedFalse a_group D hd hx h1 h2 h3
    have hN : N ≤ 255 := ig_cap_lt hC (fun i hi => (D.2.1 i hi).2.1) D.2.2.1
    have es := D.1
    have ea := tx.2.1
    subst es
    subst ea
    have hA10 := w.2.2.1
    rw [wX_satisfiable_2]
    dsimp only
    refine br_f (nI_nlt (a := 256) (by omega) (by omega)) ?_
    refine ig_x_search hA10 (by omega) (fun i hi => ig_MK_pb w hA (D.2.1 i hi).2.1 (D.2.1 i hi).2.2) ?_
    intro r t' f' dc' sT' sF' hr
    dsimp only
    rcases hr with ⟨rfl, hr⟩ | ⟨rfl, hr⟩
    · refine br_t rfl (K 0 N cl _ _ _ _ _ _ _ _ _ _ _ _ D (Or.inl ⟨rfl, ?_⟩))
      rintro ⟨M, hM⟩
      refine hr M fun i hi => ?_
      rw [ig_MK_sm (D.2.1 i hi).2.2]
      exact h3 M hM i hi (fun _ => 0) (fun _ => w.1)
    · refine br_f (by decide) ?_
      refine ig_x_select (S := S) tx w hA (by omega) (fun i hi => ⟨(D.2.1 i hi).1, (D.2.1 i hi).2.1⟩) (fun i hi => (ig_MK_sm (D.2.1 i hi).2.2 _).mp (hr i hi)) ?_
      intro ch' ch hch
      dsimp only
      refine ig_x_grow (S := S) tx w hA hC hch D ?_
      intro r N' cl' sz' clo' pm' nm' kn' gr' D' g1 g2 g3
      dsimp only
      rcases g3 with ⟨rfl, g3⟩ | ⟨rfl, g3⟩
      · refine br_t rfl (K 1 N' cl' _ _ _ _ _ _ _ _ _ _ _ _ D' (Or.inr ⟨rfl, ?_⟩))
        obtain ⟨M, hM⟩ := ig_complete w hA (fun i hi => (D.2.1 i hi).2.1) (fun i hi => (hch i hi).2) g3
        exact ⟨M, fun i hi => by rw [← h2 i hi]; exact hM i (by omega)⟩
      · exact br_f (by decide) (nm_r (nI_1 x) (ih (x + 1) N' cl' _ _ _ _ _ _ _ _ _ _ _ _ D' (by omega) (by omega) (by omega) (fun i hi => by rw [g1 i (by omega)]; exact h2 i hi) (fun M hM => g2 M (h3 M hM))))
theorem ig_x_sat {post : Int32 → SX → Prop} {c : ig_C} {S : Nat → Prop} {R : Nat → Prop} (tx : ig_XT c f_n f_atoms a_arities a_starts a_lengths a_parts) (w : ig_WF c) (hA : ∀ s, S s → ig_AS c s) (hC : ig_Cap c S) {N : Nat} {cl : Nat → Nat}
    (D : ig_DY c S N cl f_size a_closure a_posMask a_negMask a_known) (hR : ig_St N cl R)
    (K : ∀ r sz' t' f' clo' pm' nm' ch' kn' dc' sT' sF' gr', ig_DL sz' clo' kn' → ((r = 0 ∧ ¬ ∃ M, ∀ p, R p → ig_GI c M p) ∨ (r = 1 ∧ ∃ M, ∀ p, R p → ig_GI c M p)) → post r (f_n, f_verdict, f_preds, f_atoms, f_count, f_refs, sz', t', f', a_arities, a_starts, a_atomPred, a_atomFirst, a_atomSecond, a_lengths, a_parts, a_model, a_ref, a_kept, clo', pm', nm', ch', kn', dc', sT', sF', gr')) : wpX_satisfiable post (f_n, f_verdict, f_preds, f_atoms, f_count, f_refs, f_size, f_trueMask, f_falseMask, a_arities, a_starts, a_atomPred, a_atomFirst, a_atomSecond, a_lengths, a_parts, a_model, a_ref, a_kept, a_closure, a_posMask, a_negMask, a_chosen, a_known, a_decided, a_savedTrue, a_savedFalse, a_group) := by
  unfold wpX_satisfiable
  dsimp only
  refine ⟨257, ?_⟩
  refine ig_x_sat2 (S := S) tx w hA hC (N0 := N) (cl0 := cl) ?_ 257 0 N cl _ _ _ _ _ _ _ _ _ _ _ _ D (by omega) (by omega) (by omega) (fun _ _ => rfl) (fun _ h => h)
  intro r N' cl' sz' t' f' clo' pm' nm' ch' kn' dc' sT' sF' gr' D' hr
  refine K r sz' t' f' clo' pm' nm' ch' kn' dc' sT' sF' gr' (ig_DY_DL hC D') ?_
  rw [ig_St_Sat hR] at hr
  exact hr
end
end
section
/-! other lengths and parts; slots that are alike -/
def ig_w (c : ig_C) (L P : Nat → Nat) : ig_C := (c.1, c.2.1, c.2.2.1, c.2.2.2.1, c.2.2.2.2.1, L, P)
def ig_Lk (c : ig_C) (t : Nat) (L P : Nat → Nat) (s : Nat) : Prop := L s = ig_L c t ∧ ig_L c t ≤ 4 ∧ ∀ k, k < 16 → P (s * 16 + k) = ig_P c (t * 16 + k)
theorem ig_Lk_P {c : ig_C} {t s : Nat} {L P : Nat → Nat} (h : ig_Lk c t L P s) {q : Nat} (hq : q < ig_L c t) : P (s * 16 + q * 4) = ig_P c (t * 16 + q * 4) ∧ P (s * 16 + q * 4 + 1) = ig_P c (t * 16 + q * 4 + 1) ∧ P (s * 16 + q * 4 + 2) = ig_P c (t * 16 + q * 4 + 2) ∧ P (s * 16 + q * 4 + 3) = ig_P c (t * 16 + q * 4 + 3) := by
  have h4 := h.2.1
  exact ⟨h.2.2 (q * 4) (by omega), h.2.2 (q * 4 + 1) (by omega), h.2.2 (q * 4 + 2) (by omega), h.2.2 (q * 4 + 3) (by omega)⟩
theorem ig_w_occ {c : ig_C} {t s : Nat} {L P : Nat → Nat} (h : ig_Lk c t L P s) (v : Nat) : ig_occ (ig_w c L P) s v ↔ ig_occ c t v := by
  unfold ig_occ
  show (∃ q, q < L s ∧ (P (s * 16 + q * 4 + 2) = v ∨ P (s * 16 + q * 4 + 3) = v)) ↔ _
  constructor
  · rintro ⟨q, hq, e⟩
    rw [h.1] at hq
    have k := ig_Lk_P h hq
    rw [k.2.2.1, k.2.2.2] at e
    exact ⟨q, hq, e⟩
  · rintro ⟨q, hq, e⟩
    have k := ig_Lk_P h hq
    rw [← k.2.2.1, ← k.2.2.2] at e
    exact ⟨q, by rw [h.1]; exact hq, e⟩
theorem ig_w_ob {c : ig_C} {t s : Nat} {L P : Nat → Nat} (h : ig_Lk c t L P s) (v : Nat) : ig_ob (ig_w c L P) s v = ig_ob c t v := by
  have e := ig_w_occ h v
  rw [← ig_ob_iff, ← ig_ob_iff] at e
  exact Bool.eq_iff_iff.mpr e
theorem ig_w_lit {c : ig_C} {t s : Nat} {L P : Nat → Nat} (h : ig_Lk c t L P s) {q : Nat} (hq : q < ig_L c t) (σ : Nat → Nat) : ig_lit (ig_w c L P) (s * 16 + q * 4) σ = ig_lit c (t * 16 + q * 4) σ := by
  have k := ig_Lk_P h hq
  unfold ig_lit
  show ig_ao (ig_w c L P) (P (s * 16 + q * 4 + 1)) (ig_gv σ (P (s * 16 + q * 4 + 2))) (ig_gv σ (P (s * 16 + q * 4 + 3))) = _
  rw [k.2.1, k.2.2.1, k.2.2.2]
  rfl
theorem ig_w_CT {c : ig_C} {t s : Nat} {L P : Nat → Nat} (h : ig_Lk c t L P s) (M : Nat → Bool) (σ : Nat → Nat) : ig_CT (ig_w c L P) M s σ ↔ ig_CT c M t σ := by
  unfold ig_CT ig_LT
  show (∃ q, q < L s ∧ (M (ig_lit (ig_w c L P) (s * 16 + q * 4) σ) = true ↔ P (s * 16 + q * 4) = 1)) ↔ _
  constructor
  · rintro ⟨q, hq, e⟩
    rw [h.1] at hq
    rw [ig_w_lit h hq, (ig_Lk_P h hq).1] at e
    exact ⟨q, hq, e⟩
  · rintro ⟨q, hq, e⟩
    rw [← ig_w_lit h hq, ← (ig_Lk_P h hq).1] at e
    exact ⟨q, by rw [h.1]; exact hq, e⟩
theorem ig_w_CO {c : ig_C} {t s : Nat} {L P : Nat → Nat} (h : ig_Lk c t L P s) (k : ig_CO c t) : ig_CO (ig_w c L P) s := by
  refine ⟨?_, fun q hq => ?_⟩
  · show L s ≤ 4; rw [h.1]; exact h.2.1
  · have hq : q < L s := hq
    rw [h.1] at hq
    have e := ig_Lk_P h hq
    have l := k.2 q hq
    unfold ig_LO at l ⊢
    rw [← e.1, ← e.2.1, ← e.2.2.1, ← e.2.2.2] at l
    exact l
theorem ig_w_ws {c : ig_C} {t s : Nat} {L P : Nat → Nat} (h : ig_Lk c t L P s) : ig_ws (ig_w c L P) s = ig_ws c t := by
  unfold ig_ws
  rw [ig_w_ob h, ig_w_ob h, ig_w_ob h]; rfl
theorem ig_w_sw {c : ig_C} {L P : Nat → Nat} : ∀ {k : Nat}, (∀ s, s < k → ig_Lk c s L P s) → ig_sw (ig_w c L P) k = ig_sw c k
  | 0, _ => rfl
  | k + 1, h => by
    unfold ig_sw
    rw [ig_w_sw (k := k) (fun s hs => h s (by omega)), ig_w_ws (h k (by omega))]
theorem ig_w_fl {c : ig_C} {L P : Nat → Nat} : ∀ {k : Nat}, (∀ s, s < k → ig_Lk c s L P s) → ig_fl (ig_w c L P) k = ig_fl c k
  | 0, _ => rfl
  | k + 1, h => by
    unfold ig_fl
    rw [ig_w_fl (k := k) (fun s hs => h s (by omega))]
    unfold ig_inr
    rw [ig_w_ob (h k (by omega)), ig_w_ob (h k (by omega)), ig_w_ob (h k (by omega))]; rfl
theorem ig_w_WF {c : ig_C} {L P : Nat → Nat} (w : ig_WF c) : ig_WF (ig_w c L P) := w
/-- the store between calls: cnt closed clauses and one begun -/
def ig_Gd (c : ig_C) (cnt : Nat) : Prop := ig_WF c ∧ cnt ≤ 12 ∧ (∀ s, s < cnt → 1 ≤ ig_L c s) ∧ (∀ s, s ≤ cnt → ig_CO c s) ∧ ig_sw c cnt ≤ 48
theorem ig_w_Gd {c : ig_C} {cnt : Nat} {L P : Nat → Nat} (g : ig_Gd c cnt) (h : ∀ s, s ≤ cnt → ig_Lk c s L P s) : ig_Gd (ig_w c L P) cnt := by
  obtain ⟨g1, g2, g3, g4, g5⟩ := g
  refine ⟨g1, g2, fun s hs => ?_, fun s hs => ig_w_CO (h s hs) (g4 s hs), ?_⟩
  · show 1 ≤ L s
    rw [(h s (by omega)).1]; exact g3 s hs
  · rw [ig_w_sw (fun s hs => h s (by omega))]; exact g5
/-- models of the closed clauses -/
def ig_Mo (c : ig_C) (cnt : Nat) (M : Nat → Bool) : Prop := ∀ s, s < cnt → ∀ τ : Nat → Nat, (∀ v, τ v < ig_n c) → ig_CT c M s τ
theorem ig_w_Mo {c : ig_C} {cnt : Nat} {L P : Nat → Nat} (h : ∀ s, s < cnt → ig_Lk c s L P s) (M : Nat → Bool) : ig_Mo (ig_w c L P) cnt M ↔ ig_Mo c cnt M := by
  unfold ig_Mo
  constructor
  · intro a s hs τ hτ; exact (ig_w_CT (h s hs) M τ).mp (a s hs τ hτ)
  · intro a s hs τ hτ; exact (ig_w_CT (h s hs) M τ).mpr (a s hs τ hτ)
theorem ig_Mo_GI {c : ig_C} {cnt : Nat} (g : ig_Gd c cnt) (M : Nat → Bool) : ig_Mo c cnt M ↔ ∀ s, s < cnt → ig_GI c M (ig_rt s) := by
  constructor
  · intro h s hs; exact (ig_rt_GI0 (g.2.2.2.1 s (by omega)) g.1.2.1).mpr (h s hs)
  · intro h s hs; exact (ig_rt_GI0 (g.2.2.2.1 s (by omega)) g.1.2.1).mp (h s hs)
theorem ig_Mo_fl {c : ig_C} {cnt : Nat} (g : ig_Gd c cnt) (M : Nat → Bool) : ig_Mo c cnt M ↔ ∀ e, e ∈ ig_fl c cnt → ig_CT c M (e / 64) (ig_va (e % 64)) := by
  rw [ig_Mo_GI g M]
  constructor
  · intro h e he
    have m := ig_fl_mem he
    exact (ig_rt_GI g.1 (g.2.2.2.1 _ (by omega))).mp (h _ m.1) e m.2
  · intro h s hs
    rw [ig_rt_GI g.1 (g.2.2.2.1 s (by omega))]
    intro e he
    have := h e (ig_mem_fl hs he)
    rw [(ig_inr_mem he).1] at this
    exact this
/-- a ground unit in slot s that speaks of atom k -/
def ig_Ut (c : ig_C) (s k : Nat) : Prop := ig_L c s = 1 ∧ ig_LO c (s * 16) ∧ (∀ σ, ig_lit c (s * 16) σ = k) ∧ (∀ v, 4 ≤ v → ¬ ig_occ c s v)
theorem ig_Ut_CT {c : ig_C} {s k : Nat} (u : ig_Ut c s k) (M : Nat → Bool) (σ : Nat → Nat) : ig_CT c M s σ ↔ (M k = true ↔ ig_P c (s * 16) = 1) := by
  obtain ⟨u1, u2, u3, u4⟩ := u
  unfold ig_CT ig_LT
  rw [u1]
  constructor
  · rintro ⟨q, hq, e⟩
    have z : q = 0 := by omega
    subst z
    rw [Nat.zero_mul, Nat.add_zero, u3] at e
    exact e
  · intro e
    refine ⟨0, by omega, ?_⟩
    rw [Nat.zero_mul, Nat.add_zero, u3]
    exact e
theorem ig_Ut_CO {c : ig_C} {s k : Nat} (u : ig_Ut c s k) : ig_CO c s := by
  refine ⟨by rw [u.1]; omega, fun q hq => ?_⟩
  rw [u.1] at hq
  have z : q = 0 := by omega
  subst z
  rw [Nat.zero_mul, Nat.add_zero]; exact u.2.1
/-- a literal put at i -/
def ig_pt (c : ig_C) (i sg q a b : Nat) : Nat → Nat := fun k => if k = i + 3 then (if ig_ar c q ≤ 1 then 0 else b) else if k = i + 2 then (if ig_ar c q ≤ 0 then 0 else a) else if k = i + 1 then q else if k = i then sg else ig_P c k
theorem ig_pt_o {c : ig_C} {i sg q a b k : Nat} (h : k < i ∨ i + 3 < k) : ig_pt c i sg q a b k = ig_P c k := by
  unfold ig_pt
  rw [if_neg (by omega), if_neg (by omega), if_neg (by omega), if_neg (by omega)]
theorem ig_pt_v (c : ig_C) (i sg q a b : Nat) : ig_pt c i sg q a b i = sg ∧ ig_pt c i sg q a b (i + 1) = q ∧ ig_pt c i sg q a b (i + 2) = (if ig_ar c q ≤ 0 then 0 else a) ∧ ig_pt c i sg q a b (i + 3) = (if ig_ar c q ≤ 1 then 0 else b) := by
  unfold ig_pt
  refine ⟨?_, ?_, ?_, ?_⟩
  · rw [if_neg (by omega), if_neg (by omega), if_neg (by omega), if_pos rfl]
  · rw [if_neg (by omega), if_neg (by omega), if_pos rfl]
  · rw [if_neg (by omega), if_pos rfl]
  · rw [if_pos rfl]
/-- what is put is a literal -/
theorem ig_pt_LO {c : ig_C} {L : Nat → Nat} {i sg q a b : Nat} (w : ig_WF c) (hs : sg ≤ 1) (hq : q < ig_q c) (ha : 1 ≤ ig_ar c q → ig_TO (ig_n c) a) (hb : 2 ≤ ig_ar c q → ig_TO (ig_n c) b) : ig_LO (ig_w c L (ig_pt c i sg q a b)) i := by
  obtain ⟨v0, v1, v2, v3⟩ := ig_pt_v c i sg q a b
  have z : ig_TO (ig_n c) 0 := Or.inl w.1
  unfold ig_LO
  show ig_pt c i sg q a b i ≤ 1 ∧ ig_pt c i sg q a b (i + 1) < ig_q c ∧ ig_TO (ig_n c) (ig_pt c i sg q a b (i + 2)) ∧ ig_TO (ig_n c) (ig_pt c i sg q a b (i + 3)) ∧
    (ig_ar c (ig_pt c i sg q a b (i + 1)) = 0 → ig_pt c i sg q a b (i + 2) = 0) ∧ (ig_ar c (ig_pt c i sg q a b (i + 1)) ≤ 1 → ig_pt c i sg q a b (i + 3) = 0)
  rw [v0, v1, v2, v3]
  refine ⟨hs, hq, ?_, ?_, fun h => if_pos (by omega), fun h => if_pos h⟩
  · split
    · exact z
    · exact ha (by omega)
  · split
    · exact z
    · exact hb (by omega)
end
section
/-! put, assume -/
section
variable {f_n f_verdict f_preds f_atoms f_count f_refs f_size f_trueMask f_falseMask : Int32} {a_arities a_starts a_atomPred a_atomFirst a_atomSecond a_lengths a_parts a_model a_ref a_kept a_closure a_posMask a_negMask a_chosen a_known a_decided a_savedTrue a_savedFalse a_group : Nat → Int32}
theorem ig_x_put {post : SX → Prop} {c : ig_C} (tx : ig_XT c f_n f_atoms a_arities a_starts a_lengths a_parts) (w : ig_WF c) {i sg q a b : Nat} {pa pb : Int32} (hi : i + 3 < 368) (hsg : sg < 16) (hq : q < ig_q c) (ha : 1 ≤ ig_ar c q → pa = nI a ∧ a < 16) (hb : 2 ≤ ig_ar c q → pb = nI b ∧ b < 16)
    (K : ∀ pa', ig_XT (ig_w c (ig_L c) (ig_pt c i sg q a b)) f_n f_atoms a_arities a_starts a_lengths pa' → post (f_n, f_verdict, f_preds, f_atoms, f_count, f_refs, f_size, f_trueMask, f_falseMask, a_arities, a_starts, a_atomPred, a_atomFirst, a_atomSecond, a_lengths, pa', a_model, a_ref, a_kept, a_closure, a_posMask, a_negMask, a_chosen, a_known, a_decided, a_savedTrue, a_savedFalse, a_group)) : wpX_put post (f_n, f_verdict, f_preds, f_atoms, f_count, f_refs, f_size, f_trueMask, f_falseMask, a_arities, a_starts, a_atomPred, a_atomFirst, a_atomSecond, a_lengths, a_parts, a_model, a_ref, a_kept, a_closure, a_posMask, a_negMask, a_chosen, a_known, a_decided, a_savedTrue, a_savedFalse, a_group) (nI i) (nI sg) (nI q) pa pb := by
  have q10 := ig_q10 w hq
  have iq : vp_in (nI q) 10 := vp_in_nI q10 (by omega)
  have e1 : nI i + 1 = nI (i + 1) := nI_add i 1
  have e2 : nI i + 2 = nI (i + 2) := nI_add i 2
  have e3 : nI i + 3 = nI (i + 3) := nI_add i 3
  have i0 : vp_in (nI i) 368 := vp_in_nI (by omega) (by omega)
  have i1 : vp_in (nI (i + 1)) 368 := vp_in_nI (by omega) (by omega)
  have i2 : vp_in (nI (i + 2)) 368 := vp_in_nI (by omega) (by omega)
  have i3 : vp_in (nI (i + 3)) 368 := vp_in_nI (by omega) (by omega)
  have r2 := (w.2.2.2.2.1 q hq).1
  have ea := (tx.2.2.1 q hq).1
  have fin : ∀ z0 z1 : Int32, z0 = nI (if ig_ar c q ≤ 0 then 0 else a) → z1 = nI (if ig_ar c q ≤ 1 then 0 else b) →
      ig_XT (ig_w c (ig_L c) (ig_pt c i sg q a b)) f_n f_atoms a_arities a_starts a_lengths (upd (upd (upd (upd a_parts i (nI sg)) (i + 1) (nI q)) (i + 2) z0) (i + 3) z1) := by
    intro z0 z1 h0 h1
    refine ⟨tx.1, tx.2.1, tx.2.2.1, tx.2.2.2.1, fun k hk => ?_⟩
    obtain ⟨v0, v1, v2, v3⟩ := ig_pt_v c i sg q a b
    show _ = nI (ig_pt c i sg q a b k) ∧ ig_pt c i sg q a b k < 16
    by_cases k3 : k = i + 3
    · subst k3; rw [pk_us, v3, h1]
      refine ⟨rfl, ?_⟩
      split
      · omega
      · exact (hb (by omega)).2
    rw [pk_un k3]
    by_cases k2 : k = i + 2
    · subst k2; rw [pk_us, v2, h0]
      refine ⟨rfl, ?_⟩
      split
      · omega
      · exact (ha (by omega)).2
    rw [pk_un k2]
    by_cases k1 : k = i + 1
    · subst k1; rw [pk_us, v1]; exact ⟨rfl, by omega⟩
    rw [pk_un k1]
    by_cases k0 : k = i
    · subst k0; rw [pk_us, v0]; exact ⟨rfl, hsg⟩
    rw [pk_un k0, ig_pt_o (by omega)]
    exact tx.2.2.2.2 k hk
  unfold wpX_put
  dsimp only
  rw [e1, e2, nI_clamp (show i < 2 ^ 31 by omega), nI_clamp (show i + 1 < 2 ^ 31 by omega), nI_clamp (show q < 2 ^ 31 by omega), ea]
  refine ⟨i0, nm_e ⟨i1, nm_e ⟨iq, ?_⟩⟩⟩
  have tail : ∀ z0 : Int32, z0 = nI (if ig_ar c q ≤ 0 then 0 else a) → wX_put_38 post (nI i) (nI q) pb z0 (nI (i + 2)) f_n f_verdict f_preds f_atoms f_count f_refs f_size f_trueMask f_falseMask a_arities a_starts a_atomPred a_atomFirst a_atomSecond a_lengths (upd (upd a_parts i (nI sg)) (i + 1) (nI q)) a_model a_ref a_kept a_closure a_posMask a_negMask a_chosen a_known a_decided a_savedTrue a_savedFalse a_group := by
    intro z0 h0
    unfold wX_put_38
    rw [e3, nI_clamp (show i + 2 < 2 ^ 31 by omega), nI_clamp (show i + 3 < 2 ^ 31 by omega), nI_clamp (show q < 2 ^ 31 by omega), ea]
    refine ⟨i2, nm_e ⟨iq, pk_le (ig_ar c q) 1 (fun z => ⟨i3, nm_e (K _ (fin _ _ h0 ?_))⟩) (fun z => ⟨i3, nm_e (K _ (fin _ _ h0 ?_))⟩)⟩⟩
    · rw [if_pos z]; rfl
    · rw [if_neg (by omega)]; exact (hb (by omega)).1
  refine pk_le (ig_ar c q) 0 (fun z => tail _ ?_) (fun z => tail _ ?_)
  · rw [if_pos z]; rfl
  · rw [if_neg (by omega)]; exact (ha (by omega)).1
/-- lengths with a unit in slot s -/
def ig_l1 (c : ig_C) (s : Nat) : Nat → Nat := fun k => if k = s then 1 else ig_L c k
theorem ig_x_assume {post : SX → Prop} {c : ig_C} (tx : ig_XT c f_n f_atoms a_arities a_starts a_lengths a_parts) (w : ig_WF c) {i sg q a b : Nat} {pa pb : Int32} (hi : i < 10) (hsg : sg < 16) (hq : q < ig_q c) (ha : 1 ≤ ig_ar c q → pa = nI a ∧ a < 16) (hb : 2 ≤ ig_ar c q → pb = nI b ∧ b < 16)
    (K : ∀ le' pa', ig_XT (ig_w c (ig_l1 c (13 + i)) (ig_pt c ((13 + i) * 16) sg q a b)) f_n f_atoms a_arities a_starts le' pa' → post (f_n, f_verdict, f_preds, f_atoms, f_count, f_refs, f_size, f_trueMask, f_falseMask, a_arities, a_starts, a_atomPred, a_atomFirst, a_atomSecond, le', pa', a_model, a_ref, a_kept, a_closure, a_posMask, a_negMask, a_chosen, a_known, a_decided, a_savedTrue, a_savedFalse, a_group)) : wpX_assume post (f_n, f_verdict, f_preds, f_atoms, f_count, f_refs, f_size, f_trueMask, f_falseMask, a_arities, a_starts, a_atomPred, a_atomFirst, a_atomSecond, a_lengths, a_parts, a_model, a_ref, a_kept, a_closure, a_posMask, a_negMask, a_chosen, a_known, a_decided, a_savedTrue, a_savedFalse, a_group) (nI i) (nI sg) (nI q) pa pb := by
  unfold wpX_assume
  dsimp only
  refine nm_r (e' := nI (13 + i)) (nI_add 13 i) (nm_r (e' := nI ((13 + i) * 16)) (pk_mul (13 + i) 16) ?_)
  refine ig_x_put tx w (by omega) hsg hq ha hb ?_
  intro pa' t'
  dsimp only
  rw [nI_clamp (show 13 + i < 2 ^ 31 by omega)]
  refine ⟨vp_in_nI (by omega) (by omega), nm_e (K _ _ ⟨t'.1, t'.2.1, t'.2.2.1, fun s hs => ?_, t'.2.2.2.2⟩)⟩
  show _ = nI (ig_l1 c (13 + i) s) ∧ ig_l1 c (13 + i) s ≤ 4
  unfold ig_l1
  by_cases e : s = 13 + i
  · rw [if_pos e, e, pk_us]; exact ⟨rfl, by omega⟩
  · rw [if_neg e, pk_un e]; exact tx.2.2.2.1 s hs
end
/-- what assuming does to the ghost -/
theorem ig_as_Lk {c : ig_C} {i sg q a b : Nat} {s : Nat} (hs : s ≤ 12) (h4 : ig_L c s ≤ 4) : ig_Lk c s (ig_l1 c (13 + i)) (ig_pt c ((13 + i) * 16) sg q a b) s := by
  refine ⟨?_, h4, fun k hk => ig_pt_o (by omega)⟩
  unfold ig_l1
  rw [if_neg (by omega)]
theorem ig_as_Ut {c : ig_C} {i sg q a b : Nat} (w : ig_WF c) (hs : sg ≤ 1) (hq : q < ig_q c) (ha : 1 ≤ ig_ar c q → a < ig_n c) (hb : 2 ≤ ig_ar c q → b < ig_n c) :
    ig_Ut (ig_w c (ig_l1 c (13 + i)) (ig_pt c ((13 + i) * 16) sg q a b)) (13 + i) (ig_ao c q a b) ∧ ig_P (ig_w c (ig_l1 c (13 + i)) (ig_pt c ((13 + i) * 16) sg q a b)) ((13 + i) * 16) = sg := by
  obtain ⟨v0, v1, v2, v3⟩ := ig_pt_v c ((13 + i) * 16) sg q a b
  have hn := w.2.1
  have r2 := (w.2.2.2.2.1 q hq).1
  have c2 : (if ig_ar c q ≤ 0 then 0 else a) < 4 := by
    split
    · omega
    · have := ha (by omega); omega
  have c3 : (if ig_ar c q ≤ 1 then 0 else b) < 4 := by
    split
    · omega
    · have := hb (by omega); omega
  refine ⟨⟨if_pos rfl, ig_pt_LO w hs hq (fun h => Or.inl (ha h)) (fun h => Or.inl (hb h)), fun σ => ?_, ?_⟩, v0⟩
  · unfold ig_lit
    show ig_ao c (ig_pt c ((13 + i) * 16) sg q a b ((13 + i) * 16 + 1)) (ig_gv σ (ig_pt c ((13 + i) * 16) sg q a b ((13 + i) * 16 + 2))) (ig_gv σ (ig_pt c ((13 + i) * 16) sg q a b ((13 + i) * 16 + 3))) = _
    rw [v1, v2, v3, ig_gv_c c2, ig_gv_c c3]
    unfold ig_ao
    by_cases z0 : ig_ar c q = 0
    · rw [if_pos z0, if_pos z0]
    · rw [if_neg z0, if_neg z0]
      by_cases z1 : ig_ar c q = 1
      · rw [if_pos z1, if_pos z1, if_neg (by omega)]
      · rw [if_neg z1, if_neg z1, if_neg (by omega), if_neg (by omega)]
  · rintro v v4 ⟨r, hr, e⟩
    have hr : r < ig_l1 c (13 + i) (13 + i) := hr
    unfold ig_l1 at hr
    rw [if_pos rfl] at hr
    have z : r = 0 := by omega
    subst z
    rw [Nat.zero_mul, Nat.add_zero] at e
    have e : ig_pt c ((13 + i) * 16) sg q a b ((13 + i) * 16 + 2) = v ∨ ig_pt c ((13 + i) * 16) sg q a b ((13 + i) * 16 + 3) = v := e
    rw [v2, v3] at e
    omega
/-- earlier units stay -/
theorem ig_as_old {c : ig_C} {i sg q a b j k : Nat} (hj : j < i) (u : ig_Ut c (13 + j) k) :
    ig_Ut (ig_w c (ig_l1 c (13 + i)) (ig_pt c ((13 + i) * 16) sg q a b)) (13 + j) k ∧ ig_P (ig_w c (ig_l1 c (13 + i)) (ig_pt c ((13 + i) * 16) sg q a b)) ((13 + j) * 16) = ig_P c ((13 + j) * 16) := by
  have lk : ig_Lk c (13 + j) (ig_l1 c (13 + i)) (ig_pt c ((13 + i) * 16) sg q a b) (13 + j) := by
    refine ⟨?_, by rw [u.1]; omega, fun k hk => ig_pt_o (by omega)⟩
    unfold ig_l1
    rw [if_neg (by omega)]
  have hp : ig_P (ig_w c (ig_l1 c (13 + i)) (ig_pt c ((13 + i) * 16) sg q a b)) ((13 + j) * 16) = ig_P c ((13 + j) * 16) := ig_pt_o (by omega)
  obtain ⟨u1, u2, u3, u4⟩ := u
  have co := ig_w_CO lk ⟨by rw [u1]; omega, fun q hq => by
    rw [u1] at hq
    have z : q = 0 := by omega
    subst z
    rw [Nat.zero_mul, Nat.add_zero]; exact u2⟩
  have hl : ig_l1 c (13 + i) (13 + j) = 1 := by rw [lk.1, u1]
  refine ⟨⟨hl, ?_, fun σ => ?_, fun v v4 o => u4 v v4 ((ig_w_occ lk v).mp o)⟩, hp⟩
  · have := co.2 0 (by show 0 < ig_l1 c (13 + i) (13 + j); rw [hl]; omega)
    rw [Nat.zero_mul, Nat.add_zero] at this
    exact this
  · have := ig_w_lit lk (q := 0) (by rw [u1]; omega) σ
    rw [Nat.zero_mul, Nat.add_zero] at this
    rw [this]; exact u3 σ
end
section
/-! consequences and the least model -/
theorem ig_units_AS {c : ig_C} {cnt m : Nat} {at' : Nat → Nat} (g : ig_Gd c cnt) (hm : m ≤ 10) (u : ∀ k, k < m → ig_Ut c (13 + k) (at' k)) : ∀ s, ig_Sl cnt m s → ig_AS c s := by
  rintro s (h | ⟨h1, h2⟩)
  · have := g.2.1
    exact ⟨by omega, g.2.2.1 s h, g.2.2.2.1 s (by omega)⟩
  · have e : s = 13 + (s - 13) := by omega
    have us := u (s - 13) (by omega)
    rw [← e] at us
    exact ⟨by omega, by rw [us.1]; omega, ig_Ut_CO us⟩
theorem ig_units_cap {c : ig_C} {cnt m : Nat} {at' : Nat → Nat} (g : ig_Gd c cnt) (hm : m ≤ 10) (u : ∀ k, k < m → ig_Ut c (13 + k) (at' k)) : ig_Cap c (ig_Sl cnt m) :=
  ig_cap g.1 g.2.1 hm g.2.2.2.2 (fun i hi v hv => (u i hi).2.2.2 v hv)
def ig_Rt (cnt m : Nat) (p : Nat) : Prop := (∃ j, j < cnt ∧ p = ig_rt j) ∨ ∃ k, k < m ∧ p = ig_rt (13 + k)
theorem ig_units_sat {c : ig_C} {cnt m : Nat} {at' : Nat → Nat} (g : ig_Gd c cnt) (u : ∀ k, k < m → ig_Ut c (13 + k) (at' k)) :
    (∃ M, ∀ p, ig_Rt cnt m p → ig_GI c M p) ↔ ∃ M, ig_Mo c cnt M ∧ ∀ k, k < m → (M (at' k) = true ↔ ig_P c ((13 + k) * 16) = 1) := by
  constructor
  · rintro ⟨M, h⟩
    refine ⟨M, (ig_Mo_GI g M).mpr (fun s hs => h _ (Or.inl ⟨s, hs, rfl⟩)), fun k hk => ?_⟩
    have := (ig_rt_GI0 (ig_Ut_CO (u k hk)) g.1.2.1).mp (h _ (Or.inr ⟨k, hk, rfl⟩)) (fun _ => 0) (fun _ => g.1.1)
    exact (ig_Ut_CT (u k hk) M _).mp this
  · rintro ⟨M, h1, h2⟩
    refine ⟨M, fun p hp => ?_⟩
    rcases hp with ⟨j, hj, rfl⟩ | ⟨k, hk, rfl⟩
    · exact (ig_Mo_GI g M).mp h1 j hj
    · exact (ig_rt_GI0 (ig_Ut_CO (u k hk)) g.1.2.1).mpr (fun τ _ => (ig_Ut_CT (u k hk) M τ).mpr (h2 k hk))
theorem ig_Lk_t {c : ig_C} {s : Nat} {L P L' P' : Nat → Nat} (h : ig_Lk c s L P s) (h' : ig_Lk (ig_w c L P) s L' P' s) : ig_Lk c s L' P' s := by
  refine ⟨?_, h.2.1, fun k hk => (h'.2.2 k hk).trans (h.2.2 k hk)⟩
  exact (h'.1).trans h.1
section
variable {f_n f_verdict f_preds f_atoms f_count f_refs f_size f_trueMask f_falseMask : Int32} {a_arities a_starts a_atomPred a_atomFirst a_atomSecond a_lengths a_parts a_model a_ref a_kept a_closure a_posMask a_negMask a_chosen a_known a_decided a_savedTrue a_savedFalse a_group : Nat → Int32}
/-- one assumed literal refuted: a consequence -/
theorem ig_x_entailed {post : Int32 → SX → Prop} {c : ig_C} {cnt : Nat} (tx : ig_XT c f_n f_atoms a_arities a_starts a_lengths a_parts) (g : ig_Gd c cnt) (hcnt : f_count = nI cnt) (hD : ig_DL f_size a_closure a_known) {sg q a b : Nat} {pa pb : Int32} (hs : sg ≤ 1) (hq : q < ig_q c)
    (ha : 1 ≤ ig_ar c q → pa = nI a ∧ a < ig_n c) (hb : 2 ≤ ig_ar c q → pb = nI b ∧ b < ig_n c)
    (K : ∀ r L P sz' t' f' le' pa' clo' pm' nm' ch' kn' dc' sT' sF' gr', ig_XT (ig_w c L P) f_n f_atoms a_arities a_starts le' pa' → (∀ s, s ≤ 12 → ig_Lk c s L P s) → ig_DL sz' clo' kn' →
      ((r = 1 ∧ ∀ M, ig_Mo c cnt M → (M (ig_ao c q a b) = true ↔ sg = 1)) ∨ (r = 0 ∧ ∃ M, ig_Mo c cnt M ∧ ¬ (M (ig_ao c q a b) = true ↔ sg = 1))) →
      post r (f_n, f_verdict, f_preds, f_atoms, f_count, f_refs, sz', t', f', a_arities, a_starts, a_atomPred, a_atomFirst, a_atomSecond, le', pa', a_model, a_ref, a_kept, clo', pm', nm', ch', kn', dc', sT', sF', gr')) : wpX_entailed post (f_n, f_verdict, f_preds, f_atoms, f_count, f_refs, f_size, f_trueMask, f_falseMask, a_arities, a_starts, a_atomPred, a_atomFirst, a_atomSecond, a_lengths, a_parts, a_model, a_ref, a_kept, a_closure, a_posMask, a_negMask, a_chosen, a_known, a_decided, a_savedTrue, a_savedFalse, a_group) (nI sg) (nI q) pa pb := by
  have hn := g.1.2.1
  have h12 := g.2.1
  subst hcnt
  unfold wpX_entailed
  dsimp only
  have e1 : (1 : Int32) - nI sg = nI (1 - sg) := pk_sub (a := 1) hs
  rw [e1]
  refine ig_x_assume tx g.1 (i := 0) (a := a) (b := b) (by omega) (by omega) hq (fun h => ⟨(ha h).1, by have := (ha h).2; omega⟩) (fun h => ⟨(hb h).1, by have := (hb h).2; omega⟩) ?_
  intro le' pa' t1
  have lk : ∀ s, s ≤ 12 → ig_Lk c s (ig_l1 c (13 + 0)) (ig_pt c ((13 + 0) * 16) (1 - sg) q a b) s := fun s hs => ig_as_Lk hs (tx.2.2.2.1 s (by omega)).2
  have g1 := ig_w_Gd g (fun s hs => lk s (by omega))
  have ut := ig_as_Ut (i := 0) (sg := 1 - sg) (a := a) (b := b) g.1 (by omega) hq (fun h => (ha h).2) (fun h => (hb h).2)
  have us : ∀ k, k < 1 → ig_Ut (ig_w c (ig_l1 c (13 + 0)) (ig_pt c ((13 + 0) * 16) (1 - sg) q a b)) (13 + k) (ig_ao c q a b) := fun k hk => by
    have z : k = 0 := by omega
    subst z; exact ut.1
  have hA := ig_units_AS (m := 1) (at' := fun _ => ig_ao c q a b) g1 (by omega) us
  have hC := ig_units_cap (m := 1) (at' := fun _ => ig_ao c q a b) g1 (by omega) us
  have eqv := ig_units_sat (m := 1) (at' := fun _ => ig_ao c q a b) g1 us
  dsimp only
  refine ig_x_reset hD ?_
  intro kn0 hk0
  dsimp only
  obtain ⟨D0, R0⟩ := ig_DY_0 (c := ig_w c (ig_l1 c (13 + 0)) (ig_pt c ((13 + 0) * 16) (1 - sg) q a b)) (S := ig_Sl cnt 1) (a_closure := a_closure) (a_posMask := a_posMask) (a_negMask := a_negMask) hk0
  refine ig_x_seedRoots t1 g1.1 hA hC (fun s hs => Or.inl hs) (by omega) D0 R0 ?_
  intro N1 cl1 sz1 clo1 pm1 nm1 kn1 D1 R1
  dsimp only
  refine ig_x_seedRoot (s := 13) t1 g1.1 hA hC (Or.inr ⟨by omega, by omega⟩) D1 R1 ?_
  intro N2 cl2 sz2 clo2 pm2 nm2 kn2 D2 R2
  dsimp only
  have R3 : ig_St N2 cl2 (ig_Rt cnt 1) := ig_St_congr R2 fun p => by
    constructor
    · rintro ((h | h) | h)
      · exact h.elim
      · exact Or.inl h
      · exact Or.inr ⟨0, by omega, h⟩
    · rintro (h | ⟨k, hk, h⟩)
      · exact Or.inl (Or.inr h)
      · have z : k = 0 := by omega
        subst z; exact Or.inr h
  refine ig_x_sat t1 g1.1 hA hC D2 R3 ?_
  intro r sz' t' f' clo' pm' nm' ch' kn' dc' sT' sF' gr' DL' hr
  dsimp only
  rw [eqv] at hr
  have e2 : ∀ M : Nat → Bool, (∀ k, k < 1 → (M (ig_ao c q a b) = true ↔ ig_P (ig_w c (ig_l1 c (13 + 0)) (ig_pt c ((13 + 0) * 16) (1 - sg) q a b)) ((13 + k) * 16) = 1)) ↔ ¬ (M (ig_ao c q a b) = true ↔ sg = 1) := by
    intro M
    have e3 : (M (ig_ao c q a b) = true ↔ (1 - sg) = 1) ↔ ¬ (M (ig_ao c q a b) = true ↔ sg = 1) := by
      rcases (show sg = 0 ∨ sg = 1 by omega) with z | z <;> subst z <;> simp
    rw [← e3]
    constructor
    · intro h
      have := h 0 (by omega)
      rw [ut.2] at this; exact this
    · intro h k hk
      have z : k = 0 := by omega
      subst z
      rw [ut.2]; exact h
  have lkm : ∀ M, ig_Mo (ig_w c (ig_l1 c (13 + 0)) (ig_pt c ((13 + 0) * 16) (1 - sg) q a b)) cnt M ↔ ig_Mo c cnt M := ig_w_Mo (fun s hs => lk s (by omega))
  rcases hr with ⟨rfl, hr⟩ | ⟨rfl, M, hM1, hM2⟩
  · refine br_t rfl (K 1 _ _ _ _ _ _ _ _ _ _ _ _ _ _ _ _ t1 lk DL' (Or.inl ⟨rfl, fun M hM => ?_⟩))
    refine Classical.byContradiction fun hn => hr ⟨M, (lkm M).mpr hM, (e2 M).mpr hn⟩
  · exact br_f (by decide) (K 0 _ _ _ _ _ _ _ _ _ _ _ _ _ _ _ _ t1 lk DL' (Or.inr ⟨rfl, M, (lkm M).mp hM1, (e2 M).mp hM2⟩))
/-- the atoms' own table -/
def ig_At3 (c : ig_C) (a_atomPred a_atomFirst a_atomSecond : Nat → Int32) : Prop := ∀ k, k < ig_a c → ∃ q x y, a_atomPred k = nI q ∧ a_atomFirst k = nI x ∧ a_atomSecond k = nI y ∧ q < ig_q c ∧ x < ig_n c ∧ y < ig_n c ∧ ig_ao c q x y = k
/-- atom after atom, false where the earlier choices allow it -/
def ig_Lx (c : ig_C) (cnt : Nat) (mb : Nat → Nat) (i : Nat) : Prop := ∀ j, j < i → mb j ≤ 1 ∧ (mb j = 0 ↔ ∃ M, ig_Mo c cnt M ∧ (∀ l, l < j → (M l = true ↔ mb l = 1)) ∧ M j = false)
theorem ig_x_fm48 {post : SX → Prop} {J : Int32 → Int32 → Int32 → Int32 → Int32 → Int32 → Int32 → Int32 → Int32 → Int32 → (Nat → Int32) → (Nat → Int32) → (Nat → Int32) → (Nat → Int32) → (Nat → Int32) → (Nat → Int32) → (Nat → Int32) → (Nat → Int32) → (Nat → Int32) → (Nat → Int32) → (Nat → Int32) → (Nat → Int32) → (Nat → Int32) → (Nat → Int32) → (Nat → Int32) → (Nat → Int32) → (Nat → Int32) → (Nat → Int32) → (Nat → Int32) → Prop} {c : ig_C} {cnt i : Nat} (tx : ig_XT c f_n f_atoms a_arities a_starts a_lengths a_parts) (g : ig_Gd c cnt) (hi : i < 10) (u : ∀ k, k < i + 1 → ig_Ut c (13 + k) k)
    (K : ∀ r sz' t' f' clo' pm' nm' ch' kn' dc' sT' sF' gr', ig_DL sz' clo' kn' →
      ((r = 1 ∧ ¬ ∃ M, ig_Mo c cnt M ∧ ∀ k, k < i + 1 → (M k = true ↔ ig_P c ((13 + k) * 16) = 1)) ∨ (r = 0 ∧ ∃ M, ig_Mo c cnt M ∧ ∀ k, k < i + 1 → (M k = true ↔ ig_P c ((13 + k) * 16) = 1))) →
      wX_findModel_84 post J (nI i) r (nI i) f_n f_verdict f_preds f_atoms f_count f_refs sz' t' f' a_arities a_starts a_atomPred a_atomFirst a_atomSecond a_lengths a_parts a_model a_ref a_kept clo' pm' nm' ch' kn' dc' sT' sF' gr') :
    ∀ d k, k + d = i + 1 → ∀ (N : Nat) (cl : Nat → Nat) (f_size : Int32) (a_closure a_posMask a_negMask a_known : Nat → Int32), ig_DY c (ig_Sl cnt (i + 1)) N cl f_size a_closure a_posMask a_negMask a_known → ig_St N cl (ig_Rt cnt k) →
      wX_findModel_48 post J (nI i) (d + 1) (nI k) f_n f_verdict f_preds f_atoms f_count f_refs f_size f_trueMask f_falseMask a_arities a_starts a_atomPred a_atomFirst a_atomSecond a_lengths a_parts a_model a_ref a_kept a_closure a_posMask a_negMask a_chosen a_known a_decided a_savedTrue a_savedFalse a_group := by
  have hA := ig_units_AS (m := i + 1) (at' := fun k => k) g (by omega) u
  have hC := ig_units_cap (m := i + 1) (at' := fun k => k) g (by omega) u
  have eqv := ig_units_sat (m := i + 1) (at' := fun k => k) g u
  intro d
  induction d with
  | zero =>
    intro k hk N cl f_size a_closure a_posMask a_negMask a_known D R
    have e : k = i + 1 := by omega
    subst e
    rw [wX_findModel_48]
    dsimp only
    refine br_t (nI_lt (by omega) (by omega)) (ig_x_sat tx g.1 hA hC D R ?_)
    intro r sz' t' f' clo' pm' nm' ch' kn' dc' sT' sF' gr' DL' hr
    dsimp only
    rw [eqv] at hr
    rcases hr with ⟨rfl, hr⟩ | ⟨rfl, hr⟩
    · exact br_t rfl (K 1 _ _ _ _ _ _ _ _ _ _ _ _ DL' (Or.inl ⟨rfl, hr⟩))
    · exact br_f (by decide) (K 0 _ _ _ _ _ _ _ _ _ _ _ _ DL' (Or.inr ⟨rfl, hr⟩))
  | succ d ih =>
    intro k hk N cl f_size a_closure a_posMask a_negMask a_known D R
    rw [wX_findModel_48]
    dsimp only
    have e : (13 : Int32) + nI k = nI (13 + k) := nI_add 13 k
    rw [e]
    refine br_f (nI_nlt (by omega) (by omega)) (ig_x_seedRoot tx g.1 hA hC (Or.inr ⟨by omega, by omega⟩) D R ?_)
    intro N' cl' sz' clo' pm' nm' kn' D' R'
    dsimp only
    refine nm_r (nI_1 k) (ih (k + 1) (by omega) N' cl' _ _ _ _ _ D' (ig_St_congr R' fun p => ?_))
    constructor
    · rintro ((h | ⟨j, hj, h⟩) | h)
      · exact Or.inl h
      · exact Or.inr ⟨j, by omega, h⟩
      · exact Or.inr ⟨k, by omega, h⟩
    · rintro (h | ⟨j, hj, h⟩)
      · exact Or.inl (Or.inl h)
      · rcases (show j < k ∨ j = k by omega) with z | z
        · exact Or.inl (Or.inr ⟨j, z, h⟩)
        · subst z; exact Or.inr h
/-- what the loop keeps -/
def ig_FI (c : ig_C) (cnt : Nat) (mb L P : Nat → Nat) (i : Nat) (a_model : Nat → Int32) : Prop :=
  (∀ s, s ≤ 12 → ig_Lk c s L P s) ∧ (∀ j, j < i → ig_Ut (ig_w c L P) (13 + j) j ∧ P ((13 + j) * 16) = mb j ∧ a_model j = nI (mb j)) ∧ ig_Lx c cnt mb i
theorem ig_x_fm2 {post : SX → Prop} {c : ig_C} {cnt : Nat} (g : ig_Gd c cnt) (hcnt : f_count = nI cnt) (h3 : ig_At3 c a_atomPred a_atomFirst a_atomSecond)
    (K : ∀ mb L P sz' t' f' le' pa' md' clo' pm' nm' ch' kn' dc' sT' sF' gr', ig_XT (ig_w c L P) f_n f_atoms a_arities a_starts le' pa' → ig_DL sz' clo' kn' → ig_FI c cnt mb L P (ig_a c) md' →
      post (f_n, f_verdict, f_preds, f_atoms, f_count, f_refs, sz', t', f', a_arities, a_starts, a_atomPred, a_atomFirst, a_atomSecond, le', pa', md', a_ref, a_kept, clo', pm', nm', ch', kn', dc', sT', sF', gr')) :
    ∀ d i, i + d = ig_a c → ∀ (mb L P : Nat → Nat) (f_size f_trueMask f_falseMask : Int32) (a_lengths a_parts a_model a_closure a_posMask a_negMask a_chosen a_known a_decided a_savedTrue a_savedFalse a_group : Nat → Int32),
      ig_XT (ig_w c L P) f_n f_atoms a_arities a_starts a_lengths a_parts → ig_DL f_size a_closure a_known → ig_FI c cnt mb L P i a_model →
      wX_findModel_2 post (d + 1) (nI i) f_n f_verdict f_preds f_atoms f_count f_refs f_size f_trueMask f_falseMask a_arities a_starts a_atomPred a_atomFirst a_atomSecond a_lengths a_parts a_model a_ref a_kept a_closure a_posMask a_negMask a_chosen a_known a_decided a_savedTrue a_savedFalse a_group := by
  subst hcnt
  have hA10 := g.1.2.2.1
  have h12 := g.2.1
  have hn4 := g.1.2.1
  intro d
  induction d with
  | zero =>
    intro i hi mb L P f_size f_trueMask f_falseMask a_lengths a_parts a_model a_closure a_posMask a_negMask a_chosen a_known a_decided a_savedTrue a_savedFalse a_group tx hD F
    have e : i = ig_a c := by omega
    have ea : f_atoms = nI (ig_a c) := tx.2.1
    subst e
    rw [wX_findModel_2]
    dsimp only
    refine br_t ?_ (K mb L P _ _ _ _ _ _ _ _ _ _ _ _ _ _ _ tx hD F)
    rw [ea]; exact nI_le (Nat.le_refl _) (by omega)
  | succ d ih =>
    intro i hi mb L P f_size f_trueMask f_falseMask a_lengths a_parts a_model a_closure a_posMask a_negMask a_chosen a_known a_decided a_savedTrue a_savedFalse a_group tx hD F
    have ea : f_atoms = nI (ig_a c) := tx.2.1
    have hi10 : vp_in (nI i) 10 := vp_in_nI (by omega) (by omega)
    obtain ⟨q, x, y, e1, e2, e3, hq, hx, hy, eao⟩ := h3 i (by omega)
    rw [wX_findModel_2]
    dsimp only
    rw [nI_clamp (show i < 2 ^ 31 by omega), e1, e2, e3]
    refine br_f (by rw [ea]; exact nI_ge (by omega) (by omega)) ⟨hi10, hi10, hi10, ?_⟩
    obtain ⟨lk, f2, lx⟩ := F
    have gw := ig_w_Gd g (fun s hs => lk s (by omega))
    refine ig_x_assume (sg := 0) (a := x) (b := y) tx gw.1 (by omega) (by omega) hq (fun _ => ⟨rfl, by omega⟩) (fun _ => ⟨rfl, by omega⟩) ?_
    intro le' pa' t1
    dsimp only
    have lk1 : ∀ s, s ≤ 12 → ig_Lk (ig_w c L P) s (ig_l1 (ig_w c L P) (13 + i)) (ig_pt (ig_w c L P) ((13 + i) * 16) 0 q x y) s := fun s hs => ig_as_Lk hs (tx.2.2.2.1 s (by omega)).2
    have ut := ig_as_Ut (c := ig_w c L P) (i := i) (sg := 0) (q := q) (a := x) (b := y) gw.1 (by omega) hq (fun _ => hx) (fun _ => hy)
    have uo := fun j (hj : j < i) => ig_as_old (c := ig_w c L P) (i := i) (sg := 0) (q := q) (a := x) (b := y) hj (f2 j hj).1
    have lk2 : ∀ s, s ≤ 12 → ig_Lk c s (ig_l1 (ig_w c L P) (13 + i)) (ig_pt (ig_w c L P) ((13 + i) * 16) 0 q x y) s := fun s hs => ig_Lk_t (lk s hs) (lk1 s hs)
    have hl1 : ∀ s, s < 23 → ig_l1 (ig_w c L P) (13 + i) s ≤ 4 := fun s hs => (t1.2.2.2.1 s hs).2
    generalize hL1 : ig_l1 (ig_w c L P) (13 + i) = L1 at *
    generalize hP1 : ig_pt (ig_w c L P) ((13 + i) * 16) 0 q x y = P1 at *
    have t1 : ig_XT (ig_w c L1 P1) f_n f_atoms a_arities a_starts le' pa' := t1
    have ut : ig_Ut (ig_w c L1 P1) (13 + i) i ∧ P1 ((13 + i) * 16) = 0 := by
      have e : ig_ao (ig_w c L P) q x y = i := eao
      rw [e] at ut; exact ut
    have uo : ∀ j, j < i → ig_Ut (ig_w c L1 P1) (13 + j) j ∧ P1 ((13 + j) * 16) = mb j := fun j hj => ⟨(uo j hj).1, (uo j hj).2.trans (f2 j hj).2.1⟩
    have g1 := ig_w_Gd g (fun s hs => lk2 s (by omega))
    have us : ∀ k, k < i + 1 → ig_Ut (ig_w c L1 P1) (13 + k) k := fun k hk => by
      rcases (show k < i ∨ k = i by omega) with z | z
      · exact (uo k z).1
      · subst z; exact ut.1
    have hA := ig_units_AS (m := i + 1) (at' := fun k => k) g1 (by omega) us
    have hC := ig_units_cap (m := i + 1) (at' := fun k => k) g1 (by omega) us
    refine ig_x_reset hD ?_
    intro kn0 hk0
    dsimp only
    obtain ⟨D0, R0⟩ := ig_DY_0 (c := ig_w c L1 P1) (S := ig_Sl cnt (i + 1)) (a_closure := a_closure) (a_posMask := a_posMask) (a_negMask := a_negMask) hk0
    refine ig_x_seedRoots t1 g1.1 hA hC (fun s hs => Or.inl hs) (by omega) D0 R0 ?_
    intro N1 cl1 sz1 clo1 pm1 nm1 kn1 D1 R1
    dsimp only
    refine ⟨i + 1 + 1, ig_x_fm48 t1 g1 (by omega) us ?_ (i + 1) 0 (by omega) N1 cl1 _ _ _ _ _ D1 (ig_St_congr R1 fun p => ?_)⟩
    · intro r sz' t' f' clo' pm' nm' ch' kn' dc' sT' sF' gr' DL' hr
      have hmo : ∀ M, ig_Mo (ig_w c L1 P1) cnt M ↔ ig_Mo c cnt M := ig_w_Mo (fun s hs => lk2 s (by omega))
      have hsat : (∃ M, ig_Mo (ig_w c L1 P1) cnt M ∧ ∀ k, k < i + 1 → (M k = true ↔ ig_P (ig_w c L1 P1) ((13 + k) * 16) = 1)) ↔ ∃ M, ig_Mo c cnt M ∧ (∀ l, l < i → (M l = true ↔ mb l = 1)) ∧ M i = false := by
        constructor
        · rintro ⟨M, a, b⟩
          refine ⟨M, (hmo M).mp a, fun l hl => ?_, ?_⟩
          · have := b l (by omega)
            rw [show ig_P (ig_w c L1 P1) ((13 + l) * 16) = mb l from (uo l hl).2] at this
            exact this
          · have := b i (by omega)
            rw [show ig_P (ig_w c L1 P1) ((13 + i) * 16) = 0 from ut.2] at this
            rw [Bool.eq_false_iff]
            intro z
            exact absurd (this.mp z) (by decide)
        · rintro ⟨M, a, b, d⟩
          refine ⟨M, (hmo M).mpr a, fun k hk => ?_⟩
          rcases (show k < i ∨ k = i by omega) with z | z
          · rw [show ig_P (ig_w c L1 P1) ((13 + k) * 16) = mb k from (uo k z).2]; exact b k z
          · subst z
            rw [show ig_P (ig_w c L1 P1) ((13 + k) * 16) = 0 from ut.2, d]
            exact ⟨fun z => (by cases z), fun z => by cases z⟩
      rw [hsat] at hr
      obtain ⟨v, hv1, hv⟩ : ∃ v, r = nI v ∧ v ≤ 1 ∧ (v = 0 ↔ ∃ M, ig_Mo c cnt M ∧ (∀ l, l < i → (M l = true ↔ mb l = 1)) ∧ M i = false) := by
        rcases hr with ⟨h1, h2⟩ | ⟨h1, h2⟩
        · exact ⟨1, h1, Nat.le_refl _, fun z => (by cases z), fun z => (h2 z).elim⟩
        · exact ⟨0, h1, by omega, fun _ => h2, fun _ => rfl⟩
      subst hv1
      unfold wX_findModel_84
      have e13 : ((13 : Int32) + nI i) * 16 = nI ((13 + i) * 16) := by
        show (nI 13 + nI i) * nI 16 = _
        rw [nI_add, pk_mul]
      rw [e13, nI_clamp (show i < 2 ^ 31 by omega), nI_clamp (show (13 + i) * 16 < 2 ^ 31 by omega)]
      refine ⟨hi10, nm_e ⟨hi10, vp_in_nI (by omega) (by omega), nm_e (nm_r (nI_1 i) ?_)⟩⟩
      rw [pk_us]
      have lk3 : ∀ s, s < 23 → s ≠ 13 + i → ig_Lk (ig_w c L1 P1) s L1 (fun k => if k = (13 + i) * 16 then v else P1 k) s := by
        intro s hs hne
        refine ⟨rfl, hl1 s hs, fun k hk => ?_⟩
        show (if s * 16 + k = (13 + i) * 16 then v else P1 (s * 16 + k)) = P1 (s * 16 + k)
        rw [if_neg (by omega)]
      refine ih (i + 1) (by omega) (fun k => if k = i then v else mb k) L1 (fun k => if k = (13 + i) * 16 then v else P1 k) _ _ _ _ _ _ _ _ _ _ _ _ _ _ _ ⟨t1.1, t1.2.1, t1.2.2.1, t1.2.2.2.1, fun k hk => ?_⟩ DL' ⟨fun s hs => ig_Lk_t (lk2 s hs) (lk3 s (by omega) (by omega)), fun j hj => ?_, fun j hj => ?_⟩
      · show _ = nI (if k = (13 + i) * 16 then v else P1 k) ∧ (if k = (13 + i) * 16 then v else P1 k) < 16
        by_cases z : k = (13 + i) * 16
        · rw [if_pos z, z, pk_us]; exact ⟨rfl, by omega⟩
        · rw [if_neg z, pk_un z]; exact t1.2.2.2.2 k hk
      · show _ ∧ (if (13 + j) * 16 = (13 + i) * 16 then v else P1 ((13 + j) * 16)) = (if j = i then v else mb j) ∧ _ = nI (if j = i then v else mb j)
        rcases (show j < i ∨ j = i by omega) with z | z
        · rw [if_neg (by omega), if_neg (by omega), pk_un (by omega)]
          refine ⟨?_, (uo j z).2, (f2 j z).2.2⟩
          obtain ⟨u1, u2, u3, u4⟩ := (uo j z).1
          have lkj := lk3 (13 + j) (by omega) (by omega)
          have co := ig_w_CO lkj (ig_Ut_CO ⟨u1, u2, u3, u4⟩)
          have l1 : L1 (13 + j) = 1 := u1
          refine ⟨l1, ?_, fun σ => ?_, fun v v4 o => u4 v v4 ((ig_w_occ lkj v).mp o)⟩
          · have := co.2 0 (by show 0 < L1 (13 + j); omega)
            rw [Nat.zero_mul, Nat.add_zero] at this
            exact this
          · have := ig_w_lit lkj (q := 0) (by show 0 < L1 (13 + j); omega) σ
            rw [Nat.zero_mul, Nat.add_zero] at this
            exact this.trans (u3 σ)
        · subst z
          rw [if_pos rfl, if_pos rfl, pk_us]
          refine ⟨?_, rfl, rfl⟩
          obtain ⟨u1, u2, u3, u4⟩ := ut.1
          have sh : ∀ k, 1 ≤ k → (if (13 + j) * 16 + k = (13 + j) * 16 then v else P1 ((13 + j) * 16 + k)) = P1 ((13 + j) * 16 + k) := fun k hk => if_neg (by omega)
          refine ⟨u1, ?_, fun σ => ?_, fun w w4 o => u4 w w4 ?_⟩
          · unfold ig_LO at u2 ⊢
            refine ⟨?_, ?_⟩
            · show (if (13 + j) * 16 = (13 + j) * 16 then v else P1 ((13 + j) * 16)) ≤ 1
              rw [if_pos rfl]; exact hv.1
            · have := u2.2
              simp only [ig_w, ig_P, ig_n, ig_q, ig_ar] at this ⊢
              rw [sh 1 (by omega), sh 2 (by omega), sh 3 (by omega)]
              exact this
          · have := u3 σ
            unfold ig_lit at this ⊢
            simp only [ig_w, ig_P] at this ⊢
            rw [sh 1 (by omega), sh 2 (by omega), sh 3 (by omega)]
            exact this
          · obtain ⟨r, hr, e⟩ := o
            have hr : r < L1 (13 + j) := hr
            refine ⟨r, hr, ?_⟩
            simp only [ig_w, ig_P] at e ⊢
            rw [if_neg (by omega), if_neg (by omega)] at e
            exact e
      · rcases (show j < i ∨ j = i by omega) with z | z
        · have := lx j z
          dsimp only
          rw [if_neg (by omega)]
          refine ⟨this.1, this.2.trans ?_⟩
          constructor
          · rintro ⟨M, a, b, d⟩
            exact ⟨M, a, fun l hl => by rw [if_neg (by omega)]; exact b l hl, d⟩
          · rintro ⟨M, a, b, d⟩
            exact ⟨M, a, fun l hl => by have := b l hl; rw [if_neg (by omega)] at this; exact this, d⟩
        · subst z
          dsimp only
          rw [if_pos rfl]
          refine ⟨hv.1, hv.2.trans ?_⟩
          constructor
          · rintro ⟨M, a, b, d⟩
            exact ⟨M, a, fun l hl => by rw [if_neg (by omega)]; exact b l hl, d⟩
          · rintro ⟨M, a, b, d⟩
            exact ⟨M, a, fun l hl => by have := b l hl; rw [if_neg (by omega)] at this; exact this, d⟩
    · constructor
      · rintro (h | h)
        · exact h.elim
        · exact Or.inl h
      · rintro (h | ⟨k, hk, _⟩)
        · exact Or.inr h
        · omega
theorem ig_x_findModel {post : SX → Prop} {c : ig_C} {cnt : Nat} (tx : ig_XT c f_n f_atoms a_arities a_starts a_lengths a_parts) (g : ig_Gd c cnt) (hcnt : f_count = nI cnt) (h3 : ig_At3 c a_atomPred a_atomFirst a_atomSecond) (hD : ig_DL f_size a_closure a_known)
    (K : ∀ mb L P sz' t' f' le' pa' md' clo' pm' nm' ch' kn' dc' sT' sF' gr', ig_XT (ig_w c L P) f_n f_atoms a_arities a_starts le' pa' → ig_DL sz' clo' kn' → (∀ s, s ≤ 12 → ig_Lk c s L P s) → (∀ j, j < ig_a c → md' j = nI (mb j)) → ig_Lx c cnt mb (ig_a c) →
      post (f_n, f_verdict, f_preds, f_atoms, f_count, f_refs, sz', t', f', a_arities, a_starts, a_atomPred, a_atomFirst, a_atomSecond, le', pa', md', a_ref, a_kept, clo', pm', nm', ch', kn', dc', sT', sF', gr')) : wpX_findModel post (f_n, f_verdict, f_preds, f_atoms, f_count, f_refs, f_size, f_trueMask, f_falseMask, a_arities, a_starts, a_atomPred, a_atomFirst, a_atomSecond, a_lengths, a_parts, a_model, a_ref, a_kept, a_closure, a_posMask, a_negMask, a_chosen, a_known, a_decided, a_savedTrue, a_savedFalse, a_group) := by
  unfold wpX_findModel
  dsimp only
  refine ⟨ig_a c + 1, ig_x_fm2 g hcnt h3 ?_ (ig_a c) 0 (by omega) (fun _ => 0) (ig_L c) (ig_P c) _ _ _ _ _ _ _ _ _ _ _ _ _ _ _ tx hD ⟨fun s hs => ⟨rfl, (tx.2.2.2.1 s (by omega)).2, fun _ _ => rfl⟩, fun j hj => by omega, fun j hj => by omega⟩⟩
  intro mb L P sz' t' f' le' pa' md' clo' pm' nm' ch' kn' dc' sT' sF' gr' t1 DL' F
  exact K mb L P sz' t' f' le' pa' md' clo' pm' nm' ch' kn' dc' sT' sF' gr' t1 DL' F.1 (fun j hj => (F.2.1 j hj).2.2) F.2.2
end
end
section
/-! variables, ways, ground closures -/
def ig_m3 (b4 b5 b6 : Bool) : Nat := (bif b4 then 1 else 0) + (bif b5 then 2 else 0) + (bif b6 then 4 else 0)
def ig_po (c : ig_C) (s q v : Nat) : Bool := (List.range q).any (fun q => ig_P c (s * 16 + q * 4 + 2) == v || ig_P c (s * 16 + q * 4 + 3) == v)
theorem ig_po_s (c : ig_C) (s q v : Nat) : ig_po c s (q + 1) v = ((ig_po c s q v || ig_P c (s * 16 + q * 4 + 2) == v) || ig_P c (s * 16 + q * 4 + 3) == v) := by
  unfold ig_po
  rw [List.range_succ, List.any_append, List.any_cons, List.any_nil, Bool.or_false, Bool.or_assoc]
theorem ig_m3_or : ∀ b4 b5 b6 : Bool, ∀ t, t < 7 → 4 ≤ t → nI (ig_m3 b4 b5 b6) ||| ((1 : Int32) <<< ((nI t - 4) &&& 31)) = nI (ig_m3 (b4 || t == 4) (b5 || t == 5) (b6 || t == 6)) := by decide +kernel
theorem ig_m3_t : ∀ b4 b5 b6 : Bool, ((nI (ig_m3 b4 b5 b6) >>> (nI 0 &&& 31)) &&& 1 = 0 ↔ b4 = false) ∧ ((nI (ig_m3 b4 b5 b6) >>> (nI 1 &&& 31)) &&& 1 = 0 ↔ b5 = false) ∧ ((nI (ig_m3 b4 b5 b6) >>> (nI 2 &&& 31)) &&& 1 = 0 ↔ b6 = false) := by decide +kernel
theorem ig_m3_g : ∀ b4 b5 b6 : Bool, ((nI (ig_m3 b4 b5 b6) >>> ((nI 4 - 4) &&& 31)) &&& 1 = 0 ↔ b4 = false) ∧ ((nI (ig_m3 b4 b5 b6) >>> ((nI 5 - 4) &&& 31)) &&& 1 = 0 ↔ b5 = false) ∧ ((nI (ig_m3 b4 b5 b6) >>> ((nI 6 - 4) &&& 31)) &&& 1 = 0 ↔ b6 = false) := by decide +kernel
theorem ig_gc1 : ∀ s, s < 13 → ∀ a, a < 8 → nI (s * 512) ||| (nI a <<< ((3 * (6 - nI 6)) &&& 31)) = nI (s * 512 + a) := by decide +kernel
theorem ig_gc2 : ∀ s, s < 13 → ∀ a, a < 8 → ∀ b, b < 8 → nI (s * 512 + a) ||| (nI b <<< ((3 * (6 - nI 5)) &&& 31)) = nI (s * 512 + b * 8 + a) := by decide +kernel
theorem ig_gc3 : ∀ s, s < 13 → ∀ a, a < 8 → ∀ b, b < 8 → ∀ d, d < 8 → nI (s * 512 + b * 8 + a) ||| (nI d <<< ((3 * (6 - nI 4)) &&& 31)) = nI (s * 512 + (d * 64 + b * 8 + a)) := by decide +kernel
theorem ig_sh9 : ∀ s, s < 23 → nI s <<< ((9 : Int32) &&& 31) = nI (s * 512) := by decide +kernel
section
variable {f_n f_verdict f_preds f_atoms f_count f_refs f_size f_trueMask f_falseMask : Int32} {a_arities a_starts a_atomPred a_atomFirst a_atomSecond a_lengths a_parts a_model a_ref a_kept a_closure a_posMask a_negMask a_chosen a_known a_decided a_savedTrue a_savedFalse a_group : Nat → Int32}
def ig_mv (c : ig_C) (s : Nat) : Nat := ig_m3 (ig_ob c s 4) (ig_ob c s 5) (ig_ob c s 6)
theorem ig_x_vo {post : Int32 → Prop} {c : ig_C} (tx : ig_XT c f_n f_atoms a_arities a_starts a_lengths a_parts) (w : ig_WF c) {s : Nat} (hs : s < 23) (co : ig_CO c s) (K : post (nI (ig_mv c s))) : wpX_variablesOf post (f_n, f_verdict, f_preds, f_atoms, f_count, f_refs, f_size, f_trueMask, f_falseMask, a_arities, a_starts, a_atomPred, a_atomFirst, a_atomSecond, a_lengths, a_parts, a_model, a_ref, a_kept, a_closure, a_posMask, a_negMask, a_chosen, a_known, a_decided, a_savedTrue, a_savedFalse, a_group) (nI s) := by
  have hin : vp_in (nI s) 23 := vp_in_nI hs (by omega)
  have el := (tx.2.2.2.1 s hs).1
  have h4 := co.1
  have hn := w.2.1
  have L : ∀ d q, q + d = ig_L c s → wX_variablesOf_4 post (nI s) f_n f_verdict f_preds f_atoms f_count f_refs f_size f_trueMask f_falseMask a_arities a_starts a_atomPred a_atomFirst a_atomSecond a_lengths a_parts a_model a_ref a_kept a_closure a_posMask a_negMask a_chosen a_known a_decided a_savedTrue a_savedFalse a_group (d + 1) (nI (ig_m3 (ig_po c s q 4) (ig_po c s q 5) (ig_po c s q 6))) (nI q) := by
    intro d
    induction d with
    | zero =>
      intro q hq
      have e : q = ig_L c s := by omega
      subst e
      rw [wX_variablesOf_4]
      dsimp only
      rw [nI_clamp (show s < 2 ^ 31 by omega), el]
      exact ⟨hin, br_t (nI_le (Nat.le_refl _) (by omega)) K⟩
    | succ d ih =>
      intro q hq
      have l := co.2 q (by omega)
      have t2 : ig_P c (s * 16 + q * 4 + 2) < 7 := by rcases l.2.2.1 with z | z <;> omega
      have t3 : ig_P c (s * 16 + q * 4 + 3) < 7 := by rcases l.2.2.2.1 with z | z <;> omega
      rw [wX_variablesOf_4]
      dsimp only
      rw [nI_clamp (show s < 2 ^ 31 by omega), el]
      refine ⟨hin, br_f (nI_ge (by omega) (by omega)) ⟨3, ?_⟩⟩
      have step : ∀ (J : Int32 → Int32 → Prop) n f b4 b5 b6, 2 ≤ f → f < 4 → ig_P c (s * 16 + q * 4 + f) < 7 →
          wX_variablesOf_17 post J (nI s) (nI q) f_n f_verdict f_preds f_atoms f_count f_refs f_size f_trueMask f_falseMask a_arities a_starts a_atomPred a_atomFirst a_atomSecond a_lengths a_parts a_model a_ref a_kept a_closure a_posMask a_negMask a_chosen a_known a_decided a_savedTrue a_savedFalse a_group n (nI (ig_m3 (b4 || ig_P c (s * 16 + q * 4 + f) == 4) (b5 || ig_P c (s * 16 + q * 4 + f) == 5) (b6 || ig_P c (s * 16 + q * 4 + f) == 6))) (nI (f + 1)) →
          wX_variablesOf_17 post J (nI s) (nI q) f_n f_verdict f_preds f_atoms f_count f_refs f_size f_trueMask f_falseMask a_arities a_starts a_atomPred a_atomFirst a_atomSecond a_lengths a_parts a_model a_ref a_kept a_closure a_posMask a_negMask a_chosen a_known a_decided a_savedTrue a_savedFalse a_group (n + 1) (nI (ig_m3 b4 b5 b6)) (nI f) := by
        intro J n f b4 b5 b6 f2 f4 ht h
        have ea : nI s * 16 + nI q * 4 + nI f = nI (s * 16 + q * 4 + f) := by
          show nI s * nI 16 + nI q * nI 4 + nI f = _
          rw [pk_mul, pk_mul, nI_add, nI_add]
        rw [wX_variablesOf_17]
        dsimp only
        rw [ea, nI_clamp (show s * 16 + q * 4 + f < 2 ^ 31 by omega), (tx.2.2.2.2 (s * 16 + q * 4 + f) (by omega)).1]
        refine br_f (nI_ge (b := 4) (by omega) (by omega)) ⟨vp_in_nI (by omega) (by omega), nm_e (pk_lt (ig_P c (s * 16 + q * 4 + f)) 4 (fun z => nm_r (nI_1 f) ?_) (fun z => ?_))⟩
        · have e4 : (ig_P c (s * 16 + q * 4 + f) == 4) = false := beq_eq_false_iff_ne.mpr (by omega)
          have e5 : (ig_P c (s * 16 + q * 4 + f) == 5) = false := beq_eq_false_iff_ne.mpr (by omega)
          have e6 : (ig_P c (s * 16 + q * 4 + f) == 6) = false := beq_eq_false_iff_ne.mpr (by omega)
          rw [e4, e5, e6, Bool.or_false, Bool.or_false, Bool.or_false] at h
          exact h
        · exact nm_r (ig_m3_or b4 b5 b6 _ ht z) (nm_r (nI_1 f) h)
      refine step _ 2 2 _ _ _ (by omega) (by omega) t2 (step _ 1 3 _ _ _ (by omega) (by omega) t3 ?_)
      rw [wX_variablesOf_17]
      dsimp only
      refine br_t (by decide) (nm_r (nI_1 q) ?_)
      rw [← ig_po_s, ← ig_po_s, ← ig_po_s]
      exact ih (q + 1) (by omega)
  unfold wpX_variablesOf
  dsimp only
  exact ⟨ig_L c s + 1, L (ig_L c s) 0 (by omega)⟩
theorem ig_x_ways {post : Int32 → Prop} {n : Nat} (b4 b5 b6 : Bool) (hn : f_n = nI n) (K : post (nI (ig_wy n b4 b5 b6))) : wpX_ways post (f_n, f_verdict, f_preds, f_atoms, f_count, f_refs, f_size, f_trueMask, f_falseMask, a_arities, a_starts, a_atomPred, a_atomFirst, a_atomSecond, a_lengths, a_parts, a_model, a_ref, a_kept, a_closure, a_posMask, a_negMask, a_chosen, a_known, a_decided, a_savedTrue, a_savedFalse, a_group) (nI (ig_m3 b4 b5 b6)) := by
  obtain ⟨h4, h5, h6⟩ := ig_m3_t b4 b5 b6
  subst hn
  have step : ∀ m v r (b : Bool), v < 3 → ((nI (ig_m3 b4 b5 b6) >>> (nI v &&& 31)) &&& 1 = 0 ↔ b = false) →
      wX_ways_4 post (nI (ig_m3 b4 b5 b6)) (nI n) f_verdict f_preds f_atoms f_count f_refs f_size f_trueMask f_falseMask a_arities a_starts a_atomPred a_atomFirst a_atomSecond a_lengths a_parts a_model a_ref a_kept a_closure a_posMask a_negMask a_chosen a_known a_decided a_savedTrue a_savedFalse a_group m (nI (r * (bif b then n else 1))) (nI (v + 1)) → wX_ways_4 post (nI (ig_m3 b4 b5 b6)) (nI n) f_verdict f_preds f_atoms f_count f_refs f_size f_trueMask f_falseMask a_arities a_starts a_atomPred a_atomFirst a_atomSecond a_lengths a_parts a_model a_ref a_kept a_closure a_posMask a_negMask a_chosen a_known a_decided a_savedTrue a_savedFalse a_group (m + 1) (nI r) (nI v) := by
    intro m v r b hv hb h
    rw [wX_ways_4]
    dsimp only
    refine br_f (nI_ge (b := 3) (by omega) (by omega)) (br_c (fun z => nm_r (nI_1 v) ?_) (fun z => nm_r (pk_mul r n) (nm_r (nI_1 v) ?_)))
    · rw [hb.mp z] at h
      rw [cond_false, Nat.mul_one] at h
      exact h
    · have e : b = true := by
        cases b
        · exact (z (hb.mpr rfl)).elim
        · rfl
      rw [e, cond_true] at h
      exact h
  unfold wpX_ways
  dsimp only
  refine ⟨4, step 3 0 1 b4 (by omega) h4 (step 2 1 _ b5 (by omega) h5 (step 1 2 _ b6 (by omega) h6 ?_))⟩
  rw [wX_ways_4]
  dsimp only
  refine br_t (by decide) ?_
  rw [Nat.one_mul]
  exact K
theorem ig_x_gc {post : Int32 → Prop} {n : Nat} (b4 b5 b6 : Bool) (hn : f_n = nI n) (n1 : 1 ≤ n) (n4 : n ≤ 4) {s k : Nat} (hs : s < 13) (hk : k < 64) (K : post (nI (s * 512 + ig_gd n b4 b5 b6 k))) : wpX_groundClosure post (f_n, f_verdict, f_preds, f_atoms, f_count, f_refs, f_size, f_trueMask, f_falseMask, a_arities, a_starts, a_atomPred, a_atomFirst, a_atomSecond, a_lengths, a_parts, a_model, a_ref, a_kept, a_closure, a_posMask, a_negMask, a_chosen, a_known, a_decided, a_savedTrue, a_savedFalse, a_group) (nI s) (nI (ig_m3 b4 b5 b6)) (nI k) := by
  obtain ⟨h4, h5, h6⟩ := ig_m3_g b4 b5 b6
  subst hn
  have step : ∀ m v o o' r (b : Bool), 4 ≤ v → v ≤ 6 → r < 64 → ((nI (ig_m3 b4 b5 b6) >>> ((nI v - 4) &&& 31)) &&& 1 = 0 ↔ b = false) →
      (nI o ||| (nI (bif b then r % n else v) <<< ((3 * (6 - nI v)) &&& 31)) = nI o') →
      wX_groundClosure_13 post (nI (ig_m3 b4 b5 b6)) (nI n) f_verdict f_preds f_atoms f_count f_refs f_size f_trueMask f_falseMask a_arities a_starts a_atomPred a_atomFirst a_atomSecond a_lengths a_parts a_model a_ref a_kept a_closure a_posMask a_negMask a_chosen a_known a_decided a_savedTrue a_savedFalse a_group m (nI o') (nI (bif b then r / n else r)) (nI (v - 1)) → wX_groundClosure_13 post (nI (ig_m3 b4 b5 b6)) (nI n) f_verdict f_preds f_atoms f_count f_refs f_size f_trueMask f_falseMask a_arities a_starts a_atomPred a_atomFirst a_atomSecond a_lengths a_parts a_model a_ref a_kept a_closure a_posMask a_negMask a_chosen a_known a_decided a_savedTrue a_savedFalse a_group (m + 1) (nI o) (nI r) (nI v) := by
    intro m v o o' r b v4 v6 hr hb ho h
    rw [wX_groundClosure_13]
    dsimp only
    refine br_f (nI_nlt (b := 4) (by omega) (by omega)) (br_c (fun z => ?_) (fun z => ?_))
    · rw [hb.mp z] at h ho
      rw [cond_false] at h ho
      unfold wX_groundClosure_52
      exact nm_r ho (nm_r (sb_m1 (by omega)) h)
    · have e : b = true := by
        cases b
        · exact (z (hb.mpr rfl)).elim
        · rfl
      rw [e, cond_true] at h ho
      refine ⟨nI_ne0 (by omega) (by omega), nm_r (pk_rem (by omega) (by omega) (by omega)) ⟨nI_ne0 (by omega) (by omega), nm_r (pk_div (by omega) (by omega) (by omega)) ?_⟩⟩
      unfold wX_groundClosure_52
      exact nm_r ho (nm_r (sb_m1 (by omega)) h)
  have md : ∀ r (b : Bool) v, v < 8 → (bif b then r % n else v) < 8 := by
    intro r b v hv
    cases b
    · exact hv
    · show r % n < 8
      have := Nat.mod_lt r (show 0 < n by omega)
      omega
  have dv : ∀ r (b : Bool), r < 64 → (bif b then r / n else r) < 64 := by
    intro r b hr
    cases b
    · exact hr
    · show r / n < 64
      exact Nat.lt_of_le_of_lt (Nat.div_le_self _ _) hr
  unfold wpX_groundClosure
  dsimp only
  refine nm_r (ig_sh9 s (by omega)) ⟨4, ?_⟩
  refine step 3 6 _ _ _ b6 (by omega) (by omega) hk h6 (ig_gc1 s hs _ (md k b6 6 (by omega))) ?_
  refine step 2 5 _ _ _ b5 (by omega) (by omega) (dv k b6 hk) h5 (ig_gc2 s hs _ (md k b6 6 (by omega)) _ (md _ b5 5 (by omega))) ?_
  refine step 1 4 _ _ _ b4 (by omega) (by omega) (dv _ b5 (dv k b6 hk)) h4 (ig_gc3 s hs _ (md k b6 6 (by omega)) _ (md _ b5 5 (by omega)) _ (md _ b4 4 (by omega))) ?_
  rw [wX_groundClosure_13]
  dsimp only
  exact br_t (by decide) K
end
end
section
/-! the instances in order, what is kept, the least model -/
def ig_en (c : ig_C) (cnt i : Nat) : Nat := (ig_fl c cnt).getD i 0
theorem ig_sw_mono {c : ig_C} {a : Nat} : ∀ {b : Nat}, a ≤ b → ig_sw c a ≤ ig_sw c b
  | 0, h => by rw [show a = 0 by omega]; exact Nat.le_refl _
  | b + 1, h => by
    rcases (show a = b + 1 ∨ a ≤ b by omega) with z | z
    · rw [z]; exact Nat.le_refl _
    · have := ig_sw_mono (c := c) z
      rw [show ig_sw c (b + 1) = ig_sw c b + ig_ws c b from rfl]; omega
theorem ig_gd_l {l l' : List Nat} {i : Nat} (h : i < l.length) : (l ++ l').getD i 0 = l.getD i 0 := by
  rw [List.getD_eq_getElem?_getD, List.getD_eq_getElem?_getD, List.getElem?_append_left h]
theorem ig_gd_r {l l' : List Nat} {i : Nat} (h : l.length ≤ i) : (l ++ l').getD i 0 = l'.getD (i - l.length) 0 := by
  rw [List.getD_eq_getElem?_getD, List.getD_eq_getElem?_getD, List.getElem?_append_right h]
theorem ig_gd_m {l : List Nat} {i : Nat} (h : i < l.length) : l.getD i 0 ∈ l := by
  rw [List.getD_eq_getElem?_getD, List.getElem?_eq_getElem h, Option.getD_some]
  exact List.getElem_mem h
theorem ig_en_at {c : ig_C} (w : ig_WF c) : ∀ {cnt s k : Nat}, s < cnt → k < ig_ws c s → ig_en c cnt (ig_sw c s + k) = s * 64 + (ig_il (ig_n c) (ig_ob c s 4) (ig_ob c s 5) (ig_ob c s 6)).getD k 0
  | 0, _, _, h, _ => by omega
  | cnt + 1, s, k, h, hk => by
    unfold ig_en ig_fl
    have e1 : ig_sw c (s + 1) = ig_sw c s + ig_ws c s := rfl
    have l1 := ig_fl_len w cnt
    rcases (show s < cnt ∨ s = cnt by omega) with z | z
    · have m := ig_sw_mono (c := c) (show s + 1 ≤ cnt by omega)
      rw [ig_gd_l (by omega)]
      exact ig_en_at w z hk
    · subst z
      rw [ig_gd_r (by omega), l1, Nat.add_sub_cancel_left]
      have l2 := ig_inr_len w s
      unfold ig_inr at l2 ⊢
      rw [List.length_map] at l2
      rw [List.getD_eq_getElem?_getD, List.getElem?_map, List.getElem?_eq_getElem (by omega), List.getD_eq_getElem?_getD, List.getElem?_eq_getElem (by omega)]
      rfl
theorem ig_en_mem {c : ig_C} (w : ig_WF c) {cnt i : Nat} (h : i < ig_sw c cnt) : ig_en c cnt i ∈ ig_fl c cnt := ig_gd_m (by rw [ig_fl_len w]; exact h)
theorem ig_en_sur {c : ig_C} (w : ig_WF c) {cnt e : Nat} (h : e ∈ ig_fl c cnt) : ∃ i, i < ig_sw c cnt ∧ ig_en c cnt i = e := by
  obtain ⟨i, hi, e'⟩ := List.getElem_of_mem h
  rw [ig_fl_len w] at hi
  refine ⟨i, hi, ?_⟩
  unfold ig_en
  rw [List.getD_eq_getElem?_getD, List.getElem?_eq_getElem (by rw [ig_fl_len w]; exact hi), Option.getD_some]
  exact e'
theorem ig_idx {c : ig_C} : ∀ {cnt i : Nat}, i < ig_sw c cnt → ∃ s k, s < cnt ∧ k < ig_ws c s ∧ i = ig_sw c s + k
  | 0, i, h => by unfold ig_sw at h; omega
  | cnt + 1, i, h => by
    rw [show ig_sw c (cnt + 1) = ig_sw c cnt + ig_ws c cnt from rfl] at h
    rcases Nat.lt_or_ge i (ig_sw c cnt) with z | z
    · obtain ⟨s, k, a, b, d⟩ := ig_idx z
      exact ⟨s, k, by omega, b, d⟩
    · exact ⟨cnt, i - ig_sw c cnt, by omega, by omega, by omega⟩
theorem ig_en_d {c : ig_C} (w : ig_WF c) {cnt s k : Nat} (h : s < cnt) (hk : k < ig_ws c s) : ig_en c cnt (ig_sw c s + k) / 64 = s := by
  rw [ig_en_at w h hk]
  have l : k < (ig_il (ig_n c) (ig_ob c s 4) (ig_ob c s 5) (ig_ob c s 6)).length := by
    have := ig_inr_len w s
    unfold ig_inr at this
    rw [List.length_map] at this
    omega
  have := (ig_il_mem (ig_gd_m l)).1
  omega
theorem ig_en_mono {c : ig_C} (w : ig_WF c) {cnt i j : Nat} (hij : i ≤ j) (hj : j < ig_sw c cnt) : ig_en c cnt i / 64 ≤ ig_en c cnt j / 64 := by
  obtain ⟨s, k, a, b, d⟩ := ig_idx (show i < ig_sw c cnt by omega)
  obtain ⟨s', k', a', b', d'⟩ := ig_idx hj
  rw [d, d', ig_en_d w a b, ig_en_d w a' b']
  rcases Nat.lt_or_ge s' s with z | z
  · have := ig_sw_mono (c := c) (show s' + 1 ≤ s by omega)
    rw [show ig_sw c (s' + 1) = ig_sw c s' + ig_ws c s' from rfl] at this
    omega
  · exact z
def ig_KS (c : ig_C) (cnt : Nat) (kp : Nat → Prop) : Prop := ∃ M, ∀ i, i < ig_sw c cnt → kp i → ig_CT c M (ig_en c cnt i / 64) (ig_va (ig_en c cnt i % 64))
def ig_kp (c : ig_C) (cnt : Nat) : Nat → Nat → Prop
  | 0 => fun _ => True
  | d + 1 => fun j => (j = ig_sw c cnt - 1 - d ∧ ig_KS c cnt (fun l => l ≠ ig_sw c cnt - 1 - d ∧ ig_kp c cnt d l)) ∨ (j ≠ ig_sw c cnt - 1 - d ∧ ig_kp c cnt d j)
theorem ig_kp_low {c : ig_C} {cnt : Nat} : ∀ {d j : Nat}, j + d < ig_sw c cnt → ig_kp c cnt d j
  | 0, _, _ => True.intro
  | d + 1, j, h => Or.inr ⟨by omega, ig_kp_low (by omega)⟩
/-- the seeds of a trimming step -/
def ig_Rk (c : ig_C) (cnt i : Nat) (kp : Nat → Prop) (p : Nat) : Prop := (∃ s, s < ig_en c cnt i / 64 ∧ p = ig_rt s) ∨ ∃ j, j < ig_sw c cnt ∧ kp j ∧ ig_en c cnt i / 64 ≤ ig_en c cnt j / 64 ∧ p = ig_pk c (ig_en c cnt j)
theorem ig_Rk_KS {c : ig_C} {cnt i : Nat} {kp : Nat → Prop} (g : ig_Gd c cnt) (hi : i < ig_sw c cnt) (h : ∀ j, j < i → kp j) : (∃ M, ∀ p, ig_Rk c cnt i kp p → ig_GI c M p) ↔ ig_KS c cnt kp := by
  have w := g.1
  have hm := fun j (hj : j < ig_sw c cnt) => ig_fl_mem (ig_en_mem w hj)
  constructor
  · rintro ⟨M, hM⟩
    refine ⟨M, fun j hj hk => ?_⟩
    have m := hm j hj
    have co := g.2.2.2.1 (ig_en c cnt j / 64) (by omega)
    rcases Nat.lt_or_ge (ig_en c cnt j / 64) (ig_en c cnt i / 64) with z | z
    · exact (ig_rt_GI w co).mp (hM _ (Or.inl ⟨_, z, rfl⟩)) _ m.2
    · exact (ig_pk_GI w co m.2).mp (hM _ (Or.inr ⟨j, hj, hk, z, rfl⟩))
  · rintro ⟨M, hM⟩
    refine ⟨M, fun p hp => ?_⟩
    rcases hp with ⟨s, hs, rfl⟩ | ⟨j, hj, hk, z, rfl⟩
    · have mi := hm i hi
      have co := g.2.2.2.1 s (by omega)
      rw [ig_rt_GI w co]
      intro e he
      obtain ⟨j, hj, ej⟩ := ig_en_sur w (ig_mem_fl (show s < cnt by omega) he)
      have es := (ig_inr_mem he).1
      have ji : j < i := by
        rcases Nat.lt_or_ge j i with z | z
        · exact z
        · have := ig_en_mono w z hj
          rw [ej] at this
          omega
      have := hM j hj (h j ji)
      rw [ej, es] at this
      exact this
    · have m := hm j hj
      exact (ig_pk_GI w (g.2.2.2.1 _ (by omega)) m.2).mpr (hM j hj hk)
theorem ig_KS_congr {c : ig_C} {cnt : Nat} {kp kp' : Nat → Prop} (h : ∀ j, j < ig_sw c cnt → (kp j ↔ kp' j)) : ig_KS c cnt kp ↔ ig_KS c cnt kp' := by
  constructor
  · rintro ⟨M, hM⟩; exact ⟨M, fun i hi hk => hM i hi ((h i hi).mpr hk)⟩
  · rintro ⟨M, hM⟩; exact ⟨M, fun i hi hk => hM i hi ((h i hi).mp hk)⟩
theorem ig_KS_Mo {c : ig_C} {cnt : Nat} (g : ig_Gd c cnt) (M : Nat → Bool) : ig_Mo c cnt M ↔ ∀ i, i < ig_sw c cnt → ig_CT c M (ig_en c cnt i / 64) (ig_va (ig_en c cnt i % 64)) := by
  rw [ig_Mo_fl g M]
  constructor
  · intro h i hi; exact h _ (ig_en_mem g.1 hi)
  · intro h e he
    obtain ⟨i, hi, ei⟩ := ig_en_sur g.1 he
    rw [← ei]; exact h i hi
/-- the kept entries, closed up -/
noncomputable def ig_ce (kp : Nat → Prop) (en : Nat → Nat) : Nat → Nat → Nat
  | 0 => fun _ => 0
  | i + 1 => @ite _ (kp i) (Classical.propDecidable _) (fun k => if k = ig_cn kp i then en i else ig_ce kp en i k) (ig_ce kp en i)
theorem ig_ce_t {kp : Nat → Prop} {en : Nat → Nat} {i : Nat} (h : kp i) (k : Nat) : ig_ce kp en (i + 1) k = if k = ig_cn kp i then en i else ig_ce kp en i k := by
  show (@ite _ (kp i) (Classical.propDecidable _) (fun k => if k = ig_cn kp i then en i else ig_ce kp en i k) (ig_ce kp en i)) k = _
  rw [if_pos h]
theorem ig_ce_f {kp : Nat → Prop} {en : Nat → Nat} {i : Nat} (h : ¬ kp i) : ig_ce kp en (i + 1) = ig_ce kp en i := by
  show (@ite _ (kp i) (Classical.propDecidable _) (fun k => if k = ig_cn kp i then en i else ig_ce kp en i k) (ig_ce kp en i)) = _
  rw [if_neg h]
theorem ig_cn_t {kp : Nat → Prop} {i : Nat} (h : kp i) : ig_cn kp (i + 1) = ig_cn kp i + 1 := by
  rw [show ig_cn kp (i + 1) = ig_cn kp i + ig_b01 (kp i) from rfl, ig_b01_t h]
theorem ig_cn_f {kp : Nat → Prop} {i : Nat} (h : ¬ kp i) : ig_cn kp (i + 1) = ig_cn kp i := by
  rw [show ig_cn kp (i + 1) = ig_cn kp i + ig_b01 (kp i) from rfl, ig_b01_f h]; rfl
theorem ig_ce_in {kp : Nat → Prop} {en : Nat → Nat} {Q : Nat → Prop} : ∀ {i : Nat}, (∀ j, j < i → Q (en j)) → ∀ k, k < ig_cn kp i → Q (ig_ce kp en i k)
  | 0, _, k, h => by unfold ig_cn at h; omega
  | i + 1, hq, k, h => by
    rcases Classical.em (kp i) with z | z
    · rw [ig_cn_t z] at h
      rw [ig_ce_t z]
      by_cases e : k = ig_cn kp i
      · rw [if_pos e]; exact hq i (by omega)
      · rw [if_neg e]; exact ig_ce_in (fun j hj => hq j (by omega)) k (by omega)
    · rw [ig_cn_f z] at h
      rw [ig_ce_f z]
      exact ig_ce_in (fun j hj => hq j (by omega)) k h
theorem ig_cn_cg {P Q : Nat → Prop} {N : Nat} (h : ∀ k, k < N → (P k ↔ Q k)) : ig_cn P N = ig_cn Q N :=
  Nat.le_antisymm (ig_cn_mono fun k hk => (h k hk).mp) (ig_cn_mono fun k hk => (h k hk).mpr)
/-! assignments as numbers, the first atom in the highest bit -/
def ig_M (A m : Nat) : Nat → Bool := fun k => decide (m / 2 ^ (A - 1 - k) % 2 = 1)
theorem ig_M_ex : ∀ (A : Nat) (M : Nat → Bool), ∃ m, m < 2 ^ A ∧ ∀ k, k < A → (m / 2 ^ (A - 1 - k) % 2 = 1 ↔ M k = true)
  | 0, _ => ⟨0, by decide, fun k hk => by omega⟩
  | A + 1, M => by
    obtain ⟨m, hm, h⟩ := ig_M_ex A M
    refine ⟨2 * m + (bif M A then 1 else 0), ?_, fun k hk => ?_⟩
    · rw [Nat.pow_succ]
      cases M A <;> simp only [cond_true, cond_false] <;> omega
    · rcases (show k < A ∨ k = A by omega) with z | z
      · rw [← h k z, show A + 1 - 1 - k = (A - 1 - k) + 1 by omega, Nat.pow_succ, Nat.mul_comm (2 ^ (A - 1 - k)) 2, ← Nat.div_div_eq_div_mul]
        have : (2 * m + (bif M A then 1 else 0)) / 2 = m := by cases M A <;> simp only [cond_true, cond_false] <;> omega
        rw [this]
      · subst z
        rw [show k + 1 - 1 - k = 0 by omega, Nat.pow_zero, Nat.div_one]
        cases M k
        · exact ⟨fun h => by have h : (2 * m + 0) % 2 = 1 := h; omega, fun h => by cases h⟩
        · exact ⟨fun _ => rfl, fun _ => by show (2 * m + 1) % 2 = 1; omega⟩
theorem ig_M_t {A m k : Nat} : ig_M A m k = true ↔ m / 2 ^ (A - 1 - k) % 2 = 1 := by
  unfold ig_M
  exact decide_eq_true_iff
theorem ig_CT_M {c : ig_C} {M M' : Nat → Bool} {s : Nat} {σ : Nat → Nat} (w : ig_WF c) (co : ig_CO c s) (hs : ∀ v, 4 ≤ v → v ≤ 6 → σ v < ig_n c) (h : ∀ k, k < ig_a c → M k = M' k) : ig_CT c M s σ → ig_CT c M' s σ := by
  rintro ⟨q, hq, l⟩
  refine ⟨q, hq, ?_⟩
  unfold ig_LT at l ⊢
  rw [← h _ (ig_lit_a w (co.2 q hq) hs)]
  exact l
theorem ig_Mo_M {c : ig_C} {cnt : Nat} {M M' : Nat → Bool} (g : ig_Gd c cnt) (h : ∀ k, k < ig_a c → M k = M' k) (hM : ig_Mo c cnt M) : ig_Mo c cnt M' :=
  fun s hs τ hτ => ig_CT_M g.1 (g.2.2.2.1 s (by omega)) (fun v _ _ => hτ v) h (hM s hs τ hτ)
/-- leading bits -/
theorem ig_pre {A m m' : Nat} (hm : m < 2 ^ A) (hm' : m' < 2 ^ A) : ∀ k, k ≤ A → (∀ l, l < k → m / 2 ^ (A - 1 - l) % 2 = m' / 2 ^ (A - 1 - l) % 2) → m / 2 ^ (A - k) = m' / 2 ^ (A - k)
  | 0, _, _ => by rw [Nat.sub_zero, Nat.div_eq_of_lt hm, Nat.div_eq_of_lt hm']
  | k + 1, hk, h => by
    have ih := ig_pre hm hm' k (by omega) (fun l hl => h l (by omega))
    have hb := h k (by omega)
    have e : A - k = (A - (k + 1)) + 1 := by omega
    have e' : A - 1 - k = A - (k + 1) := by omega
    rw [e, Nat.pow_succ, ← Nat.div_div_eq_div_mul, ← Nat.div_div_eq_div_mul] at ih
    rw [e'] at hb
    omega
/-- the first model found atom by atom is the least -/
theorem ig_least {c : ig_C} {cnt m : Nat} {mb : Nat → Nat} (g : ig_Gd c cnt) (lx : ig_Lx c cnt mb (ig_a c)) (hm : m < 2 ^ ig_a c) (hmo : ig_Mo c cnt (ig_M (ig_a c) m)) (hl : ∀ m', m' < m → ¬ ig_Mo c cnt (ig_M (ig_a c) m')) :
    ∀ k, k < ig_a c → mb k = m / 2 ^ (ig_a c - 1 - k) % 2 := by
  have key : ∀ k, k ≤ ig_a c → ∀ l, l < k → mb l = m / 2 ^ (ig_a c - 1 - l) % 2 := by
    intro k
    induction k with
    | zero => intro _ l hl; omega
    | succ k ih =>
      intro hk l hlk
      have ih := ih (by omega)
      rcases (show l < k ∨ l = k by omega) with z | z
      · exact ih l z
      subst z
      obtain ⟨b1, b2⟩ := lx l (by omega)
      rcases (show mb l = 0 ∨ mb l = 1 by omega) with z | z
      · obtain ⟨M, h1, h2, h3⟩ := b2.mp z
        obtain ⟨m', hm', e'⟩ := ig_M_ex (ig_a c) M
        have ge : m ≤ m' := by
          rcases Nat.lt_or_ge m' m with y | y
          · refine (hl m' y (ig_Mo_M g (fun k hk => ?_) h1)).elim
            have := e' k hk
            rw [← ig_M_t] at this
            exact (Bool.eq_iff_iff.mpr this).symm
          · exact y
        have pre := ig_pre hm hm' l (by omega) (fun j hj => by
          have a := ih j hj
          have b := h2 j hj
          have d := e' j (by omega)
          have e : m' / 2 ^ (ig_a c - 1 - j) % 2 = 1 ↔ mb j = 1 := d.trans b
          have f := (lx j (by omega)).1
          omega)
        have nb : ¬ m' / 2 ^ (ig_a c - 1 - l) % 2 = 1 := fun y => by
          have := (e' l (by omega)).mp y
          rw [h3] at this; cases this
        have es : ig_a c - l = (ig_a c - 1 - l) + 1 := by omega
        rw [es, Nat.pow_succ, ← Nat.div_div_eq_div_mul, ← Nat.div_div_eq_div_mul] at pre
        have dm := Nat.div_le_div_right (c := 2 ^ (ig_a c - 1 - l)) ge
        rw [z]
        omega
      · rw [z]
        refine Classical.byContradiction fun nb => ?_
        have : mb l = 0 := b2.mpr ⟨ig_M (ig_a c) m, hmo, fun j hj => ?_, ?_⟩
        · omega
        · rw [ig_M_t, ih j hj]
        · rw [Bool.eq_false_iff]
          intro y
          rw [ig_M_t] at y
          exact nb y.symm
  intro k hk
  exact key (ig_a c) (Nat.le_refl _) k hk
end
section
/-! the refutation, trimmed -/
theorem ig_nb1 : vp_nar .boolean 1 = 1 := by decide
theorem ig_nb0 : vp_nar .boolean 0 = 0 := by decide
theorem ig_gd_pk {c : ig_C} (w : ig_WF c) {cnt s k : Nat} (h : s < cnt) (hk : k < ig_ws c s) (h64 : k < 64) : s * 512 + ig_gd (ig_n c) (ig_ob c s 4) (ig_ob c s 5) (ig_ob c s 6) k = ig_pk c (ig_en c cnt (ig_sw c s + k)) := by
  have e1 := ig_en_at w h hk
  have e2 := ig_en_d w h hk
  have e3 := ig_il_gd (ig_n c) (by have := w.2.1; omega) w.1 (ig_ob c s 4) (ig_ob c s 5) (ig_ob c s 6) k h64 hk
  unfold ig_pk
  rw [e2, e1, e3]
  have : (s * 64 + (ig_il (ig_n c) (ig_ob c s 4) (ig_ob c s 5) (ig_ob c s 6)).getD k 0) % 64 = (ig_il (ig_n c) (ig_ob c s 4) (ig_ob c s 5) (ig_ob c s 6)).getD k 0 := by omega
  rw [this]
section
variable {f_n f_verdict f_preds f_atoms f_count f_refs f_size f_trueMask f_falseMask : Int32} {a_arities a_starts a_atomPred a_atomFirst a_atomSecond a_lengths a_parts a_model a_ref a_kept a_closure a_posMask a_negMask a_chosen a_known a_decided a_savedTrue a_savedFalse a_group : Nat → Int32}
theorem ig_x_lg15 {post : SX → Prop} {c : ig_C} {cnt s : Nat} (tx : ig_XT c f_n f_atoms a_arities a_starts a_lengths a_parts) (g : ig_Gd c cnt) (hs : s < cnt)
    (K : ∀ rf' kp', (∀ i, i < ig_sw c (s + 1) → rf' i = nI (ig_pk c (ig_en c cnt i)) ∧ kp' i = 1) → post (f_n, f_verdict, f_preds, f_atoms, f_count, nI (ig_sw c (s + 1)), f_size, f_trueMask, f_falseMask, a_arities, a_starts, a_atomPred, a_atomFirst, a_atomSecond, a_lengths, a_parts, a_model, rf', kp', a_closure, a_posMask, a_negMask, a_chosen, a_known, a_decided, a_savedTrue, a_savedFalse, a_group)) :
    ∀ d k, k + d = ig_ws c s → ∀ a_ref a_kept : Nat → Int32, (∀ i, i < ig_sw c s + k → a_ref i = nI (ig_pk c (ig_en c cnt i)) ∧ a_kept i = 1) →
    wX_listGround_15 post (nI s) (nI (ig_mv c s)) (nI (ig_ws c s)) f_n f_verdict f_preds f_atoms f_count f_size f_trueMask f_falseMask (d + 1) (nI k) (nI (ig_sw c s + k)) a_arities a_starts a_atomPred a_atomFirst a_atomSecond a_lengths a_parts a_model a_ref a_kept a_closure a_posMask a_negMask a_chosen a_known a_decided a_savedTrue a_savedFalse a_group := by
  have h48 := g.2.2.2.2
  have h12 := g.2.1
  have m1 := ig_sw_mono (c := c) (show s + 1 ≤ cnt by omega)
  have e1 : ig_sw c (s + 1) = ig_sw c s + ig_ws c s := rfl
  intro d
  induction d with
  | zero =>
    intro k hk a_ref a_kept h
    have e : k = ig_ws c s := by omega
    subst e
    rw [wX_listGround_15]
    dsimp only
    refine br_t (nI_le (Nat.le_refl _) (by omega)) ?_
    have := K a_ref a_kept (by rw [e1]; exact h)
    rw [e1] at this
    exact this
  | succ d ih =>
    intro k hk a_ref a_kept h
    have hr : vp_in (nI (ig_sw c s + k)) 48 := vp_in_nI (by omega) (by omega)
    rw [wX_listGround_15]
    dsimp only
    refine br_f (nI_ge (by omega) (by omega)) (br_f (nI_ge (b := 48) (by omega) (by omega)) ?_)
    refine ig_x_gc _ _ _ tx.1 g.1.1 g.1.2.1 (by omega) (by omega) ?_
    rw [nI_clamp (show ig_sw c s + k < 2 ^ 31 by omega), ig_gd_pk g.1 hs (by omega) (by omega)]
    refine ⟨hr, nm_e ⟨hr, nm_e (nm_r (nI_1 _) (nm_r (nI_1 k) ?_))⟩⟩
    refine ih (k + 1) (by omega) _ _ fun i hi => ?_
    by_cases e : i = ig_sw c s + k
    · subst e; rw [pk_us, pk_us]; exact ⟨rfl, ig_nb1⟩
    · rw [pk_un e, pk_un e]; exact h i (by omega)
theorem ig_x_lg {post : SX → Prop} {c : ig_C} {cnt s : Nat} (tx : ig_XT c f_n f_atoms a_arities a_starts a_lengths a_parts) (g : ig_Gd c cnt) (hs : s < cnt) (hr : f_refs = nI (ig_sw c s)) (h : ∀ i, i < ig_sw c s → a_ref i = nI (ig_pk c (ig_en c cnt i)) ∧ a_kept i = 1)
    (K : ∀ rf' kp', (∀ i, i < ig_sw c (s + 1) → rf' i = nI (ig_pk c (ig_en c cnt i)) ∧ kp' i = 1) → post (f_n, f_verdict, f_preds, f_atoms, f_count, nI (ig_sw c (s + 1)), f_size, f_trueMask, f_falseMask, a_arities, a_starts, a_atomPred, a_atomFirst, a_atomSecond, a_lengths, a_parts, a_model, rf', kp', a_closure, a_posMask, a_negMask, a_chosen, a_known, a_decided, a_savedTrue, a_savedFalse, a_group)) : wpX_listGround post (f_n, f_verdict, f_preds, f_atoms, f_count, f_refs, f_size, f_trueMask, f_falseMask, a_arities, a_starts, a_atomPred, a_atomFirst, a_atomSecond, a_lengths, a_parts, a_model, a_ref, a_kept, a_closure, a_posMask, a_negMask, a_chosen, a_known, a_decided, a_savedTrue, a_savedFalse, a_group) (nI s) := by
  have h12 := g.2.1
  subst hr
  unfold wpX_listGround
  dsimp only
  refine ig_x_vo tx g.1 (by omega) (g.2.2.2.1 s (by omega)) ?_
  refine ig_x_ways _ _ _ tx.1 ?_
  exact ⟨ig_ws c s + 1, ig_x_lg15 tx g hs K (ig_ws c s) 0 (by omega) _ _ h⟩
/-- seeding for a trimming step -/
theorem ig_x_st21 {post : SX → Prop} {c : ig_C} {cnt i : Nat} {kp : Nat → Prop} (tx : ig_XT c f_n f_atoms a_arities a_starts a_lengths a_parts) (g : ig_Gd c cnt) (hi : i < ig_sw c cnt) (hr : f_refs = nI (ig_sw c cnt))
    (href : ∀ j, j < ig_sw c cnt → a_ref j = nI (ig_pk c (ig_en c cnt j))) (hkp : ∀ j, j < ig_sw c cnt → (a_kept j ≠ 0 ↔ kp j))
    (K : ∀ N' cl' sz' clo' pm' nm' kn', ig_DY c (ig_Sl cnt 0) N' cl' sz' clo' pm' nm' kn' → ig_St N' cl' (ig_Rk c cnt i kp) → post (f_n, f_verdict, f_preds, f_atoms, f_count, f_refs, sz', f_trueMask, f_falseMask, a_arities, a_starts, a_atomPred, a_atomFirst, a_atomSecond, a_lengths, a_parts, a_model, a_ref, a_kept, clo', pm', nm', a_chosen, kn', a_decided, a_savedTrue, a_savedFalse, a_group)) :
    ∀ d j, j + d = ig_sw c cnt → ∀ (N : Nat) (cl : Nat → Nat) (f_size : Int32) (a_closure a_posMask a_negMask a_known : Nat → Int32), ig_DY c (ig_Sl cnt 0) N cl f_size a_closure a_posMask a_negMask a_known →
      ig_St N cl (fun p => (∃ s, s < ig_en c cnt i / 64 ∧ p = ig_rt s) ∨ ∃ l, l < j ∧ kp l ∧ ig_en c cnt i / 64 ≤ ig_en c cnt l / 64 ∧ p = ig_pk c (ig_en c cnt l)) →
      wX_seedTrimmed_21 post (nI (ig_en c cnt i / 64)) (d + 1) (nI j) f_n f_verdict f_preds f_atoms f_count f_refs f_size f_trueMask f_falseMask a_arities a_starts a_atomPred a_atomFirst a_atomSecond a_lengths a_parts a_model a_ref a_kept a_closure a_posMask a_negMask a_chosen a_known a_decided a_savedTrue a_savedFalse a_group := by
  have h48 := g.2.2.2.2
  have h12 := g.2.1
  have hA := ig_units_AS (m := 0) (at' := fun k => k) g (by omega) (fun k hk => by omega)
  have hC := ig_units_cap (m := 0) (at' := fun k => k) g (by omega) (fun k hk => by omega)
  have mi := ig_fl_mem (ig_en_mem g.1 hi)
  subst hr
  intro d
  induction d with
  | zero =>
    intro j hj N cl f_size a_closure a_posMask a_negMask a_known D R
    have e : j = ig_sw c cnt := by omega
    subst e
    rw [wX_seedTrimmed_21]
    dsimp only
    exact br_t (nI_le (Nat.le_refl _) (by omega)) (K N cl _ _ _ _ _ D R)
  | succ d ih =>
    intro j hj N cl f_size a_closure a_posMask a_negMask a_known D R
    have hjE : j < ig_sw c cnt := by omega
    have hin : vp_in (nI j) 48 := vp_in_nI (by omega) (by omega)
    have mj := ig_fl_mem (ig_en_mem g.1 hjE)
    have vj : ig_VC c (ig_Sl cnt 0) (ig_pk c (ig_en c cnt j)) := ig_pk_VC (by omega) (Or.inl mj.1) mj.2
    have p1 := vj.1
    have dj := (ig_pk_dig (c := c) (ig_en c cnt j)).1
    rw [wX_seedTrimmed_21]
    dsimp only
    rw [nI_clamp (show j < 2 ^ 31 by omega), href j hjE, pk_shrN (by omega) _ 9 (by decide), show ig_pk c (ig_en c cnt j) / 2 ^ 9 = ig_en c cnt j / 64 from dj]
    have skip : ¬ (kp j ∧ ig_en c cnt i / 64 ≤ ig_en c cnt j / 64) → wX_seedTrimmed_21 post (nI (ig_en c cnt i / 64)) (d + 1) (nI (j + 1)) f_n f_verdict f_preds f_atoms f_count (nI (ig_sw c cnt)) f_size f_trueMask f_falseMask a_arities a_starts a_atomPred a_atomFirst a_atomSecond a_lengths a_parts a_model a_ref a_kept a_closure a_posMask a_negMask a_chosen a_known a_decided a_savedTrue a_savedFalse a_group := by
      intro hn
      refine ih (j + 1) (by omega) N cl _ _ _ _ _ D (ig_St_congr R fun p => ?_)
      constructor
      · rintro (h | ⟨l, h1, h2, h3, h4⟩)
        · exact Or.inl h
        · exact Or.inr ⟨l, by omega, h2, h3, h4⟩
      · rintro (h | ⟨l, h1, h2, h3, h4⟩)
        · exact Or.inl h
        · rcases (show l < j ∨ l = j by omega) with z | z
          · exact Or.inr ⟨l, z, h2, h3, h4⟩
          · subst z; exact (hn ⟨h2, h3⟩).elim
    refine br_f (nI_ge (by omega) (by omega)) ⟨hin, br_c (fun z => nm_r (nI_1 j) (skip fun q => (hkp j hjE).mpr q.1 z)) (fun z => ⟨hin, pk_lt (ig_en c cnt j / 64) (ig_en c cnt i / 64) (fun y => nm_r (nI_1 j) (skip fun q => by omega)) (fun y => ⟨hin, ?_⟩)⟩)⟩
    refine ig_x_add tx g.1 hA hC vj D ?_
    intro N' cl' sz' clo' pm' nm' kn' D' E
    dsimp only
    refine nm_r (nI_1 j) (ih (j + 1) (by omega) N' cl' _ _ _ _ _ D' (ig_St_congr (ig_St_Ex R E) fun p => ?_))
    constructor
    · rintro ((h | ⟨l, h1, h2, h3, h4⟩) | h)
      · exact Or.inl h
      · exact Or.inr ⟨l, by omega, h2, h3, h4⟩
      · exact Or.inr ⟨j, by omega, (hkp j hjE).mp z, y, h⟩
    · rintro (h | ⟨l, h1, h2, h3, h4⟩)
      · exact Or.inl (Or.inl h)
      · rcases (show l < j ∨ l = j by omega) with z | z
        · exact Or.inl (Or.inr ⟨l, z, h2, h3, h4⟩)
        · subst z; exact Or.inr h4
theorem ig_x_st {post : SX → Prop} {c : ig_C} {cnt i : Nat} {kp : Nat → Prop} (tx : ig_XT c f_n f_atoms a_arities a_starts a_lengths a_parts) (g : ig_Gd c cnt) (hD : ig_DL f_size a_closure a_known) (hi : i < ig_sw c cnt) (hr : f_refs = nI (ig_sw c cnt))
    (href : ∀ j, j < ig_sw c cnt → a_ref j = nI (ig_pk c (ig_en c cnt j))) (hkp : ∀ j, j < ig_sw c cnt → (a_kept j ≠ 0 ↔ kp j))
    (K : ∀ N' cl' sz' clo' pm' nm' kn', ig_DY c (ig_Sl cnt 0) N' cl' sz' clo' pm' nm' kn' → ig_St N' cl' (ig_Rk c cnt i kp) → post (f_n, f_verdict, f_preds, f_atoms, f_count, f_refs, sz', f_trueMask, f_falseMask, a_arities, a_starts, a_atomPred, a_atomFirst, a_atomSecond, a_lengths, a_parts, a_model, a_ref, a_kept, clo', pm', nm', a_chosen, kn', a_decided, a_savedTrue, a_savedFalse, a_group)) : wpX_seedTrimmed post (f_n, f_verdict, f_preds, f_atoms, f_count, f_refs, f_size, f_trueMask, f_falseMask, a_arities, a_starts, a_atomPred, a_atomFirst, a_atomSecond, a_lengths, a_parts, a_model, a_ref, a_kept, a_closure, a_posMask, a_negMask, a_chosen, a_known, a_decided, a_savedTrue, a_savedFalse, a_group) (nI i) := by
  have h48 := g.2.2.2.2
  have h12 := g.2.1
  have hA := ig_units_AS (m := 0) (at' := fun k => k) g (by omega) (fun k hk => by omega)
  have hC := ig_units_cap (m := 0) (at' := fun k => k) g (by omega) (fun k hk => by omega)
  have mi := ig_fl_mem (ig_en_mem g.1 hi)
  have vi : ig_VC c (ig_Sl cnt 0) (ig_pk c (ig_en c cnt i)) := ig_pk_VC (by omega) (Or.inl mi.1) mi.2
  have p1 := vi.1
  have di := (ig_pk_dig (c := c) (ig_en c cnt i)).1
  unfold wpX_seedTrimmed
  dsimp only
  rw [nI_clamp (show i < 2 ^ 31 by omega), href i hi, pk_shrN (by omega) _ 9 (by decide), show ig_pk c (ig_en c cnt i) / 2 ^ 9 = ig_en c cnt i / 64 from di]
  refine ⟨vp_in_nI (by omega) (by omega), nm_e (ig_x_reset hD ?_)⟩
  intro kn0 hk0
  dsimp only
  obtain ⟨D0, R0⟩ := ig_DY_0 (c := c) (S := ig_Sl cnt 0) (a_closure := a_closure) (a_posMask := a_posMask) (a_negMask := a_negMask) hk0
  refine ig_x_seedRoots tx g.1 hA hC (fun s hs => Or.inl (by omega)) (by omega) D0 R0 ?_
  intro N1 cl1 sz1 clo1 pm1 nm1 kn1 D1 R1
  dsimp only
  refine ⟨ig_sw c cnt + 1, ig_x_st21 tx g hi hr href hkp K (ig_sw c cnt) 0 (by omega) N1 cl1 _ _ _ _ _ D1 (ig_St_congr R1 fun p => ?_)⟩
  constructor
  · rintro (h | h)
    · exact h.elim
    · exact Or.inl h
  · rintro (h | ⟨l, h1, _⟩)
    · exact Or.inr h
    · omega
/-- closing up -/
theorem ig_x_trim73 {post : SX → Prop} {E : Nat} {kp : Nat → Prop} {en pk : Nat → Nat} (hE : E ≤ 48) (hkp : ∀ j, j < E → (a_kept j ≠ 0 ↔ kp j))
    (K : ∀ rf', (∀ k, k < ig_cn kp E → rf' k = nI (pk (ig_ce kp en E k))) → post (f_n, f_verdict, f_preds, f_atoms, f_count, nI (ig_cn kp E), f_size, f_trueMask, f_falseMask, a_arities, a_starts, a_atomPred, a_atomFirst, a_atomSecond, a_lengths, a_parts, a_model, rf', a_kept, a_closure, a_posMask, a_negMask, a_chosen, a_known, a_decided, a_savedTrue, a_savedFalse, a_group)) :
    ∀ d i, i + d = E → ∀ a_ref : Nat → Int32, (∀ k, k < ig_cn kp i → a_ref k = nI (pk (ig_ce kp en i k))) → (∀ j, i ≤ j → j < E → a_ref j = nI (pk (en j))) →
    wX_trim_73 post f_n f_verdict f_preds f_atoms f_count (nI E) f_size f_trueMask f_falseMask (d + 1) (nI (ig_cn kp i)) (nI i) a_arities a_starts a_atomPred a_atomFirst a_atomSecond a_lengths a_parts a_model a_ref a_kept a_closure a_posMask a_negMask a_chosen a_known a_decided a_savedTrue a_savedFalse a_group := by
  intro d
  induction d with
  | zero =>
    intro i hi a_ref h1 h2
    have e : i = E := by omega
    subst e
    rw [wX_trim_73]
    dsimp only
    exact br_t (nI_le (Nat.le_refl _) (by omega)) (K a_ref h1)
  | succ d ih =>
    intro i hi a_ref h1 h2
    have hin : vp_in (nI i) 48 := vp_in_nI (by omega) (by omega)
    have le := ig_cn_le kp i
    rw [wX_trim_73]
    dsimp only
    rw [nI_clamp (show i < 2 ^ 31 by omega), nI_clamp (show ig_cn kp i < 2 ^ 31 by omega), h2 i (Nat.le_refl _) (by omega)]
    refine br_f (nI_ge (by omega) (by omega)) ⟨hin, br_c (fun z => nm_r (nI_1 i) ?_) (fun z => ⟨hin, vp_in_nI (by omega) (by omega), nm_e (nm_r (nI_1 _) (nm_r (nI_1 i) ?_))⟩)⟩
    · have hn : ¬ kp i := fun q => (hkp i (by omega)).mpr q z
      have := ih (i + 1) (by omega) a_ref (by rw [ig_cn_f hn, ig_ce_f hn]; exact h1) (fun j a b => h2 j (by omega) b)
      rw [ig_cn_f hn] at this
      exact this
    · have hy : kp i := (hkp i (by omega)).mp z
      have := ih (i + 1) (by omega) (upd a_ref (ig_cn kp i) (nI (pk (en i)))) (fun k hk => ?_) (fun j a b => by rw [pk_un (by omega)]; exact h2 j (by omega) b)
      · rw [ig_cn_t hy] at this
        exact this
      · rw [ig_cn_t hy] at hk
        rw [ig_ce_t hy]
        by_cases e : k = ig_cn kp i
        · rw [if_pos e, e, pk_us]
        · rw [if_neg e, pk_un e]; exact h1 k (by omega)
theorem ig_m1 (i : Nat) : nI i + (-1) = nI i - 1 := (Int32.sub_eq_add_neg _ _).symm
theorem ig_x_trim33 {post : SX → Prop} {c : ig_C} {cnt : Nat} (tx : ig_XT c f_n f_atoms a_arities a_starts a_lengths a_parts) (g : ig_Gd c cnt) (href : ∀ j, j < ig_sw c cnt → a_ref j = nI (ig_pk c (ig_en c cnt j)))
    (K : ∀ rf' kp' sz' t' f' clo' pm' nm' ch' kn' dc' sT' sF' gr', ig_DL sz' clo' kn' → (∀ k, k < ig_cn (ig_kp c cnt (ig_sw c cnt)) (ig_sw c cnt) → rf' k = nI (ig_pk c (ig_ce (ig_kp c cnt (ig_sw c cnt)) (ig_en c cnt) (ig_sw c cnt) k))) →
      post (f_n, f_verdict, f_preds, f_atoms, f_count, nI (ig_cn (ig_kp c cnt (ig_sw c cnt)) (ig_sw c cnt)), sz', t', f', a_arities, a_starts, a_atomPred, a_atomFirst, a_atomSecond, a_lengths, a_parts, a_model, rf', kp', clo', pm', nm', ch', kn', dc', sT', sF', gr')) :
    ∀ i d, i + d = ig_sw c cnt → ∀ (f_size f_trueMask f_falseMask : Int32) (a_kept a_closure a_posMask a_negMask a_chosen a_known a_decided a_savedTrue a_savedFalse a_group : Nat → Int32), ig_DL f_size a_closure a_known → (∀ j, j < ig_sw c cnt → (a_kept j ≠ 0 ↔ ig_kp c cnt d j)) →
      wX_trim_33 post (i + 1) (nI i - 1) f_n f_verdict f_preds f_atoms f_count (nI (ig_sw c cnt)) f_size f_trueMask f_falseMask a_arities a_starts a_atomPred a_atomFirst a_atomSecond a_lengths a_parts a_model a_ref a_kept a_closure a_posMask a_negMask a_chosen a_known a_decided a_savedTrue a_savedFalse a_group := by
  have h48 := g.2.2.2.2
  have h12 := g.2.1
  have hA := ig_units_AS (m := 0) (at' := fun k => k) g (by omega) (fun k hk => by omega)
  have hC := ig_units_cap (m := 0) (at' := fun k => k) g (by omega) (fun k hk => by omega)
  intro i
  induction i with
  | zero =>
    intro d hd f_size f_trueMask f_falseMask a_kept a_closure a_posMask a_negMask a_chosen a_known a_decided a_savedTrue a_savedFalse a_group hD hk
    have e : d = ig_sw c cnt := by omega
    subst e
    rw [wX_trim_33]
    dsimp only
    refine br_t (by decide) ⟨ig_sw c cnt + 1, ig_x_trim73 (kp := ig_kp c cnt (ig_sw c cnt)) (en := ig_en c cnt) (pk := ig_pk c) h48 hk (fun rf' h => ?_) (ig_sw c cnt) 0 (by omega) _ (fun k hk => by unfold ig_cn at hk; omega) (fun j _ hj => href j hj)⟩
    exact K rf' _ _ _ _ _ _ _ _ _ _ _ _ _ hD h
  | succ i ih =>
    intro d hd f_size f_trueMask f_falseMask a_kept a_closure a_posMask a_negMask a_chosen a_known a_decided a_savedTrue a_savedFalse a_group hD hk
    have ei : i = ig_sw c cnt - 1 - d := by omega
    have hin : vp_in (nI i) 48 := vp_in_nI (by omega) (by omega)
    rw [wX_trim_33, nI_pred]
    dsimp only
    rw [nI_clamp (show i < 2 ^ 31 by omega), ig_m1]
    refine br_f (nI_pos (by omega)) ⟨hin, nm_e ?_⟩
    have hk' : ∀ j, j < ig_sw c cnt → (upd a_kept i (vp_nar .boolean 0) j ≠ 0 ↔ (j ≠ i ∧ ig_kp c cnt d j)) := by
      intro j hj
      by_cases e : j = i
      · subst e; rw [pk_us, ig_nb0]
        exact ⟨fun z => (z rfl).elim, fun z => (z.1 rfl).elim⟩
      · rw [pk_un e]
        exact (hk j hj).trans ⟨fun z => ⟨e, z⟩, fun z => z.2⟩
    refine ig_x_st tx g hD (by omega) rfl href hk' ?_
    intro N' cl' sz' clo' pm' nm' kn' D' R'
    dsimp only
    refine ig_x_sat tx g.1 hA hC D' R' ?_
    intro r sz2 t2 f2 clo2 pm2 nm2 ch2 kn2 dc2 sT2 sF2 gr2 DL2 hr
    dsimp only
    rw [ig_Rk_KS g (by omega) (fun j hj => ⟨by omega, ig_kp_low (by omega)⟩)] at hr
    rcases hr with ⟨rfl, hr⟩ | ⟨rfl, hr⟩
    · refine br_t rfl (nm_e ?_)
      refine ih (d + 1) (by omega) _ _ _ _ _ _ _ _ _ _ _ _ _ DL2 fun j hj => ?_
      rw [hk' j hj]
      show _ ↔ (j = ig_sw c cnt - 1 - d ∧ ig_KS c cnt (fun l => l ≠ ig_sw c cnt - 1 - d ∧ ig_kp c cnt d l)) ∨ (j ≠ ig_sw c cnt - 1 - d ∧ ig_kp c cnt d j)
      rw [← ei]
      exact ⟨Or.inr, fun z => z.elim (fun y => (hr y.2).elim) id⟩
    · refine br_f (by decide) ⟨hin, nm_e (nm_e ?_)⟩
      refine ih (d + 1) (by omega) _ _ _ _ _ _ _ _ _ _ _ _ _ DL2 fun j hj => ?_
      show _ ↔ (j = ig_sw c cnt - 1 - d ∧ ig_KS c cnt (fun l => l ≠ ig_sw c cnt - 1 - d ∧ ig_kp c cnt d l)) ∨ (j ≠ ig_sw c cnt - 1 - d ∧ ig_kp c cnt d j)
      rw [← ei]
      by_cases e : j = i
      · subst e; rw [pk_us, ig_nb1]
        exact ⟨fun _ => Or.inl ⟨rfl, hr⟩, fun _ => by decide⟩
      · rw [pk_un e, hk' j hj]
        exact ⟨Or.inr, fun z => z.elim (fun y => (e y.1).elim) id⟩
theorem ig_x_trim7 {post : SX → Prop} {c : ig_C} {cnt : Nat} (tx : ig_XT c f_n f_atoms a_arities a_starts a_lengths a_parts) (g : ig_Gd c cnt) (hcnt : f_count = nI cnt) (hD : ig_DL f_size a_closure a_known)
    (K : ∀ rf' kp' sz' t' f' clo' pm' nm' ch' kn' dc' sT' sF' gr', ig_DL sz' clo' kn' → (∀ k, k < ig_cn (ig_kp c cnt (ig_sw c cnt)) (ig_sw c cnt) → rf' k = nI (ig_pk c (ig_ce (ig_kp c cnt (ig_sw c cnt)) (ig_en c cnt) (ig_sw c cnt) k))) →
      post (f_n, f_verdict, f_preds, f_atoms, f_count, nI (ig_cn (ig_kp c cnt (ig_sw c cnt)) (ig_sw c cnt)), sz', t', f', a_arities, a_starts, a_atomPred, a_atomFirst, a_atomSecond, a_lengths, a_parts, a_model, rf', kp', clo', pm', nm', ch', kn', dc', sT', sF', gr')) :
    ∀ d s, s + d = cnt → ∀ a_ref a_kept : Nat → Int32, (∀ i, i < ig_sw c s → a_ref i = nI (ig_pk c (ig_en c cnt i)) ∧ a_kept i = 1) → wX_trim_7 post (d + 1) (nI s) f_n f_verdict f_preds f_atoms f_count (nI (ig_sw c s)) f_size f_trueMask f_falseMask a_arities a_starts a_atomPred a_atomFirst a_atomSecond a_lengths a_parts a_model a_ref a_kept a_closure a_posMask a_negMask a_chosen a_known a_decided a_savedTrue a_savedFalse a_group := by
  have h48 := g.2.2.2.2
  have h12 := g.2.1
  subst hcnt
  intro d
  induction d with
  | zero =>
    intro s hs a_ref a_kept h
    have e : s = cnt := by omega
    subst e
    rw [wX_trim_7]
    dsimp only
    refine br_t (nI_le (Nat.le_refl _) (by omega)) (nm_e ⟨ig_sw c s + 1, ig_x_trim33 tx g (fun j hj => (h j hj).1) K (ig_sw c s) 0 (by omega) _ _ _ _ _ _ _ _ _ _ _ _ _ hD fun j hj => ?_⟩)
    rw [(h j hj).2]
    exact ⟨fun _ => True.intro, fun _ => by decide⟩
  | succ d ih =>
    intro s hs a_ref a_kept h
    rw [wX_trim_7]
    dsimp only
    refine br_f (nI_ge (by omega) (by omega)) (ig_x_lg tx g (by omega) rfl h ?_)
    intro rf' kp' h'
    dsimp only
    exact nm_r (nI_1 s) (ih (s + 1) (by omega) rf' kp' h')
theorem ig_x_trim {post : SX → Prop} {c : ig_C} {cnt : Nat} (tx : ig_XT c f_n f_atoms a_arities a_starts a_lengths a_parts) (g : ig_Gd c cnt) (hcnt : f_count = nI cnt) (hD : ig_DL f_size a_closure a_known)
    (K : ∀ rf' kp' sz' t' f' clo' pm' nm' ch' kn' dc' sT' sF' gr', ig_DL sz' clo' kn' → (∀ k, k < ig_cn (ig_kp c cnt (ig_sw c cnt)) (ig_sw c cnt) → rf' k = nI (ig_pk c (ig_ce (ig_kp c cnt (ig_sw c cnt)) (ig_en c cnt) (ig_sw c cnt) k))) →
      post (f_n, f_verdict, f_preds, f_atoms, f_count, nI (ig_cn (ig_kp c cnt (ig_sw c cnt)) (ig_sw c cnt)), sz', t', f', a_arities, a_starts, a_atomPred, a_atomFirst, a_atomSecond, a_lengths, a_parts, a_model, rf', kp', clo', pm', nm', ch', kn', dc', sT', sF', gr')) : wpX_trim post (f_n, f_verdict, f_preds, f_atoms, f_count, f_refs, f_size, f_trueMask, f_falseMask, a_arities, a_starts, a_atomPred, a_atomFirst, a_atomSecond, a_lengths, a_parts, a_model, a_ref, a_kept, a_closure, a_posMask, a_negMask, a_chosen, a_known, a_decided, a_savedTrue, a_savedFalse, a_group) := by
  unfold wpX_trim
  dsimp only
  exact ⟨cnt + 1, ig_x_trim7 tx g hcnt hD K cnt 0 (by omega) _ _ (fun i hi => by unfold ig_sw at hi; omega)⟩
end
end
section
/-! the reference's small methods -/
section
variable {fy_n fy_predicates fy_atoms fy_closed fy_count fy_size fy_verdict fy_model : Int32} {ay_arities ay_first ay_lengths ay_data ay_instances ay_kept ay_refuters : Nat → Int32}
def ig_YT (c : ig_C) (cnt : Nat) (fy_n fy_atoms fy_closed : Int32) (ay_arities ay_first ay_lengths ay_data : Nat → Int32) : Prop :=
  fy_n = nI (ig_n c) ∧ fy_atoms = nI (ig_a c) ∧ fy_closed = nI cnt ∧ (∀ k, k < ig_q c → ay_arities k = nI (ig_ar c k) ∧ ay_first k = nI (ig_st c k)) ∧
  (∀ s, s < 13 → ay_lengths s = nI (ig_L c s) ∧ ig_L c s ≤ 4) ∧ (∀ k, k < 208 → ay_data k = nI (ig_P c k) ∧ ig_P c k < 16)
theorem ig_y_value {post : Int32 → Prop} {pa : Int32} {e : Nat} (he : e < 2 ^ 31) (h : ∀ x, (∀ a, a ≤ 6 → pa = nI a → x = nI (ig_gv (ig_va e) a)) → post x) : wpY_value post (fy_n, fy_predicates, fy_atoms, fy_closed, fy_count, fy_size, fy_verdict, fy_model, ay_arities, ay_first, ay_lengths, ay_data, ay_instances, ay_kept, ay_refuters) pa (nI e) := by
  unfold wpY_value
  dsimp only
  refine br_c (fun z => h _ fun a ha ea => ?_) (fun z => h _ fun a ha ea => ?_)
  · subst ea
    have a4 : 4 ≤ a := by
      have : (nI 4 ≤ nI a) := z
      rw [nI_leI (by omega) (by omega)] at this
      exact this
    rw [ig_gv_v a4]
    rcases (show a = 4 ∨ a = 5 ∨ a = 6 by omega) with q | q | q <;> subst q
    · rw [pk_shrN he _ 4 (by decide), pk_andN (by omega) 2 (by decide)]; rfl
    · rw [pk_shrN he _ 2 (by decide), pk_andN (by omega) 2 (by decide)]; rfl
    · rw [pk_shrN he _ 0 (by decide), pk_andN (by omega) 2 (by decide), Nat.pow_zero, Nat.div_one]; rfl
  · subst ea
    have a4 : a < 4 := by
      rcases Nat.lt_or_ge a 4 with q | q
      · exact q
      · exact (z (nI_le (a := 4) q (by omega))).elim
    rw [ig_gv_c a4]
theorem ig_y_lt {post : Int32 → Prop} {c : ig_C} {cnt : Nat} (ty : ig_YT c cnt fy_n fy_atoms fy_closed ay_arities ay_first ay_lengths ay_data) (w : ig_WF c) {m sg q a b e : Nat} {pa pb : Int32} (hm : m < 2 ^ 31) (hsg : sg ≤ 1) (hq : q < ig_q c) (he : e < 2 ^ 31)
    (ha : 1 ≤ ig_ar c q → pa = nI a ∧ a ≤ 6) (hb : 2 ≤ ig_ar c q → pb = nI b ∧ b ≤ 6) (hA : ig_ao c q (ig_gv (ig_va e) a) (ig_gv (ig_va e) b) < ig_a c)
    (K : ∀ r, ((r = 1 ∧ (ig_M (ig_a c) m (ig_ao c q (ig_gv (ig_va e) a) (ig_gv (ig_va e) b)) = true ↔ sg = 1)) ∨ (r = 0 ∧ ¬ (ig_M (ig_a c) m (ig_ao c q (ig_gv (ig_va e) a) (ig_gv (ig_va e) b)) = true ↔ sg = 1))) → post r) :
    wpY_literalTrue post (fy_n, fy_predicates, fy_atoms, fy_closed, fy_count, fy_size, fy_verdict, fy_model, ay_arities, ay_first, ay_lengths, ay_data, ay_instances, ay_kept, ay_refuters) (nI m) (nI sg) (nI q) pa pb (nI e) := by
  have hA10 := w.2.2.1
  have q10 := ig_q10 w hq
  have iq : vp_in (nI q) 10 := vp_in_nI q10 (by omega)
  have r2 := (w.2.2.2.2.1 q hq).1
  have fin : ∀ z0 z1 : Int32, z1 + z0 = nI (ig_ao c q (ig_gv (ig_va e) a) (ig_gv (ig_va e) b)) → wY_literalTrue_65 post (nI m) (nI sg) z0 z1 fy_n fy_predicates fy_atoms fy_closed fy_count fy_size fy_verdict fy_model ay_arities ay_first ay_lengths ay_data ay_instances ay_kept ay_refuters := by
    intro z0 z1 hz
    unfold wY_literalTrue_65
    refine nm_r hz ?_
    have e1 : fy_atoms - 1 - nI (ig_ao c q (ig_gv (ig_va e) a) (ig_gv (ig_va e) b)) = nI (ig_a c - 1 - ig_ao c q (ig_gv (ig_va e) a) (ig_gv (ig_va e) b)) := by
      rw [ty.2.1]
      have e0 : nI (ig_a c) - 1 = nI (ig_a c - 1) := pk_sub (b := 1) (by omega)
      rw [e0, pk_sub (by omega)]
    rw [e1, pk_shrN hm _ (ig_a c - 1 - ig_ao c q (ig_gv (ig_va e) a) (ig_gv (ig_va e) b)) (s_l _ (by omega))]
    have hd : m / 2 ^ (ig_a c - 1 - ig_ao c q (ig_gv (ig_va e) a) (ig_gv (ig_va e) b)) < 2 ^ 32 := Nat.lt_of_le_of_lt (Nat.div_le_self _ _) (by omega)
    rw [pk_andN hd 1 (by decide)]
    have hMt := ig_M_t (A := ig_a c) (m := m) (k := ig_ao c q (ig_gv (ig_va e) a) (ig_gv (ig_va e) b))
    generalize m / 2 ^ (ig_a c - 1 - ig_ao c q (ig_gv (ig_va e) a) (ig_gv (ig_va e) b)) = d at *
    rw [hMt] at K
    refine pk_eq (d % 2 ^ 1) sg (fun z => K 1 (Or.inl ⟨rfl, ?_⟩)) (fun z => K 0 (Or.inr ⟨rfl, ?_⟩))
    · rw [Nat.pow_one] at z; omega
    · rw [Nat.pow_one] at z; omega
  unfold wpY_literalTrue
  dsimp only
  refine ig_y_value he fun x hx => ig_y_value he fun y hy => ⟨iq, iq, ?_⟩
  rw [nI_clamp (show q < 2 ^ 31 by omega), (ty.2.2.2.1 q hq).1, (ty.2.2.2.1 q hq).2, ty.1]
  rw [ty.1] at fin
  unfold ig_ao at fin
  refine pk_eq (ig_ar c q) 2 (fun z => fin _ _ ?_) (fun z => ⟨iq, pk_eq (ig_ar c q) 1 (fun z' => fin _ _ ?_) (fun z' => fin _ _ ?_)⟩)
  · rw [if_neg (by omega), if_neg (by omega), hx a (ha (by omega)).2 (ha (by omega)).1, hy b (hb (by omega)).2 (hb (by omega)).1, pk_mul, nI_add, nI_add, Nat.add_assoc]
  · rw [if_neg (by omega), if_pos z', hx a (ha (by omega)).2 (ha (by omega)).1, nI_add]
  · rw [if_pos (by omega)]
    exact nI_add _ 0
theorem ig_y_occurs {post : Int32 → Prop} {c : ig_C} {cnt : Nat} (ty : ig_YT c cnt fy_n fy_atoms fy_closed ay_arities ay_first ay_lengths ay_data) {s v : Nat} (hs : s < 13) (hv : v < 2 ^ 31)
    (K : ∀ r, ((r = 1 ∧ ig_ob c s v = true) ∨ (r = 0 ∧ ig_ob c s v = false)) → post r) : wpY_occurs post (fy_n, fy_predicates, fy_atoms, fy_closed, fy_count, fy_size, fy_verdict, fy_model, ay_arities, ay_first, ay_lengths, ay_data, ay_instances, ay_kept, ay_refuters) (nI s) (nI v) := by
  have hin : vp_in (nI s) 13 := vp_in_nI hs (by omega)
  have el := (ty.2.2.2.2.1 s hs).1
  have h4 := (ty.2.2.2.2.1 s hs).2
  have L : ∀ d q, q + d = ig_L c s → (∀ r, r < q → ¬ (ig_P c (s * 16 + r * 4 + 2) = v ∨ ig_P c (s * 16 + r * 4 + 3) = v)) → wY_occurs_5 post (nI s) (nI v) fy_n fy_predicates fy_atoms fy_closed fy_count fy_size fy_verdict fy_model ay_arities ay_first ay_lengths ay_data ay_instances ay_kept ay_refuters (d + 1) (nI (s * 16 + q * 4)) := by
    intro d
    induction d with
    | zero =>
      intro q hq h
      have e : q = ig_L c s := by omega
      subst e
      rw [wY_occurs_5]
      dsimp only
      have eb : nI s * 16 + nI (ig_L c s) * 4 = nI (s * 16 + ig_L c s * 4) := by
        show nI s * nI 16 + nI (ig_L c s) * nI 4 = _
        rw [pk_mul, pk_mul, nI_add]
      rw [nI_clamp (show s < 2 ^ 31 by omega), el, eb]
      refine ⟨hin, br_t (nI_le (Nat.le_refl _) (by omega)) (K 0 (Or.inr ⟨rfl, ?_⟩))⟩
      rw [Bool.eq_false_iff]
      intro z
      obtain ⟨r, hr, e⟩ := (ig_ob_iff c s v).mp z
      exact h r hr e
    | succ d ih =>
      intro q hq h
      rw [wY_occurs_5]
      dsimp only
      have eb : nI s * 16 + nI (ig_L c s) * 4 = nI (s * 16 + ig_L c s * 4) := by
        show nI s * nI 16 + nI (ig_L c s) * nI 4 = _
        rw [pk_mul, pk_mul, nI_add]
      have e2 : nI (s * 16 + q * 4) + 2 = nI (s * 16 + q * 4 + 2) := nI_add _ 2
      have e3 : nI (s * 16 + q * 4) + 3 = nI (s * 16 + q * 4 + 3) := nI_add _ 3
      have e4 : nI (s * 16 + q * 4) + 4 = nI (s * 16 + (q + 1) * 4) := by
        have : s * 16 + (q + 1) * 4 = s * 16 + q * 4 + 4 := by omega
        rw [this]; exact nI_add _ 4
      have t2 := ty.2.2.2.2.2 (s * 16 + q * 4 + 2) (by omega)
      have t3 := ty.2.2.2.2.2 (s * 16 + q * 4 + 3) (by omega)
      rw [nI_clamp (show s < 2 ^ 31 by omega), el, eb, e2, e3, e4, nI_clamp (show s * 16 + q * 4 + 2 < 2 ^ 31 by omega), nI_clamp (show s * 16 + q * 4 + 3 < 2 ^ 31 by omega), t2.1, t3.1]
      refine ⟨hin, br_f (nI_ge (by omega) (by omega)) ⟨vp_in_nI (by omega) (by omega), pk_eq (ig_P c (s * 16 + q * 4 + 2)) v (fun z => K 1 (Or.inl ⟨rfl, (ig_ob_iff c s v).mpr ⟨q, by omega, Or.inl z⟩⟩)) (fun z => ⟨vp_in_nI (by omega) (by omega), pk_eq (ig_P c (s * 16 + q * 4 + 3)) v (fun z' => K 1 (Or.inl ⟨rfl, (ig_ob_iff c s v).mpr ⟨q, by omega, Or.inr z'⟩⟩)) (fun z' => nm_e (ih (q + 1) (by omega) fun r hr => ?_))⟩)⟩⟩
      rcases (show r < q ∨ r = q by omega) with y | y
      · exact h r y
      · subst y; exact fun o => o.elim z z'
  unfold wpY_occurs
  dsimp only
  refine nm_r (e' := nI (s * 16 + 0 * 4)) ?_ ⟨ig_L c s + 1, L (ig_L c s) 0 (by omega) (fun r hr => by omega)⟩
  show nI s * nI 16 = _
  rw [pk_mul, Nat.zero_mul, Nat.add_zero]
theorem ig_y_isInst {post : Int32 → Prop} {c : ig_C} {cnt : Nat} (ty : ig_YT c cnt fy_n fy_atoms fy_closed ay_arities ay_first ay_lengths ay_data) (w : ig_WF c) {s d : Nat} (hs : s < 13) (hd : d < 64)
    (K : ∀ r, ((r = 1 ∧ ig_ic (ig_n c) (ig_ob c s 4) (ig_ob c s 5) (ig_ob c s 6) d = true) ∨ (r = 0 ∧ ig_ic (ig_n c) (ig_ob c s 4) (ig_ob c s 5) (ig_ob c s 6) d = false)) → post r) : wpY_isInstance post (fy_n, fy_predicates, fy_atoms, fy_closed, fy_count, fy_size, fy_verdict, fy_model, ay_arities, ay_first, ay_lengths, ay_data, ay_instances, ay_kept, ay_refuters) (nI s) (nI d) := by
  have iff := ig_ic_iff (n := ig_n c) (o4 := ig_ob c s 4) (o5 := ig_ob c s 5) (o6 := ig_ob c s 6) hd
  have hn := w.2.1
  have bad : ∀ v, 4 ≤ v → v ≤ 6 → (ig_n c ≤ ig_va d v ∨ (0 < ig_va d v ∧ ig_ob c s v = false)) → post 0 := by
    intro v v4 v6 h
    refine K 0 (Or.inr ⟨rfl, ?_⟩)
    rw [Bool.eq_false_iff]
    intro z
    obtain ⟨a, b, e, f, g, i⟩ := iff.mp z
    rcases (show v = 4 ∨ v = 5 ∨ v = 6 by omega) with q | q | q <;> subst q <;> rcases h with h | ⟨h, h'⟩ <;> (try omega) <;> (first | rw [h'] at f | rw [h'] at g | rw [h'] at i) <;> simp at * <;> omega
  have vlt : ∀ v, 4 ≤ v → v ≤ 6 → ig_va d v < 4 := ig_v3 (show d / 16 % 4 < 4 by omega) (show d / 4 % 4 < 4 by omega) (show d % 4 < 4 by omega)
  have step : ∀ n v, 4 ≤ v → v ≤ 6 → ((ig_va d v < ig_n c ∧ (ig_ob c s v = true ∨ ig_va d v = 0)) → wY_isInstance_2 post (nI s) (nI d) fy_n fy_predicates fy_atoms fy_closed fy_count fy_size fy_verdict fy_model ay_arities ay_first ay_lengths ay_data ay_instances ay_kept ay_refuters n (nI (v + 1))) → wY_isInstance_2 post (nI s) (nI d) fy_n fy_predicates fy_atoms fy_closed fy_count fy_size fy_verdict fy_model ay_arities ay_first ay_lengths ay_data ay_instances ay_kept ay_refuters (n + 1) (nI v) := by
    intro n v v4 v6 h
    have b4 := vlt v v4 v6
    rw [wY_isInstance_2]
    dsimp only
    refine br_f (nI_nlt (a := 6) v6 (by omega)) (ig_y_value (by omega) fun x hx => ?_)
    have ex := hx v v6 rfl
    rw [ig_gv_v v4] at ex
    subst ex
    rw [ty.1]
    refine pk_le (ig_n c) (ig_va d v) (fun z => bad v v4 v6 (Or.inl z)) (fun z => ?_)
    refine ig_y_value (by omega) fun x hx => ?_
    have ex := hx v v6 rfl
    rw [ig_gv_v v4] at ex
    subst ex
    refine pk_le (ig_va d v) 0 (fun z' => nm_r (nI_1 v) ?_) (fun z' => ?_)
    · have := h ⟨z, Or.inr (by omega)⟩
      rw [ty.1] at this
      exact this
    · have ty' := ty
      rw [ty.1] at ty'
      refine ig_y_occurs ty' hs (by omega) fun r hr => ?_
      rcases hr with ⟨rfl, hr⟩ | ⟨rfl, hr⟩
      · have := h ⟨z, Or.inl hr⟩
        rw [ty.1] at this
        exact br_f (by decide) (nm_r (nI_1 v) this)
      · exact br_t rfl (bad v v4 v6 (Or.inr ⟨z', hr⟩))
  unfold wpY_isInstance
  dsimp only
  refine ⟨4, step 3 4 (by omega) (by omega) fun h4 => step 2 5 (by omega) (by omega) fun h5 => step 1 6 (by omega) (by omega) fun h6 => ?_⟩
  rw [wY_isInstance_2]
  dsimp only
  exact br_t (by decide) (K 1 (Or.inl ⟨rfl, iff.mpr ⟨h4.1, h5.1, h6.1, h4.2, h5.2, h6.2⟩⟩))
end
end
section
/-! the reference's search over all assignments -/
/-- the instances as listed -/
def ig_YI (c : ig_C) (cnt : Nat) (fy_count : Int32) (ay_instances : Nat → Int32) : Prop := fy_count = nI (ig_sw c cnt) ∧ ∀ i, i < ig_sw c cnt → ay_instances i = nI (ig_en c cnt i)
def ig_Sm (c : ig_C) (cnt m : Nat) (kp : Nat → Prop) : Prop := ∀ i, i < ig_sw c cnt → kp i → ig_CT c (ig_M (ig_a c) m) (ig_en c cnt i / 64) (ig_va (ig_en c cnt i % 64))
section
variable {fy_n fy_predicates fy_atoms fy_closed fy_count fy_size fy_verdict fy_model : Int32} {ay_arities ay_first ay_lengths ay_data ay_instances ay_kept ay_refuters : Nat → Int32}
theorem ig_y_sat48 {post : Int32 → Prop} {J : Int32 → Prop} {x2 : Int32} {c : ig_C} {cnt : Nat} (ty : ig_YT c cnt fy_n fy_atoms fy_closed ay_arities ay_first ay_lengths ay_data) (yi : ig_YI c cnt fy_count ay_instances) (g : ig_Gd c cnt) {m i : Nat} (hm : m < 2 ^ 31) (hi : i < ig_sw c cnt)
    (K1 : ig_CT c (ig_M (ig_a c) m) (ig_en c cnt i / 64) (ig_va (ig_en c cnt i % 64)) → J (nI (i + 1))) (K0 : ¬ ig_CT c (ig_M (ig_a c) m) (ig_en c cnt i / 64) (ig_va (ig_en c cnt i % 64)) → post 0) :
    ∀ d q, q + d = ig_L c (ig_en c cnt i / 64) → (∀ r, r < q → ¬ ig_LT c (ig_M (ig_a c) m) (ig_en c cnt i / 64 * 16 + r * 4) (ig_va (ig_en c cnt i % 64))) →
      wY_satisfies_48 post J (nI m) x2 (nI i) (nI (ig_en c cnt i / 64)) fy_n fy_predicates fy_atoms fy_closed fy_count fy_size fy_verdict fy_model ay_arities ay_first ay_lengths ay_data ay_instances ay_kept ay_refuters (d + 1) 0 (nI (ig_en c cnt i / 64 * 16 + q * 4)) := by
  have h48 := g.2.2.2.2
  have h12 := g.2.1
  have hn4 := g.1.2.1
  have mi := ig_fl_mem (ig_en_mem g.1 hi)
  have hs : ig_en c cnt i / 64 < 13 := by omega
  have hin : vp_in (nI (ig_en c cnt i / 64)) 13 := vp_in_nI hs (by omega)
  have el := (ty.2.2.2.2.1 _ hs).1
  have h4 := (ty.2.2.2.2.1 _ hs).2
  have hii : vp_in (nI i) 48 := vp_in_nI (by omega) (by omega)
  have hva := ig_va_n (ig_inr_mem mi.2).2
  have co := g.2.2.2.1 (ig_en c cnt i / 64) (by omega)
  have hee := yi.2 i hi
  have hmod : nI (ig_en c cnt i) &&& 63 = nI (ig_en c cnt i % 64) := pk_andN (by omega) 6 (by decide)
  have he64 : ig_en c cnt i % 64 < 2 ^ 31 := by omega
  generalize ig_en c cnt i / 64 = s at *
  generalize ig_en c cnt i % 64 = e at *
  have eb : nI s * 16 + nI (ig_L c s) * 4 = nI (s * 16 + ig_L c s * 4) := by
    show nI s * nI 16 + nI (ig_L c s) * nI 4 = _
    rw [pk_mul, pk_mul, nI_add]
  intro d
  induction d with
  | zero =>
    intro q hq h
    have eq : q = ig_L c s := by omega
    subst eq
    rw [wY_satisfies_48]
    dsimp only
    rw [nI_clamp (show s < 2 ^ 31 by omega), el, eb]
    refine ⟨hin, br_t (nI_le (Nat.le_refl _) (by omega)) ?_⟩
    unfold wY_satisfies_129
    refine br_t rfl (K0 ?_)
    rintro ⟨r, hr, l⟩
    exact h r hr l
  | succ d ih =>
    intro q hq h
    have lo := co.2 q (by omega)
    have t2 : ig_P c (s * 16 + q * 4 + 2) ≤ 6 := by rcases lo.2.2.1 with z | z <;> omega
    have t3 : ig_P c (s * 16 + q * 4 + 3) ≤ 6 := by rcases lo.2.2.2.1 with z | z <;> omega
    rw [wY_satisfies_48]
    dsimp only
    have e1 : nI (s * 16 + q * 4) + 1 = nI (s * 16 + q * 4 + 1) := nI_add _ 1
    have e2 : nI (s * 16 + q * 4) + 2 = nI (s * 16 + q * 4 + 2) := nI_add _ 2
    have e3 : nI (s * 16 + q * 4) + 3 = nI (s * 16 + q * 4 + 3) := nI_add _ 3
    have e4 : nI (s * 16 + q * 4) + 4 = nI (s * 16 + (q + 1) * 4) := by
      have : s * 16 + (q + 1) * 4 = s * 16 + q * 4 + 4 := by omega
      rw [this]; exact nI_add _ 4
    rw [nI_clamp (show s < 2 ^ 31 by omega), el, eb, e1, e2, e3, e4, nI_clamp (show s * 16 + q * 4 < 2 ^ 31 by omega), nI_clamp (show s * 16 + q * 4 + 1 < 2 ^ 31 by omega), nI_clamp (show s * 16 + q * 4 + 2 < 2 ^ 31 by omega), nI_clamp (show s * 16 + q * 4 + 3 < 2 ^ 31 by omega), nI_clamp (show i < 2 ^ 31 by omega),
      (ty.2.2.2.2.2 (s * 16 + q * 4) (by omega)).1, (ty.2.2.2.2.2 (s * 16 + q * 4 + 1) (by omega)).1, (ty.2.2.2.2.2 (s * 16 + q * 4 + 2) (by omega)).1, (ty.2.2.2.2.2 (s * 16 + q * 4 + 3) (by omega)).1, hee, hmod]
    refine ⟨hin, br_f (nI_ge (by omega) (by omega)) (br_t rfl ⟨vp_in_nI (by omega) (by omega), vp_in_nI (by omega) (by omega), vp_in_nI (by omega) (by omega), vp_in_nI (by omega) (by omega), hii, ?_⟩)⟩
    refine ig_y_lt ty g.1 hm lo.1 lo.2.1 he64 (fun _ => ⟨rfl, t2⟩) (fun _ => ⟨rfl, t3⟩) (ig_lit_a g.1 lo hva) ?_
    intro r hr
    refine nm_e ?_
    rcases hr with ⟨rfl, hr⟩ | ⟨rfl, hr⟩
    · have ct : ig_CT c (ig_M (ig_a c) m) s (ig_va e) := ⟨q, by omega, hr⟩
      obtain ⟨d', hd'⟩ : ∃ d', d + 1 = d' + 1 := ⟨d, rfl⟩
      rw [wY_satisfies_48]
      dsimp only
      rw [nI_clamp (show s < 2 ^ 31 by omega), el, eb]
      have done : wY_satisfies_129 post J (nI m) x2 (nI i) 1 fy_n fy_predicates fy_atoms fy_closed fy_count fy_size fy_verdict fy_model ay_arities ay_first ay_lengths ay_data ay_instances ay_kept ay_refuters := by
        unfold wY_satisfies_129
        exact br_f (by decide) (nm_r (nI_1 i) (K1 ct))
      exact ⟨hin, br_c (fun _ => done) (fun _ => br_f (by decide) done)⟩
    · refine ih (q + 1) (by omega) fun r hr' => ?_
      rcases (show r < q ∨ r = q by omega) with y | y
      · exact h r y
      · subst y; exact hr
theorem ig_y_satisfies {post : Int32 → Prop} {c : ig_C} {cnt : Nat} {kp : Nat → Prop} {wh : Int32} (ty : ig_YT c cnt fy_n fy_atoms fy_closed ay_arities ay_first ay_lengths ay_data) (yi : ig_YI c cnt fy_count ay_instances) (g : ig_Gd c cnt) {m : Nat} (hm : m < 2 ^ 31)
    (hkp : ∀ i, i < ig_sw c cnt → (kp i ↔ (wh ≠ 0 ∨ ay_kept i ≠ 0)))
    (K : ∀ r, ((r = 1 ∧ ig_Sm c cnt m kp) ∨ (r = 0 ∧ ¬ ig_Sm c cnt m kp)) → post r) : wpY_satisfies post (fy_n, fy_predicates, fy_atoms, fy_closed, fy_count, fy_size, fy_verdict, fy_model, ay_arities, ay_first, ay_lengths, ay_data, ay_instances, ay_kept, ay_refuters) (nI m) wh := by
  have h48 := g.2.2.2.2
  have h12 := g.2.1
  have L : ∀ d i, i + d = ig_sw c cnt → (∀ j, j < i → kp j → ig_CT c (ig_M (ig_a c) m) (ig_en c cnt j / 64) (ig_va (ig_en c cnt j % 64))) → wY_satisfies_2 post (nI m) wh fy_n fy_predicates fy_atoms fy_closed fy_count fy_size fy_verdict fy_model ay_arities ay_first ay_lengths ay_data ay_instances ay_kept ay_refuters (d + 1) (nI i) := by
    intro d
    induction d with
    | zero =>
      intro i hi h
      have e : i = ig_sw c cnt := by omega
      subst e
      rw [wY_satisfies_2]
      dsimp only
      rw [yi.1]
      exact br_t (nI_le (Nat.le_refl _) (by omega)) (K 1 (Or.inl ⟨rfl, h⟩))
    | succ d ih =>
      intro i hi h
      have hE : i < ig_sw c cnt := by omega
      have hii : vp_in (nI i) 48 := vp_in_nI (by omega) (by omega)
      have mi := ig_fl_mem (ig_en_mem g.1 hE)
      have nx : (kp i → ig_CT c (ig_M (ig_a c) m) (ig_en c cnt i / 64) (ig_va (ig_en c cnt i % 64))) → wY_satisfies_2 post (nI m) wh fy_n fy_predicates fy_atoms fy_closed fy_count fy_size fy_verdict fy_model ay_arities ay_first ay_lengths ay_data ay_instances ay_kept ay_refuters (d + 1) (nI (i + 1)) := by
        intro hc
        refine ih (i + 1) (by omega) fun j hj hk => ?_
        rcases (show j < i ∨ j = i by omega) with y | y
        · exact h j y hk
        · subst y; exact hc hk
      have test : kp i → ∃ n48, wY_satisfies_48 post (wY_satisfies_2 post (nI m) wh fy_n fy_predicates fy_atoms fy_closed fy_count fy_size fy_verdict fy_model ay_arities ay_first ay_lengths ay_data ay_instances ay_kept ay_refuters (d + 1)) (nI m) wh (nI i) (nI (ig_en c cnt i / 64)) fy_n fy_predicates fy_atoms fy_closed fy_count fy_size fy_verdict fy_model ay_arities ay_first ay_lengths ay_data ay_instances ay_kept ay_refuters n48 0 (nI (ig_en c cnt i / 64 * 16)) := by
        intro hk
        refine ⟨ig_L c (ig_en c cnt i / 64) + 1, ?_⟩
        have := ig_y_sat48 (post := post) (J := wY_satisfies_2 post (nI m) wh fy_n fy_predicates fy_atoms fy_closed fy_count fy_size fy_verdict fy_model ay_arities ay_first ay_lengths ay_data ay_instances ay_kept ay_refuters (d + 1)) (x2 := wh) (fy_size := fy_size) (fy_verdict := fy_verdict) (fy_model := fy_model) (fy_predicates := fy_predicates) (ay_kept := ay_kept) (ay_refuters := ay_refuters) ty yi g hm hE (fun hc => nx (fun _ => hc)) (fun hc => K 0 (Or.inr ⟨rfl, fun hs => hc (hs i hE hk)⟩)) (ig_L c (ig_en c cnt i / 64)) 0 (by omega) (fun r hr => by omega)
        rw [Nat.zero_mul, Nat.add_zero] at this
        exact this
      rw [wY_satisfies_2]
      dsimp only
      have ed : nI (ig_en c cnt i) >>> ((6 : Int32) &&& 31) = nI (ig_en c cnt i / 64) := pk_shrN (by omega) _ 6 (by decide)
      have em : nI (ig_en c cnt i / 64) * 16 = nI (ig_en c cnt i / 64 * 16) := pk_mul _ 16
      rw [nI_clamp (show i < 2 ^ 31 by omega), yi.2 i hE, ed]
      refine br_f (by rw [yi.1]; exact nI_ge (by omega) (by omega)) ⟨hii, nm_e (br_c (fun z => ⟨hii, br_c (fun z' => nm_r em ?_) (fun z' => nm_r em (test ((hkp i hE).mpr (Or.inr z'))))⟩) (fun z => nm_r em (test ((hkp i hE).mpr (Or.inl z)))))⟩
      have nk : ¬ kp i := fun q => ((hkp i hE).mp q).elim (fun y => y z) (fun y => y z')
      refine ⟨1, ?_⟩
      have hs : ig_en c cnt i / 64 < 13 := by omega
      have eb : nI (ig_en c cnt i / 64) * 16 + nI (ig_L c (ig_en c cnt i / 64)) * 4 = nI (ig_en c cnt i / 64 * 16 + ig_L c (ig_en c cnt i / 64) * 4) := by
        show nI _ * nI 16 + nI _ * nI 4 = _
        rw [pk_mul, pk_mul, nI_add]
      rw [wY_satisfies_48]
      dsimp only
      have done : wY_satisfies_129 post (wY_satisfies_2 post (nI m) wh fy_n fy_predicates fy_atoms fy_closed fy_count fy_size fy_verdict fy_model ay_arities ay_first ay_lengths ay_data ay_instances ay_kept ay_refuters (d + 1)) (nI m) wh (nI i) 1 fy_n fy_predicates fy_atoms fy_closed fy_count fy_size fy_verdict fy_model ay_arities ay_first ay_lengths ay_data ay_instances ay_kept ay_refuters := by
        unfold wY_satisfies_129
        exact br_f (by decide) (nm_r (nI_1 i) (nx (fun q => (nk q).elim)))
      exact ⟨vp_in_nI hs (by omega), br_c (fun _ => done) (fun _ => br_f (by decide) done)⟩
  unfold wpY_satisfies
  dsimp only
  exact ⟨ig_sw c cnt + 1, L (ig_sw c cnt) 0 (by omega) (fun j hj => by omega)⟩
theorem ig_shA : ∀ A, A < 11 → (1 : Int32) <<< (nI A &&& 31) = nI (2 ^ A) := by decide +kernel
theorem ig_2A {A : Nat} (h : A ≤ 10) : 2 ^ A ≤ 1024 := Nat.pow_le_pow_right (n := 2) (by omega) h
theorem ig_y_least {post : Int32 → Prop} {c : ig_C} {cnt : Nat} {kp : Nat → Prop} (ty : ig_YT c cnt fy_n fy_atoms fy_closed ay_arities ay_first ay_lengths ay_data) (yi : ig_YI c cnt fy_count ay_instances) (g : ig_Gd c cnt)
    (hkp : ∀ i, i < ig_sw c cnt → (kp i ↔ ay_kept i ≠ 0))
    (K1 : ∀ m, m < 2 ^ ig_a c → ig_Sm c cnt m kp → (∀ m', m' < m → ¬ ig_Sm c cnt m' kp) → post (nI m)) (K0 : (∀ m, m < 2 ^ ig_a c → ¬ ig_Sm c cnt m kp) → post (-1)) : wpY_leastModelOfKept post (fy_n, fy_predicates, fy_atoms, fy_closed, fy_count, fy_size, fy_verdict, fy_model, ay_arities, ay_first, ay_lengths, ay_data, ay_instances, ay_kept, ay_refuters) := by
  have hA := g.1.2.2.1
  have h2 := ig_2A hA
  have L : ∀ d m, m + d = 2 ^ ig_a c → (∀ m', m' < m → ¬ ig_Sm c cnt m' kp) → wY_leastModelOfKept_2 post fy_n fy_predicates fy_atoms fy_closed fy_count fy_size fy_verdict fy_model ay_arities ay_first ay_lengths ay_data ay_instances ay_kept ay_refuters (d + 1) (nI m) := by
    intro d
    induction d with
    | zero =>
      intro m hm h
      rw [wY_leastModelOfKept_2]
      dsimp only
      rw [ty.2.1, ig_shA _ (by omega)]
      exact br_t (nI_le (by omega) (by omega)) (K0 fun m' hm' => h m' (by omega))
    | succ d ih =>
      intro m hm h
      rw [wY_leastModelOfKept_2]
      dsimp only
      refine br_f (by rw [ty.2.1, ig_shA _ (by omega)]; exact nI_ge (by omega) (by omega)) ?_
      refine ig_y_satisfies (kp := kp) ty yi g (by omega) (fun i hi => (hkp i hi).trans ⟨Or.inr, fun z => z.elim (fun y => (y rfl).elim) id⟩) fun r hr => ?_
      rcases hr with ⟨rfl, hr⟩ | ⟨rfl, hr⟩
      · exact br_f (by decide) (K1 m (by omega) hr h)
      · refine br_t rfl (nm_r (nI_1 m) (ih (m + 1) (by omega) fun m' hm' => ?_))
        rcases (show m' < m ∨ m' = m by omega) with y | y
        · exact h m' y
        · subst y; exact hr
  unfold wpY_leastModelOfKept
  dsimp only
  exact ⟨2 ^ ig_a c + 1, L (2 ^ ig_a c) 0 (by omega) (fun m' hm' => by omega)⟩
end
/-- over numbers or over all assignments -/
theorem ig_Sm_KS {c : ig_C} {cnt : Nat} {kp : Nat → Prop} (g : ig_Gd c cnt) : ig_KS c cnt kp ↔ ∃ m, m < 2 ^ ig_a c ∧ ig_Sm c cnt m kp := by
  constructor
  · rintro ⟨M, hM⟩
    obtain ⟨m, hm, e⟩ := ig_M_ex (ig_a c) M
    refine ⟨m, hm, fun i hi hk => ?_⟩
    have mi := ig_fl_mem (ig_en_mem g.1 hi)
    refine ig_CT_M g.1 (g.2.2.2.1 _ (by omega)) (ig_va_n (ig_inr_mem mi.2).2) (fun k hk => ?_) (hM i hi hk)
    have := e k hk
    rw [← ig_M_t] at this
    exact (Bool.eq_iff_iff.mpr this).symm
  · rintro ⟨m, _, h⟩
    exact ⟨ig_M (ig_a c) m, h⟩
end
section
/-! the reference's solve, follows -/
section
variable {fy_n fy_predicates fy_atoms fy_closed fy_count fy_size fy_verdict fy_model : Int32} {ay_arities ay_first ay_lengths ay_data ay_instances ay_kept ay_refuters : Nat → Int32}
theorem ig_y_solve121 {post : Int32 → SY → Prop} {E : Nat} {kp : Nat → Prop} {en : Nat → Nat} (hE : E ≤ 48) (hkp : ∀ j, j < E → (ay_kept j ≠ 0 ↔ kp j)) (hen : ∀ j, j < E → ay_instances j = nI (en j))
    (K : ∀ rf', (∀ k, k < ig_cn kp E → rf' k = nI (ig_ce kp en E k)) → post fy_verdict (fy_n, fy_predicates, fy_atoms, fy_closed, nI E, nI (ig_cn kp E), fy_verdict, fy_model, ay_arities, ay_first, ay_lengths, ay_data, ay_instances, ay_kept, rf')) :
    ∀ d i, i + d = E → ∀ ay_refuters : Nat → Int32, (∀ k, k < ig_cn kp i → ay_refuters k = nI (ig_ce kp en i k)) →
    wY_solve_121 post fy_n fy_predicates fy_atoms fy_closed (nI E) fy_verdict fy_model (d + 1) (nI i) (nI (ig_cn kp i)) ay_arities ay_first ay_lengths ay_data ay_instances ay_kept ay_refuters := by
  intro d
  induction d with
  | zero =>
    intro i hi rf h1
    have e : i = E := by omega
    subst e
    rw [wY_solve_121]
    dsimp only
    exact br_t (nI_le (Nat.le_refl _) (by omega)) (K rf h1)
  | succ d ih =>
    intro i hi rf h1
    have hin : vp_in (nI i) 48 := vp_in_nI (by omega) (by omega)
    have le := ig_cn_le kp i
    rw [wY_solve_121]
    dsimp only
    rw [nI_clamp (show i < 2 ^ 31 by omega), nI_clamp (show ig_cn kp i < 2 ^ 31 by omega), hen i (by omega)]
    refine br_f (nI_ge (by omega) (by omega)) ⟨hin, br_c (fun z => nm_r (nI_1 i) ?_) (fun z => nm_r (nI_1 _) ⟨hin, vp_in_nI (by omega) (by omega), nm_e (nm_r (nI_1 i) ?_)⟩)⟩
    · have hn : ¬ kp i := fun q => (hkp i (by omega)).mpr q z
      have := ih (i + 1) (by omega) rf (by rw [ig_cn_f hn, ig_ce_f hn]; exact h1)
      rw [ig_cn_f hn] at this
      exact this
    · have hy : kp i := (hkp i (by omega)).mp z
      have := ih (i + 1) (by omega) (upd rf (ig_cn kp i) (nI (en i))) (fun k hk => ?_)
      · rw [ig_cn_t hy] at this
        exact this
      · rw [ig_cn_t hy] at hk
        rw [ig_ce_t hy]
        by_cases e : k = ig_cn kp i
        · rw [if_pos e, e, pk_us]
        · rw [if_neg e, pk_un e]; exact h1 k (by omega)
theorem ig_y_solve79 {post : Int32 → SY → Prop} {c : ig_C} {cnt : Nat} (ty : ig_YT c cnt fy_n fy_atoms fy_closed ay_arities ay_first ay_lengths ay_data) (yi : ig_YI c cnt fy_count ay_instances) (g : ig_Gd c cnt)
    (K : ∀ rf' kp', (∀ k, k < ig_cn (ig_kp c cnt (ig_sw c cnt)) (ig_sw c cnt) → rf' k = nI (ig_ce (ig_kp c cnt (ig_sw c cnt)) (ig_en c cnt) (ig_sw c cnt) k)) → post fy_verdict (fy_n, fy_predicates, fy_atoms, fy_closed, fy_count, nI (ig_cn (ig_kp c cnt (ig_sw c cnt)) (ig_sw c cnt)), fy_verdict, fy_model, ay_arities, ay_first, ay_lengths, ay_data, ay_instances, kp', rf')) :
    ∀ i d, i + d = ig_sw c cnt → ∀ ay_kept : Nat → Int32, (∀ j, j < ig_sw c cnt → (ay_kept j ≠ 0 ↔ ig_kp c cnt d j)) → wY_solve_79 post fy_n fy_predicates fy_atoms fy_closed fy_count fy_size fy_verdict fy_model (i + 1) (nI i - 1) ay_arities ay_first ay_lengths ay_data ay_instances ay_kept ay_refuters := by
  have h48 := g.2.2.2.2
  have h12 := g.2.1
  obtain ⟨yc, yi2⟩ := yi
  subst yc
  intro i
  induction i with
  | zero =>
    intro d hd kp hk
    have e : d = ig_sw c cnt := by omega
    subst e
    rw [wY_solve_79]
    dsimp only
    exact br_t (by decide) ⟨ig_sw c cnt + 1, ig_y_solve121 (kp := ig_kp c cnt (ig_sw c cnt)) (en := ig_en c cnt) h48 hk yi2 (fun rf' h => K rf' kp h) (ig_sw c cnt) 0 (by omega) _ (fun k hk => by unfold ig_cn at hk; omega)⟩
  | succ i ih =>
    intro d hd kp hk
    have ei : i = ig_sw c cnt - 1 - d := by omega
    have hin : vp_in (nI i) 48 := vp_in_nI (by omega) (by omega)
    rw [wY_solve_79, nI_pred]
    dsimp only
    rw [nI_clamp (show i < 2 ^ 31 by omega), ig_m1]
    refine br_f (nI_pos (by omega)) ⟨hin, nm_e ?_⟩
    have hk' : ∀ j, j < ig_sw c cnt → (upd kp i (vp_nar .boolean 0) j ≠ 0 ↔ (j ≠ i ∧ ig_kp c cnt d j)) := by
      intro j hj
      by_cases e : j = i
      · subst e; rw [pk_us, ig_nb0]
        exact ⟨fun z => (z rfl).elim, fun z => (z.1 rfl).elim⟩
      · rw [pk_un e]
        exact (hk j hj).trans ⟨fun z => ⟨e, z⟩, fun z => z.2⟩
    have hu : ∀ v, ∀ j, upd (upd kp i (vp_nar .boolean 0)) i v j = upd kp i v j := by
      intro v j
      by_cases e : j = i
      · subst e; rw [pk_us, pk_us]
      · rw [pk_un e, pk_un e, pk_un e]
    refine ig_y_least (kp := fun j => j ≠ i ∧ ig_kp c cnt d j) ty ⟨rfl, yi2⟩ g (fun j hj => (hk' j hj).symm) (fun m hm h1 _ => ?_) (fun h0 => ?_)
    · have ks : ig_KS c cnt (fun j => j ≠ i ∧ ig_kp c cnt d j) := (ig_Sm_KS g).mpr ⟨m, hm, h1⟩
      have m31 : m < 2 ^ 31 := by have := ig_2A g.1.2.2.1; omega
      refine br_f (nI_pos m31) ⟨hin, nm_e (nm_e ?_)⟩
      refine ih (d + 1) (by omega) _ fun j hj => ?_
      show _ ↔ (j = ig_sw c cnt - 1 - d ∧ ig_KS c cnt (fun l => l ≠ ig_sw c cnt - 1 - d ∧ ig_kp c cnt d l)) ∨ (j ≠ ig_sw c cnt - 1 - d ∧ ig_kp c cnt d j)
      rw [← ei]
      by_cases e : j = i
      · subst e; rw [pk_us, ig_nb1]
        exact ⟨fun _ => Or.inl ⟨rfl, ks⟩, fun _ => by decide⟩
      · rw [pk_un e, hk' j hj]
        exact ⟨Or.inr, fun z => z.elim (fun y => (e y.1).elim) id⟩
    · have ks : ¬ ig_KS c cnt (fun j => j ≠ i ∧ ig_kp c cnt d j) := fun z => by
        obtain ⟨m, hm, h⟩ := (ig_Sm_KS g).mp z
        exact h0 m hm h
      refine br_t (by decide) ⟨hin, nm_e (nm_e ?_)⟩
      refine ih (d + 1) (by omega) _ fun j hj => ?_
      rw [hu, hk' j hj]
      show _ ↔ (j = ig_sw c cnt - 1 - d ∧ ig_KS c cnt (fun l => l ≠ ig_sw c cnt - 1 - d ∧ ig_kp c cnt d l)) ∨ (j ≠ ig_sw c cnt - 1 - d ∧ ig_kp c cnt d j)
      rw [← ei]
      exact ⟨Or.inr, fun z => z.elim (fun y => (ks y.2).elim) id⟩
theorem ig_y_solve {post : Int32 → SY → Prop} {c : ig_C} {cnt : Nat} (ty : ig_YT c cnt fy_n fy_atoms fy_closed ay_arities ay_first ay_lengths ay_data) (yi : ig_YI c cnt fy_count ay_instances) (g : ig_Gd c cnt) (hv : fy_verdict = 0)
    (K1 : ∀ m kp', m < 2 ^ ig_a c → ig_Mo c cnt (ig_M (ig_a c) m) → (∀ m', m' < m → ¬ ig_Mo c cnt (ig_M (ig_a c) m')) → post 1 (fy_n, fy_predicates, fy_atoms, fy_closed, fy_count, fy_size, 1, nI m, ay_arities, ay_first, ay_lengths, ay_data, ay_instances, kp', ay_refuters))
    (K2 : ∀ rf' kp' md', (¬ ∃ M, ig_Mo c cnt M) → (∀ k, k < ig_cn (ig_kp c cnt (ig_sw c cnt)) (ig_sw c cnt) → rf' k = nI (ig_ce (ig_kp c cnt (ig_sw c cnt)) (ig_en c cnt) (ig_sw c cnt) k)) → post 2 (fy_n, fy_predicates, fy_atoms, fy_closed, fy_count, nI (ig_cn (ig_kp c cnt (ig_sw c cnt)) (ig_sw c cnt)), 2, md', ay_arities, ay_first, ay_lengths, ay_data, ay_instances, kp', rf')) : wpY_solve post (fy_n, fy_predicates, fy_atoms, fy_closed, fy_count, fy_size, fy_verdict, fy_model, ay_arities, ay_first, ay_lengths, ay_data, ay_instances, ay_kept, ay_refuters) := by
  have h48 := g.2.2.2.2
  have h12 := g.2.1
  have sm : ∀ m, ig_Sm c cnt m (fun _ => True) ↔ ig_Mo c cnt (ig_M (ig_a c) m) := fun m =>
    ⟨fun h => (ig_KS_Mo g _).mpr (fun i hi => h i hi True.intro), fun h i hi _ => (ig_KS_Mo g _).mp h i hi⟩
  have L : ∀ d i, i + d = ig_sw c cnt → ∀ ay_kept : Nat → Int32, (∀ j, j < i → ay_kept j ≠ 0) → wY_solve_14 post fy_n fy_predicates fy_atoms fy_closed fy_count fy_size fy_verdict fy_model (d + 1) (nI i) ay_arities ay_first ay_lengths ay_data ay_instances ay_kept ay_refuters := by
    intro d
    induction d with
    | zero =>
      intro i hi kp h
      have e : i = ig_sw c cnt := by omega
      subst e
      rw [wY_solve_14]
      dsimp only
      refine br_t (by rw [yi.1]; exact nI_le (Nat.le_refl _) (by omega)) ?_
      refine ig_y_least (kp := fun _ => True) ty yi g (fun j hj => ⟨fun _ => h j hj, fun _ => True.intro⟩) (fun m hm h1 h2 => ?_) (fun h0 => ?_)
      · have m31 : m < 2 ^ 31 := by have := ig_2A g.1.2.2.1; omega
        refine br_f (nI_pos m31) ?_
        unfold wY_solve_56
        exact br_t rfl (K1 m kp hm ((sm m).mp h1) (fun m' hm' z => h2 m' hm' ((sm m').mpr z)))
      · refine br_t (by decide) ?_
        unfold wY_solve_56
        refine br_f (by decide) (nm_r (e' := nI (ig_sw c cnt) - 1) (by rw [yi.1]) ⟨ig_sw c cnt + 1, ?_⟩)
        refine ig_y_solve79 ty yi g (fun rf' kp' hr => K2 rf' kp' _ ?_ hr) (ig_sw c cnt) 0 (by omega) _ (fun j hj => ⟨fun _ => True.intro, fun _ => h j hj⟩)
        rintro ⟨M, hM⟩
        have ks : ig_KS c cnt (fun _ => True) := ⟨M, fun i hi _ => (ig_KS_Mo g M).mp hM i hi⟩
        obtain ⟨m, hm, z⟩ := (ig_Sm_KS g).mp ks
        exact h0 m hm z
    | succ d ih =>
      intro i hi kp h
      have hin : vp_in (nI i) 48 := vp_in_nI (by omega) (by omega)
      rw [wY_solve_14]
      dsimp only
      rw [nI_clamp (show i < 2 ^ 31 by omega)]
      refine br_f (by rw [yi.1]; exact nI_ge (by omega) (by omega)) ⟨hin, nm_e (nm_r (nI_1 i) (ih (i + 1) (by omega) _ fun j hj => ?_))⟩
      by_cases e : j = i
      · subst e; rw [pk_us, ig_nb1]; decide
      · rw [pk_un e]; exact h j (by omega)
  unfold wpY_solve
  dsimp only
  exact br_t hv ⟨ig_sw c cnt + 1, L (ig_sw c cnt) 0 (by omega) _ (fun j hj => by omega)⟩
/-- a literal's ground atom under a code -/
theorem ig_y_follows41 {post : Int32 → Prop} {J : Int32 → Prop} {c : ig_C} {cnt : Nat} (ty : ig_YT c cnt fy_n fy_atoms fy_closed ay_arities ay_first ay_lengths ay_data) (g : ig_Gd c cnt) {m sg q a b : Nat} {pa pb : Int32} (hm : m < 2 ^ 31) (hsg : sg ≤ 1) (hq : q < ig_q c)
    (ha : 1 ≤ ig_ar c q → pa = nI a ∧ a ≤ 6) (hb : 2 ≤ ig_ar c q → pb = nI b ∧ b ≤ 6) (hA : ∀ e, e < 64 → ig_va e 4 < ig_n c → ig_va e 5 < ig_n c → ig_va e 6 < ig_n c → ig_ao c q (ig_gv (ig_va e) a) (ig_gv (ig_va e) b) < ig_a c)
    (K0 : ∀ e, e < 64 → ig_va e 4 < ig_n c → ig_va e 5 < ig_n c → ig_va e 6 < ig_n c → ¬ (ig_M (ig_a c) m (ig_ao c q (ig_gv (ig_va e) a) (ig_gv (ig_va e) b)) = true ↔ sg = 1) → post 0)
    (K1 : (∀ e, e < 64 → ig_va e 4 < ig_n c → ig_va e 5 < ig_n c → ig_va e 6 < ig_n c → (ig_M (ig_a c) m (ig_ao c q (ig_gv (ig_va e) a) (ig_gv (ig_va e) b)) = true ↔ sg = 1)) → J (nI (m + 1))) :
    ∀ d e, e + d = 64 → (∀ e', e' < e → ig_va e' 4 < ig_n c → ig_va e' 5 < ig_n c → ig_va e' 6 < ig_n c → (ig_M (ig_a c) m (ig_ao c q (ig_gv (ig_va e') a) (ig_gv (ig_va e') b)) = true ↔ sg = 1)) →
      wY_follows_41 post J (nI sg) (nI q) pa pb (nI m) fy_n fy_predicates fy_atoms fy_closed fy_count fy_size fy_verdict fy_model ay_arities ay_first ay_lengths ay_data ay_instances ay_kept ay_refuters (d + 1) (nI e) := by
  have hn := g.1.2.1
  have en := ty.1
  intro d
  induction d with
  | zero =>
    intro e he h
    have z : e = 64 := by omega
    subst z
    rw [wY_follows_41]
    dsimp only
    exact br_t (by decide) (nm_r (nI_1 m) (K1 h))
  | succ d ih =>
    intro e he h
    have nx : (ig_va e 4 < ig_n c → ig_va e 5 < ig_n c → ig_va e 6 < ig_n c → (ig_M (ig_a c) m (ig_ao c q (ig_gv (ig_va e) a) (ig_gv (ig_va e) b)) = true ↔ sg = 1)) → wY_follows_41 post J (nI sg) (nI q) pa pb (nI m) fy_n fy_predicates fy_atoms fy_closed fy_count fy_size fy_verdict fy_model ay_arities ay_first ay_lengths ay_data ay_instances ay_kept ay_refuters (d + 1) (nI (e + 1)) := by
      intro hc
      refine ih (e + 1) (by omega) fun e' he' => ?_
      rcases (show e' < e ∨ e' = e by omega) with y | y
      · exact h e' y
      · subst y; exact hc
    rw [wY_follows_41]
    dsimp only
    have e4 : nI e >>> ((4 : Int32) &&& 31) = nI (ig_va e 4) := by
      rw [pk_shrN (by omega) _ 4 (by decide)]
      have : e / 2 ^ 4 = e / 16 % 4 := by omega
      rw [this]; rfl
    have e5 : (nI e >>> ((2 : Int32) &&& 31)) &&& 3 = nI (ig_va e 5) := by
      rw [pk_shrN (by omega) _ 2 (by decide), pk_andN (by omega) 2 (by decide)]; rfl
    have e6 : nI e &&& 3 = nI (ig_va e 6) := by
      rw [pk_andN (by omega) 2 (by decide)]; rfl
    rw [e4, e5, e6]
    have l4 : ig_va e 4 < 4 := show e / 16 % 4 < 4 by omega
    have l5 : ig_va e 5 < 4 := show e / 4 % 4 < 4 by omega
    have l6 : ig_va e 6 < 4 := show e % 4 < 4 by omega
    refine br_f (nI_ge (b := 64) (by omega) (by omega)) (pk_le (ig_n c) (ig_va e 4) (fun z => nm_r (nI_1 e) (nx fun q1 => by omega)) (fun z4 => pk_le (ig_n c) (ig_va e 5) (fun z => nm_r (nI_1 e) (nx fun _ q1 => by omega)) (fun z5 => pk_le (ig_n c) (ig_va e 6) (fun z => nm_r (nI_1 e) (nx fun _ _ q1 => by omega)) (fun z6 => ?_) en) en) en)
    refine ig_y_lt ty g.1 hm hsg hq (by omega) ha hb (hA e (by omega) z4 z5 z6) fun r hr => ?_
    rcases hr with ⟨rfl, hr⟩ | ⟨rfl, hr⟩
    · exact br_f (by decide) (nm_r (nI_1 e) (nx fun _ _ _ => hr))
    · exact br_t rfl (K0 e (by omega) z4 z5 z6 hr)
theorem ig_y_follows17 {post : Int32 → Prop} {c : ig_C} {cnt : Nat} (ty : ig_YT c cnt fy_n fy_atoms fy_closed ay_arities ay_first ay_lengths ay_data) (yi : ig_YI c cnt fy_count ay_instances) (g : ig_Gd c cnt) {sg q a b : Nat} {pa pb : Int32} (hsg : sg ≤ 1) (hq : q < ig_q c)
    (ha : 1 ≤ ig_ar c q → pa = nI a ∧ a ≤ 6) (hb : 2 ≤ ig_ar c q → pb = nI b ∧ b ≤ 6) (hA : ∀ e, e < 64 → ig_va e 4 < ig_n c → ig_va e 5 < ig_n c → ig_va e 6 < ig_n c → ig_ao c q (ig_gv (ig_va e) a) (ig_gv (ig_va e) b) < ig_a c)
    (K0 : (∃ m, m < 2 ^ ig_a c ∧ ig_Mo c cnt (ig_M (ig_a c) m) ∧ ∃ e, e < 64 ∧ ig_va e 4 < ig_n c ∧ ig_va e 5 < ig_n c ∧ ig_va e 6 < ig_n c ∧ ¬ (ig_M (ig_a c) m (ig_ao c q (ig_gv (ig_va e) a) (ig_gv (ig_va e) b)) = true ↔ sg = 1)) → post 0)
    (K1 : (∀ m, m < 2 ^ ig_a c → ig_Mo c cnt (ig_M (ig_a c) m) → ∀ e, e < 64 → ig_va e 4 < ig_n c → ig_va e 5 < ig_n c → ig_va e 6 < ig_n c → (ig_M (ig_a c) m (ig_ao c q (ig_gv (ig_va e) a) (ig_gv (ig_va e) b)) = true ↔ sg = 1)) → post 1) :
    ∃ n17, wY_follows_17 post (nI sg) (nI q) pa pb fy_n fy_predicates fy_atoms fy_closed fy_count fy_size fy_verdict fy_model ay_arities ay_first ay_lengths ay_data ay_instances ay_kept ay_refuters n17 0 := by
  have hA10 := g.1.2.2.1
  have h2 := ig_2A hA10
  have sm : ∀ m, ig_Sm c cnt m (fun _ => True) ↔ ig_Mo c cnt (ig_M (ig_a c) m) := fun m =>
    ⟨fun h => (ig_KS_Mo g _).mpr (fun i hi => h i hi True.intro), fun h i hi _ => (ig_KS_Mo g _).mp h i hi⟩
  have L : ∀ d m, m + d = 2 ^ ig_a c → (∀ m', m' < m → ig_Mo c cnt (ig_M (ig_a c) m') → ∀ e, e < 64 → ig_va e 4 < ig_n c → ig_va e 5 < ig_n c → ig_va e 6 < ig_n c → (ig_M (ig_a c) m' (ig_ao c q (ig_gv (ig_va e) a) (ig_gv (ig_va e) b)) = true ↔ sg = 1)) →
      wY_follows_17 post (nI sg) (nI q) pa pb fy_n fy_predicates fy_atoms fy_closed fy_count fy_size fy_verdict fy_model ay_arities ay_first ay_lengths ay_data ay_instances ay_kept ay_refuters (d + 1) (nI m) := by
    intro d
    induction d with
    | zero =>
      intro m hm h
      rw [wY_follows_17]
      dsimp only
      refine br_t (by rw [ty.2.1, ig_shA _ (by omega)]; exact nI_le (by omega) (by omega)) (K1 fun m' hm' => h m' (by omega))
    | succ d ih =>
      intro m hm h
      rw [wY_follows_17]
      dsimp only
      refine br_f (by rw [ty.2.1, ig_shA _ (by omega)]; exact nI_ge (by omega) (by omega)) ?_
      refine ig_y_satisfies (kp := fun _ => True) ty yi g (by omega) (fun i hi => ⟨fun _ => Or.inl (by decide), fun _ => True.intro⟩) fun r hr => ?_
      rw [sm] at hr
      rcases hr with ⟨rfl, hr⟩ | ⟨rfl, hr⟩
      · refine br_f (by decide) ⟨64 + 1, ig_y_follows41 ty g (by omega) hsg hq ha hb hA (fun e a b d f h => K0 ⟨m, by omega, hr, e, a, b, d, f, h⟩) (fun hc => ?_) 64 0 (by omega) (fun e' he' => by omega)⟩
        refine ih (m + 1) (by omega) fun m' hm' => ?_
        rcases (show m' < m ∨ m' = m by omega) with y | y
        · exact h m' y
        · subst y; exact fun _ => hc
      · refine br_t rfl (nm_r (nI_1 m) (ih (m + 1) (by omega) fun m' hm' => ?_))
        rcases (show m' < m ∨ m' = m by omega) with y | y
        · exact h m' y
        · subst y; exact fun z => (hr z).elim
  exact ⟨2 ^ ig_a c + 1, L (2 ^ ig_a c) 0 (by omega) (fun m' hm' => by omega)⟩
end
end
section
/-! the reference's list of instances -/
def ig_pl (c : ig_C) (s k : Nat) : List Nat := (List.range k).filter (ig_ic (ig_n c) (ig_ob c s 4) (ig_ob c s 5) (ig_ob c s 6))
def ig_pf (c : ig_C) (s k : Nat) : List Nat := ig_fl c s ++ (ig_pl c s k).map (fun d => s * 64 + d)
theorem ig_pl_t {c : ig_C} {s k : Nat} (h : ig_ic (ig_n c) (ig_ob c s 4) (ig_ob c s 5) (ig_ob c s 6) k = true) : ig_pl c s (k + 1) = ig_pl c s k ++ [k] := by
  unfold ig_pl
  rw [List.range_succ, List.filter_append, List.filter_cons_of_pos h, List.filter_nil]
theorem ig_pl_f {c : ig_C} {s k : Nat} (h : ig_ic (ig_n c) (ig_ob c s 4) (ig_ob c s 5) (ig_ob c s 6) k = false) : ig_pl c s (k + 1) = ig_pl c s k := by
  unfold ig_pl
  rw [List.range_succ, List.filter_append, List.filter_cons_of_neg (by rw [h]; decide), List.filter_nil, List.append_nil]
theorem ig_pf_t {c : ig_C} {s k : Nat} (h : ig_ic (ig_n c) (ig_ob c s 4) (ig_ob c s 5) (ig_ob c s 6) k = true) : ig_pf c s (k + 1) = ig_pf c s k ++ [s * 64 + k] := by
  unfold ig_pf
  rw [ig_pl_t h, List.map_append, ← List.append_assoc]
  rfl
theorem ig_pf_f {c : ig_C} {s k : Nat} (h : ig_ic (ig_n c) (ig_ob c s 4) (ig_ob c s 5) (ig_ob c s 6) k = false) : ig_pf c s (k + 1) = ig_pf c s k := by
  unfold ig_pf
  rw [ig_pl_f h]
theorem ig_pf_0 (c : ig_C) (s : Nat) : ig_pf c s 0 = ig_fl c s := by
  unfold ig_pf ig_pl
  exact List.append_nil _
theorem ig_pf_64 (c : ig_C) (s : Nat) : ig_pf c s 64 = ig_fl c (s + 1) := rfl
theorem ig_pf_len {c : ig_C} {s : Nat} : ∀ d k, k + d = 64 → (ig_pf c s k).length ≤ (ig_fl c (s + 1)).length
  | 0, k, h => by
    have e : k = 64 := by omega
    subst e
    exact Nat.le_refl _
  | d + 1, k, h => by
    have ih := ig_pf_len (c := c) (s := s) d (k + 1) (by omega)
    cases e : ig_ic (ig_n c) (ig_ob c s 4) (ig_ob c s 5) (ig_ob c s 6) k
    · rw [ig_pf_f e] at ih; exact ih
    · rw [ig_pf_t e, List.length_append] at ih
      omega
def ig_HL (l : List Nat) (n : Int32) (ins : Nat → Int32) : Prop := n = nI l.length ∧ ∀ i, i < l.length → ins i = nI (l.getD i 0)
theorem ig_HL_a {l : List Nat} {n : Int32} {ins : Nat → Int32} {x : Nat} (h : ig_HL l n ins) : ig_HL (l ++ [x]) (n + 1) (upd ins l.length (nI x)) := by
  refine ⟨?_, fun i hi => ?_⟩
  · rw [h.1, nI_1, List.length_append]; rfl
  · rw [List.length_append] at hi
    by_cases e : i = l.length
    · rw [e, pk_us, ig_gd_r (Nat.le_refl _), Nat.sub_self]; rfl
    · have hi : i < l.length := by
        have : [x].length = 1 := rfl
        omega
      rw [pk_un e, ig_gd_l hi]; exact h.2 i hi
section
variable {fy_n fy_predicates fy_atoms fy_closed fy_count fy_size fy_verdict fy_model : Int32} {ay_arities ay_first ay_lengths ay_data ay_instances ay_kept ay_refuters : Nat → Int32}
theorem ig_y_cc {post : SY → Prop} {c : ig_C} {cnt : Nat} (ty : ig_YT c cnt fy_n fy_atoms fy_closed ay_arities ay_first ay_lengths ay_data) (g : ig_Gd c cnt)
    (K : ∀ ins', ig_YI c cnt (nI (ig_sw c cnt)) ins' → post (fy_n, fy_predicates, fy_atoms, fy_closed, nI (ig_sw c cnt), fy_size, 0, fy_model, ay_arities, ay_first, ay_lengths, ay_data, ins', ay_kept, ay_refuters)) : wpY_clausesChanged post (fy_n, fy_predicates, fy_atoms, fy_closed, fy_count, fy_size, fy_verdict, fy_model, ay_arities, ay_first, ay_lengths, ay_data, ay_instances, ay_kept, ay_refuters) := by
  have h48 := g.2.2.2.2
  have h12 := g.2.1
  have inner : ∀ (J : Int32 → Int32 → (Nat → Int32) → (Nat → Int32) → (Nat → Int32) → (Nat → Int32) → (Nat → Int32) → (Nat → Int32) → (Nat → Int32) → Prop) (s : Nat), s < cnt → (∀ n' ins', ig_HL (ig_fl c (s + 1)) n' ins' → J (nI (s + 1)) n' ay_arities ay_first ay_lengths ay_data ins' ay_kept ay_refuters) →
      ∀ d k, k + d = 64 → ∀ fy_count (ay_instances : Nat → Int32), ig_HL (ig_pf c s k) fy_count ay_instances → wY_clausesChanged_22 post J (nI s) fy_n fy_predicates fy_atoms fy_closed fy_size 0 fy_model (d + 1) (nI k) fy_count ay_arities ay_first ay_lengths ay_data ay_instances ay_kept ay_refuters := by
    intro J s hs KJ d
    have m1 := ig_sw_mono (c := c) (show s + 1 ≤ cnt by omega)
    have l1 := ig_fl_len g.1 (s + 1)
    induction d with
    | zero =>
      intro k hk n ins h
      have e : k = 64 := by omega
      subst e
      rw [wY_clausesChanged_22]
      dsimp only
      exact br_t (by decide) (nm_r (nI_1 s) (KJ n ins h))
    | succ d ih =>
      intro k hk n ins h
      have pl := ig_pf_len (c := c) (s := s) (d + 1) k hk
      have pl1 := ig_pf_len (c := c) (s := s) d (k + 1) (by omega)
      rw [wY_clausesChanged_22]
      dsimp only
      have hn := h.1
      refine br_f (nI_ge (b := 64) (by omega) (by omega)) (pk_le 48 (ig_pf c s k).length (fun z => ?_) (fun z => ?_) rfl hn)
      · have nf : ig_ic (ig_n c) (ig_ob c s 4) (ig_ob c s 5) (ig_ob c s 6) k = false := by
          rw [Bool.eq_false_iff]
          intro t
          rw [ig_pf_t t, List.length_append] at pl1
          have : [s * 64 + k].length = 1 := rfl
          omega
        exact nm_r (nI_1 k) (ih (k + 1) (by omega) n ins (by rw [ig_pf_f nf]; exact h))
      · refine ig_y_isInst ty g.1 (by omega) (by omega) fun r hr => ?_
        rcases hr with ⟨rfl, hr⟩ | ⟨rfl, hr⟩
        · refine br_f (by decide) (nm_e ?_)
          have ex : nI s * 64 + nI k = nI (s * 64 + k) := by
            show nI s * nI 64 + nI k = _
            rw [pk_mul, nI_add]
          have ec : n.toNatClampNeg = (ig_pf c s k).length := by rw [hn]; exact nI_clamp (by omega)
          rw [ex, ec]
          refine ⟨by rw [hn]; exact vp_in_nI (by omega) (by omega), nm_e (nm_r (nI_1 k) (ih (k + 1) (by omega) _ _ ?_))⟩
          rw [ig_pf_t hr]
          exact ig_HL_a h
        · exact br_t rfl (nm_r (nI_1 k) (ih (k + 1) (by omega) n ins (by rw [ig_pf_f hr]; exact h)))
  have outer : ∀ d s, s + d = cnt → ∀ fy_count (ay_instances : Nat → Int32), ig_HL (ig_fl c s) fy_count ay_instances → wY_clausesChanged_12 post fy_n fy_predicates fy_atoms fy_closed fy_size 0 fy_model (d + 1) (nI s) fy_count ay_arities ay_first ay_lengths ay_data ay_instances ay_kept ay_refuters := by
    intro d
    induction d with
    | zero =>
      intro s hs n ins h
      have e : s = cnt := by omega
      subst e
      rw [wY_clausesChanged_12]
      dsimp only
      have hl := ig_fl_len g.1 s
      have := K ins ⟨rfl, fun i hi => h.2 i (by omega)⟩
      have hn := h.1
      rw [hl] at hn
      rw [hn]
      exact br_t (by rw [ty.2.2.1]; exact nI_le (Nat.le_refl _) (by omega)) this
    | succ d ih =>
      intro s hs n ins h
      rw [wY_clausesChanged_12]
      dsimp only
      refine br_f (by rw [ty.2.2.1]; exact nI_ge (by omega) (by omega)) ⟨64 + 1, inner _ s (by omega) (fun n' ins' h' => ih (s + 1) (by omega) n' ins' h') 64 0 (by omega) n ins ?_⟩
      rw [ig_pf_0]; exact h
  unfold wpY_clausesChanged
  dsimp only
  exact ⟨cnt + 1, outer cnt 0 (by omega) 0 ay_instances ⟨rfl, fun i hi => by unfold ig_fl at hi; exact absurd hi (by simp)⟩⟩
/-- counting what the clause in hand gives -/
theorem ig_y_close33 {post : Int32 → SY → Prop} {c : ig_C} {cnt : Nat} (ty : ig_YT c cnt fy_n fy_atoms fy_closed ay_arities ay_first ay_lengths ay_data) (w : ig_WF c) (h12 : cnt ≤ 12) {E : Nat} (hE : E ≤ 48)
    (K : ∃ n33, wY_close_33 post fy_n fy_predicates fy_atoms fy_closed fy_count fy_size fy_verdict fy_model ay_arities ay_first ay_lengths ay_data ay_instances ay_kept ay_refuters n33 (nI (E + ig_ws c cnt)) 64) : ∃ n33, wY_close_33 post fy_n fy_predicates fy_atoms fy_closed fy_count fy_size fy_verdict fy_model ay_arities ay_first ay_lengths ay_data ay_instances ay_kept ay_refuters n33 (nI E) 0 := by
  obtain ⟨n0, K⟩ := K
  have L : ∀ d k, k + d = 64 → wY_close_33 post fy_n fy_predicates fy_atoms fy_closed fy_count fy_size fy_verdict fy_model ay_arities ay_first ay_lengths ay_data ay_instances ay_kept ay_refuters (d + n0) (nI (E + (ig_pl c cnt k).length)) (nI k) := by
    intro d
    induction d with
    | zero =>
      intro k hk
      have e : k = 64 := by omega
      subst e
      have el : (ig_pl c cnt 64).length = ig_ws c cnt := ig_il_len _ (by have := w.2.1; omega) w.1 _ _ _
      rw [el, Nat.zero_add]
      exact K
    | succ d ih =>
      intro k hk
      rw [show d + 1 + n0 = (d + n0) + 1 by omega]
      have := ih (k + 1) (by omega)
      rw [wY_close_33]
      dsimp only
      have ec : fy_closed = nI cnt := ty.2.2.1
      refine br_f (nI_ge (b := 64) (by omega) (by omega)) ?_
      subst ec
      refine ig_y_isInst ty w (by omega) (by omega) fun r hr => ?_
      rcases hr with ⟨rfl, hr⟩ | ⟨rfl, hr⟩
      · rw [ig_pl_t hr, List.length_append] at this
        exact br_f (by decide) (nm_r (nI_1 _) (nm_r (nI_1 k) this))
      · rw [ig_pl_f hr] at this
        exact br_t rfl (nm_r (nI_1 k) this)
  exact ⟨64 + n0, L 64 0 (by omega)⟩
end
end
section
/-! the relation -/
def ig_RX (c : ig_C) (cnt : Nat) (f_n f_preds f_atoms f_count f_size : Int32) (a_arities a_starts a_atomPred a_atomFirst a_atomSecond a_lengths a_parts a_closure a_known : Nat → Int32) : Prop :=
  ig_XT c f_n f_atoms a_arities a_starts a_lengths a_parts ∧ f_preds = nI (ig_q c) ∧ f_count = nI cnt ∧ ig_At3 c a_atomPred a_atomFirst a_atomSecond ∧ ig_DL f_size a_closure a_known
def ig_RY (c : ig_C) (cnt : Nat) (fy_n fy_predicates fy_atoms fy_closed fy_count : Int32) (ay_arities ay_first ay_lengths ay_data ay_instances : Nat → Int32) : Prop :=
  ig_YT c cnt fy_n fy_atoms fy_closed ay_arities ay_first ay_lengths ay_data ∧ fy_predicates = nI (ig_q c) ∧ ig_YI c cnt fy_count ay_instances
def ig_RV (c : ig_C) (cnt : Nat) (f_verdict fy_verdict f_refs : Int32) (a_model a_ref : Nat → Int32) (fy_size fy_model : Int32) (ay_refuters : Nat → Int32) : Prop :=
  fy_verdict = f_verdict ∧
  (f_verdict = 1 → ∃ m, m < 2 ^ ig_a c ∧ fy_model = nI m ∧ ∀ k, k < ig_a c → a_model k = nI (m / 2 ^ (ig_a c - 1 - k) % 2)) ∧
  (f_verdict = 2 → ∃ R, ∃ e : Nat → Nat, R ≤ 48 ∧ f_refs = nI R ∧ fy_size = nI R ∧ ∀ k, k < R → e k ∈ ig_fl c cnt ∧ a_ref k = nI (ig_pk c (e k)) ∧ ay_refuters k = nI (e k))
def i_Rel (_ : Nat) (u : SX) (v : SY) : Prop := match u with
  | (f_n, f_verdict, f_preds, f_atoms, f_count, f_refs, f_size, f_trueMask, f_falseMask, a_arities, a_starts, a_atomPred, a_atomFirst, a_atomSecond, a_lengths, a_parts, a_model, a_ref, a_kept, a_closure, a_posMask, a_negMask, a_chosen, a_known, a_decided, a_savedTrue, a_savedFalse, a_group) => match v with
    | (fy_n, fy_predicates, fy_atoms, fy_closed, fy_count, fy_size, fy_verdict, fy_model, ay_arities, ay_first, ay_lengths, ay_data, ay_instances, ay_kept, ay_refuters) => ∃ c : ig_C, ∃ cnt : Nat, ig_Gd c cnt ∧ ig_RX c cnt f_n f_preds f_atoms f_count f_size a_arities a_starts a_atomPred a_atomFirst a_atomSecond a_lengths a_parts a_closure a_known ∧
      ig_RY c cnt fy_n fy_predicates fy_atoms fy_closed fy_count ay_arities ay_first ay_lengths ay_data ay_instances ∧ ig_RV c cnt f_verdict fy_verdict f_refs a_model a_ref fy_size fy_model ay_refuters
theorem ig_el {k : Nat} {u : SX} {v : SY} {P : SX → SY → Prop} (I : i_Rel k u v)
    (h : ∀ (f_n f_verdict f_preds f_atoms f_count f_refs f_size f_trueMask f_falseMask : Int32) (a_arities a_starts a_atomPred a_atomFirst a_atomSecond a_lengths a_parts a_model a_ref a_kept a_closure a_posMask a_negMask a_chosen a_known a_decided a_savedTrue a_savedFalse a_group : Nat → Int32) (fy_n fy_predicates fy_atoms fy_closed fy_count fy_size fy_verdict fy_model : Int32) (ay_arities ay_first ay_lengths ay_data ay_instances ay_kept ay_refuters : Nat → Int32) (c : ig_C) (cnt : Nat), ig_Gd c cnt → ig_RX c cnt f_n f_preds f_atoms f_count f_size a_arities a_starts a_atomPred a_atomFirst a_atomSecond a_lengths a_parts a_closure a_known →
      ig_RY c cnt fy_n fy_predicates fy_atoms fy_closed fy_count ay_arities ay_first ay_lengths ay_data ay_instances → ig_RV c cnt f_verdict fy_verdict f_refs a_model a_ref fy_size fy_model ay_refuters → P (f_n, f_verdict, f_preds, f_atoms, f_count, f_refs, f_size, f_trueMask, f_falseMask, a_arities, a_starts, a_atomPred, a_atomFirst, a_atomSecond, a_lengths, a_parts, a_model, a_ref, a_kept, a_closure, a_posMask, a_negMask, a_chosen, a_known, a_decided, a_savedTrue, a_savedFalse, a_group) (fy_n, fy_predicates, fy_atoms, fy_closed, fy_count, fy_size, fy_verdict, fy_model, ay_arities, ay_first, ay_lengths, ay_data, ay_instances, ay_kept, ay_refuters)) : P u v := by
  obtain ⟨f_n, f_verdict, f_preds, f_atoms, f_count, f_refs, f_size, f_trueMask, f_falseMask, a_arities, a_starts, a_atomPred, a_atomFirst, a_atomSecond, a_lengths, a_parts, a_model, a_ref, a_kept, a_closure, a_posMask, a_negMask, a_chosen, a_known, a_decided, a_savedTrue, a_savedFalse, a_group⟩ := u
  obtain ⟨fy_n, fy_predicates, fy_atoms, fy_closed, fy_count, fy_size, fy_verdict, fy_model, ay_arities, ay_first, ay_lengths, ay_data, ay_instances, ay_kept, ay_refuters⟩ := v
  obtain ⟨c, cnt, g, rx, ry, rv⟩ := I
  exact h f_n f_verdict f_preds f_atoms f_count f_refs f_size f_trueMask f_falseMask a_arities a_starts a_atomPred a_atomFirst a_atomSecond a_lengths a_parts a_model a_ref a_kept a_closure a_posMask a_negMask a_chosen a_known a_decided a_savedTrue a_savedFalse a_group fy_n fy_predicates fy_atoms fy_closed fy_count fy_size fy_verdict fy_model ay_arities ay_first ay_lengths ay_data ay_instances ay_kept ay_refuters c cnt g rx ry rv
theorem i_up {k : Nat} {u : SX} {v : SY} (h : i_Rel k u v) : i_Rel (k + 5) u v := h
section
variable {f_n f_verdict f_preds f_atoms f_count f_refs f_size f_trueMask f_falseMask : Int32} {a_arities a_starts a_atomPred a_atomFirst a_atomSecond a_lengths a_parts a_model a_ref a_kept a_closure a_posMask a_negMask a_chosen a_known a_decided a_savedTrue a_savedFalse a_group : Nat → Int32}
variable {fy_n fy_predicates fy_atoms fy_closed fy_count fy_size fy_verdict fy_model : Int32} {ay_arities ay_first ay_lengths ay_data ay_instances ay_kept ay_refuters : Nat → Int32}
theorem ig_mk (k : Nat) {c : ig_C} {cnt : Nat} (g : ig_Gd c cnt) (rx : ig_RX c cnt f_n f_preds f_atoms f_count f_size a_arities a_starts a_atomPred a_atomFirst a_atomSecond a_lengths a_parts a_closure a_known)
    (ry : ig_RY c cnt fy_n fy_predicates fy_atoms fy_closed fy_count ay_arities ay_first ay_lengths ay_data ay_instances) (rv : ig_RV c cnt f_verdict fy_verdict f_refs a_model a_ref fy_size fy_model ay_refuters) : i_Rel k (f_n, f_verdict, f_preds, f_atoms, f_count, f_refs, f_size, f_trueMask, f_falseMask, a_arities, a_starts, a_atomPred, a_atomFirst, a_atomSecond, a_lengths, a_parts, a_model, a_ref, a_kept, a_closure, a_posMask, a_negMask, a_chosen, a_known, a_decided, a_savedTrue, a_savedFalse, a_group) (fy_n, fy_predicates, fy_atoms, fy_closed, fy_count, fy_size, fy_verdict, fy_model, ay_arities, ay_first, ay_lengths, ay_data, ay_instances, ay_kept, ay_refuters) := ⟨c, cnt, g, rx, ry, rv⟩
end
/-- no result -/
theorem ig_RV0 {c : ig_C} {cnt : Nat} {f_refs : Int32} {a_model a_ref : Nat → Int32} {fy_size fy_model : Int32} {ay_refuters : Nat → Int32} : ig_RV c cnt 0 0 f_refs a_model a_ref fy_size fy_model ay_refuters :=
  ⟨rfl, fun h => absurd h (by decide), fun h => absurd h (by decide)⟩
/-- other stores that agree on the closed clauses -/
theorem ig_w_pk {c : ig_C} {L P : Nat → Nat} {e : Nat} (h : ig_Lk c (e / 64) L P (e / 64)) : ig_pk (ig_w c L P) e = ig_pk c e := by
  unfold ig_pk
  rw [ig_w_ob h, ig_w_ob h, ig_w_ob h]
theorem ig_w_RV {c : ig_C} {cnt : Nat} {L P : Nat → Nat} {f_verdict fy_verdict f_refs : Int32} {a_model a_ref : Nat → Int32} {fy_size fy_model : Int32} {ay_refuters : Nat → Int32} (h : ∀ s, s < cnt → ig_Lk c s L P s)
    (rv : ig_RV c cnt f_verdict fy_verdict f_refs a_model a_ref fy_size fy_model ay_refuters) : ig_RV (ig_w c L P) cnt f_verdict fy_verdict f_refs a_model a_ref fy_size fy_model ay_refuters := by
  refine ⟨rv.1, rv.2.1, fun hv => ?_⟩
  obtain ⟨R, e, h1, h2, h3, h4⟩ := rv.2.2 hv
  refine ⟨R, e, h1, h2, h3, fun k hk => ?_⟩
  have := h4 k hk
  rw [ig_w_fl h, ig_w_pk (h _ (ig_fl_mem this.1).1)]
  exact this
theorem ig_w_YI {c : ig_C} {cnt : Nat} {L P : Nat → Nat} {fy_count : Int32} {ay_instances : Nat → Int32} (h : ∀ s, s < cnt → ig_Lk c s L P s) (yi : ig_YI c cnt fy_count ay_instances) : ig_YI (ig_w c L P) cnt fy_count ay_instances := by
  unfold ig_YI ig_en at yi ⊢
  rw [ig_w_sw h, ig_w_fl h]
  exact yi
/-! the constructors -/
def ig_c0 (n : Nat) : ig_C := (n, 0, 0, fun _ => 0, fun _ => 0, fun _ => 0, fun _ => 0)
theorem ig_z : ∀ {n : Nat}, 1 ≤ n → n ≤ 4 → i_Rel 1 (nI n, 0, 0, 0, 0, 0, 0, 0, 0, (fun _ => 0), (fun _ => 0), (fun _ => 0), (fun _ => 0), (fun _ => 0), (fun _ => 0), (fun _ => 0), (fun _ => 0), (fun _ => 0), (fun _ => 0), (fun _ => 0), (fun _ => 0), (fun _ => 0), (fun _ => 0), (fun _ => 0), (fun _ => 0), (fun _ => 0), (fun _ => 0), (fun _ => 0))
    (nI n, 0, 0, 0, 0, 0, 0, 0, (fun _ => 0), (fun _ => 0), (fun _ => 0), (fun _ => 0), (fun _ => 0), (fun _ => 0), (fun _ => 0)) := by
  intro n n1 n4
  refine ig_mk 1 (c := ig_c0 n) (cnt := 0) ⟨⟨n1, n4, Nat.zero_le 10, Nat.le_refl 0, fun k hk => absurd hk (Nat.not_lt_zero k), fun j k _ hk => absurd hk (Nat.not_lt_zero k)⟩, by omega, fun s hs => by omega, fun s hs => ⟨Nat.zero_le 4, fun q hq => absurd hq (Nat.not_lt_zero q)⟩, Nat.zero_le 48⟩
    ⟨⟨rfl, rfl, fun k hk => absurd hk (Nat.not_lt_zero k), fun s hs => ⟨rfl, Nat.zero_le 4⟩, fun k hk => ⟨rfl, Nat.zero_lt_succ 15⟩⟩, rfl, rfl, fun k hk => absurd hk (Nat.not_lt_zero k), ⟨0, by omega, rfl, fun i hi => by omega, fun p hp hk => (hk rfl).elim⟩⟩
    ⟨⟨rfl, rfl, rfl, fun k hk => absurd hk (Nat.not_lt_zero k), fun s hs => ⟨rfl, Nat.zero_le 4⟩, fun k hk => ⟨rfl, Nat.zero_lt_succ 15⟩⟩, rfl, ⟨rfl, fun i hi => absurd hi (Nat.not_lt_zero i)⟩⟩ ig_RV0
theorem i_vc0 (k0 : Int32) : wpX_init (fun u => wpY_init (fun v => i_Rel 1 u v) k0) k0 := by
  unfold wpX_init
  refine br_c (fun h1 => br_c (fun h4 => ?_) (fun h4 => ?_)) (fun h1 => ?_)
  · unfold wpY_init
    refine br_t h1 (br_t h4 ?_)
    obtain ⟨j, hj, e⟩ := nI_of2 (x := k0) (M := 4) (n := 4) (by decide) (by
      intro z
      have a := Int32.lt_iff_toInt_lt.mp z
      have b := Int32.le_iff_toInt_le.mp h1
      have e1 : (1 : Int32).toInt = 1 := by decide
      have e0 : (0 : Int32).toInt = 0 := by decide
      omega) h4
    subst e
    have j1 : 1 ≤ j := by
      have : nI 1 ≤ nI j := h1
      rw [nI_leI (by omega) (by omega)] at this
      exact this
    exact ig_z j1 hj
  · unfold wpY_init
    exact br_t h1 (br_f h4 (ig_z (n := 4) (by omega) (by omega)))
  · unfold wpY_init
    exact br_f h1 (ig_z (n := 1) (by omega) (by omega))
theorem i_vc_arity {k : Nat} {u : SX} {v : SY} (I : i_Rel k u v) (hk : k + 5 ≤ 2561) (v1 : Int32) : wpX_arity (fun r => wpY_arity (fun r' => r' = r ∧ i_Rel (k + 5) u v) v v1) u v1 := by
  refine ig_el (P := fun u v => wpX_arity (fun r => wpY_arity (fun r' => r' = r ∧ i_Rel (k + 5) u v) v v1) u v1) I ?_
  intro f_n f_verdict f_preds f_atoms f_count f_refs f_size f_trueMask f_falseMask a_arities a_starts a_atomPred a_atomFirst a_atomSecond a_lengths a_parts a_model a_ref a_kept a_closure a_posMask a_negMask a_chosen a_known a_decided a_savedTrue a_savedFalse a_group fy_n fy_predicates fy_atoms fy_closed fy_count fy_size fy_verdict fy_model ay_arities ay_first ay_lengths ay_data ay_instances ay_kept ay_refuters c cnt g rx ry rv
  have R := ig_mk (k + 5) (f_trueMask := f_trueMask) (f_falseMask := f_falseMask) (a_kept := a_kept) (a_posMask := a_posMask) (a_negMask := a_negMask) (a_chosen := a_chosen) (a_decided := a_decided) (a_savedTrue := a_savedTrue) (a_savedFalse := a_savedFalse) (a_group := a_group) (ay_kept := ay_kept) g rx ry rv
  unfold wpX_arity wpY_arity
  dsimp only
  have hA := g.1.2.2.1
  have hq := g.1.2.2.2.1
  refine br_c (fun z => br_t z ⟨rfl, R⟩) (fun z => ?_)
  obtain ⟨j, hj, rfl⟩ := nI_of z
  refine pk_lt j (ig_q c) (fun y => ?_) (fun y => ?_) rfl rx.2.1
  · have hin : vp_in (nI j) 10 := vp_in_nI (by omega) (by omega)
    refine ⟨hin, br_f z (pk_lt j (ig_q c) (fun _ => ⟨hin, ?_, R⟩) (fun y' => by omega) rfl ry.2.1)⟩
    rw [nI_clamp hj, (rx.1.2.2.1 j y).1, (ry.1.2.2.2.1 j y).1]
  · exact br_f z (pk_lt j (ig_q c) (fun y' => by omega) (fun _ => ⟨rfl, R⟩) rfl ry.2.1)
theorem i_vc_clauses {k : Nat} {u : SX} {v : SY} (I : i_Rel k u v) (hk : k + 5 ≤ 2561) : wpX_clauses (fun r => wpY_clauses (fun r' => r' = r ∧ i_Rel (k + 5) u v) v) u := by
  refine ig_el (P := fun u v => wpX_clauses (fun r => wpY_clauses (fun r' => r' = r ∧ i_Rel (k + 5) u v) v) u) I ?_
  intro f_n f_verdict f_preds f_atoms f_count f_refs f_size f_trueMask f_falseMask a_arities a_starts a_atomPred a_atomFirst a_atomSecond a_lengths a_parts a_model a_ref a_kept a_closure a_posMask a_negMask a_chosen a_known a_decided a_savedTrue a_savedFalse a_group fy_n fy_predicates fy_atoms fy_closed fy_count fy_size fy_verdict fy_model ay_arities ay_first ay_lengths ay_data ay_instances ay_kept ay_refuters c cnt g rx ry rv
  unfold wpX_clauses wpY_clauses
  dsimp only
  exact ⟨by rw [rx.2.2.1, ry.1.2.2.1], ig_mk (k + 5) g rx ry rv⟩
theorem i_vc_verdict {k : Nat} {u : SX} {v : SY} (I : i_Rel k u v) (hk : k + 5 ≤ 2561) : wpX_verdict (fun r => wpY_verdict (fun r' => r' = r ∧ i_Rel (k + 5) u v) v) u := by
  refine ig_el (P := fun u v => wpX_verdict (fun r => wpY_verdict (fun r' => r' = r ∧ i_Rel (k + 5) u v) v) u) I ?_
  intro f_n f_verdict f_preds f_atoms f_count f_refs f_size f_trueMask f_falseMask a_arities a_starts a_atomPred a_atomFirst a_atomSecond a_lengths a_parts a_model a_ref a_kept a_closure a_posMask a_negMask a_chosen a_known a_decided a_savedTrue a_savedFalse a_group fy_n fy_predicates fy_atoms fy_closed fy_count fy_size fy_verdict fy_model ay_arities ay_first ay_lengths ay_data ay_instances ay_kept ay_refuters c cnt g rx ry rv
  unfold wpX_verdict wpY_verdict
  dsimp only
  exact ⟨rv.1, ig_mk (k + 5) g rx ry rv⟩
theorem i_vc_length {k : Nat} {u : SX} {v : SY} (I : i_Rel k u v) (hk : k + 5 ≤ 2561) (v1 : Int32) : wpX_length (fun r => wpY_length (fun r' => r' = r ∧ i_Rel (k + 5) u v) v v1) u v1 := by
  refine ig_el (P := fun u v => wpX_length (fun r => wpY_length (fun r' => r' = r ∧ i_Rel (k + 5) u v) v v1) u v1) I ?_
  intro f_n f_verdict f_preds f_atoms f_count f_refs f_size f_trueMask f_falseMask a_arities a_starts a_atomPred a_atomFirst a_atomSecond a_lengths a_parts a_model a_ref a_kept a_closure a_posMask a_negMask a_chosen a_known a_decided a_savedTrue a_savedFalse a_group fy_n fy_predicates fy_atoms fy_closed fy_count fy_size fy_verdict fy_model ay_arities ay_first ay_lengths ay_data ay_instances ay_kept ay_refuters c cnt g rx ry rv
  have R := ig_mk (k + 5) (f_trueMask := f_trueMask) (f_falseMask := f_falseMask) (a_kept := a_kept) (a_posMask := a_posMask) (a_negMask := a_negMask) (a_chosen := a_chosen) (a_decided := a_decided) (a_savedTrue := a_savedTrue) (a_savedFalse := a_savedFalse) (a_group := a_group) (ay_kept := ay_kept) g rx ry rv
  unfold wpX_length wpY_length
  dsimp only
  have h12 := g.2.1
  refine br_c (fun z => br_t z ⟨rfl, R⟩) (fun z => ?_)
  obtain ⟨j, hj, rfl⟩ := nI_of z
  refine pk_le j cnt (fun y => ?_) (fun y => ?_) rfl rx.2.2.1
  · refine ⟨vp_in_nI (by omega) (by omega), br_f z (pk_le j cnt (fun _ => ⟨vp_in_nI (by omega) (by omega), ?_, R⟩) (fun y' => by omega) rfl ry.1.2.2.1)⟩
    rw [nI_clamp hj, (rx.1.2.2.2.1 j (by omega)).1, (ry.1.2.2.2.2.1 j (by omega)).1]
  · exact br_f z (pk_le j cnt (fun y' => by omega) (fun _ => ⟨rfl, R⟩) rfl ry.1.2.2.1)
theorem i_vc_part {k : Nat} {u : SX} {v : SY} (I : i_Rel k u v) (hk : k + 5 ≤ 2561) (v1 : Int32) (v2 : Int32) (v3 : Int32) : wpX_part (fun r => wpY_part (fun r' => r' = r ∧ i_Rel (k + 5) u v) v v1 v2 v3) u v1 v2 v3 := by
  refine ig_el (P := fun u v => wpX_part (fun r => wpY_part (fun r' => r' = r ∧ i_Rel (k + 5) u v) v v1 v2 v3) u v1 v2 v3) I ?_
  intro f_n f_verdict f_preds f_atoms f_count f_refs f_size f_trueMask f_falseMask a_arities a_starts a_atomPred a_atomFirst a_atomSecond a_lengths a_parts a_model a_ref a_kept a_closure a_posMask a_negMask a_chosen a_known a_decided a_savedTrue a_savedFalse a_group fy_n fy_predicates fy_atoms fy_closed fy_count fy_size fy_verdict fy_model ay_arities ay_first ay_lengths ay_data ay_instances ay_kept ay_refuters c cnt g rx ry rv
  have R := ig_mk (k + 5) (f_trueMask := f_trueMask) (f_falseMask := f_falseMask) (a_kept := a_kept) (a_posMask := a_posMask) (a_negMask := a_negMask) (a_chosen := a_chosen) (a_decided := a_decided) (a_savedTrue := a_savedTrue) (a_savedFalse := a_savedFalse) (a_group := a_group) (ay_kept := ay_kept) g rx ry rv
  unfold wpX_part wpY_part
  dsimp only
  have h12 := g.2.1
  refine br_c (fun z => br_t z ⟨rfl, R⟩) (fun z => ?_)
  obtain ⟨i, hi, rfl⟩ := nI_of z
  refine pk_le i cnt (fun y => ?_) (fun y => br_f z (pk_lt cnt i (fun _ => ⟨rfl, R⟩) (fun y' => by omega) ry.1.2.2.1 rfl)) rfl rx.2.2.1
  refine br_c (fun z2 => br_f z (pk_lt cnt i (fun y' => by omega) (fun _ => br_t z2 ⟨rfl, R⟩) ry.1.2.2.1 rfl)) (fun z2 => ?_)
  obtain ⟨j, hj, rfl⟩ := nI_of z2
  rw [nI_clamp hi]
  have lx := rx.1.2.2.2.1 i (by omega)
  have ly := ry.1.2.2.2.2.1 i (by omega)
  rw [lx.1, ly.1]
  refine ⟨vp_in_nI (by omega) (by omega), pk_lt j (ig_L c i) (fun y2 => ?_) (fun y2 => br_f z (pk_lt cnt i (fun y' => by omega) (fun _ => br_f z2 ⟨vp_in_nI (by omega) (by omega), br_t (nI_le y2 (by omega)) ⟨rfl, R⟩⟩) ry.1.2.2.1 rfl))⟩
  refine br_c (fun z3 => br_f z (pk_lt cnt i (fun y' => by omega) (fun _ => br_f z2 ⟨vp_in_nI (by omega) (by omega), br_f (nI_ge y2 (by omega)) (br_t z3 ⟨rfl, R⟩)⟩) ry.1.2.2.1 rfl)) (fun z3 => ?_)
  obtain ⟨f, hf, rfl⟩ := nI_of z3
  refine pk_le f 3 (fun y3 => ?_) (fun y3 => br_f z (pk_lt cnt i (fun y' => by omega) (fun _ => br_f z2 ⟨vp_in_nI (by omega) (by omega), br_f (nI_ge y2 (by omega)) (br_f z3 (br_f (nI_ge (a := 3) y3 (by omega)) ⟨rfl, R⟩))⟩) ry.1.2.2.1 rfl))
  have ea : nI i * 16 + nI j * 4 + nI f = nI (i * 16 + j * 4 + f) := by
    show nI i * nI 16 + nI j * nI 4 + nI f = _
    rw [pk_mul, pk_mul, nI_add, nI_add]
  rw [ea, nI_clamp (show i * 16 + j * 4 + f < 2 ^ 31 by omega)]
  refine ⟨vp_in_nI (by omega) (by omega), br_f z (pk_lt cnt i (fun y' => by omega) (fun _ => br_f z2 ⟨vp_in_nI (by omega) (by omega), br_f (nI_ge y2 (by omega)) (br_f z3 (br_t (nI_le (b := 3) y3 (by omega)) ⟨vp_in_nI (by omega) (by omega), ?_, R⟩))⟩) ry.1.2.2.1 rfl)⟩
  rw [(rx.1.2.2.2.2 (i * 16 + j * 4 + f) (by omega)).1, (ry.1.2.2.2.2.2 (i * 16 + j * 4 + f) (by omega)).1]
theorem i_vc_refutation {k : Nat} {u : SX} {v : SY} (I : i_Rel k u v) (hk : k + 5 ≤ 2561) : wpX_refutation (fun r => wpY_refutation (fun r' => r' = r ∧ i_Rel (k + 5) u v) v) u := by
  refine ig_el (P := fun u v => wpX_refutation (fun r => wpY_refutation (fun r' => r' = r ∧ i_Rel (k + 5) u v) v) u) I ?_
  intro f_n f_verdict f_preds f_atoms f_count f_refs f_size f_trueMask f_falseMask a_arities a_starts a_atomPred a_atomFirst a_atomSecond a_lengths a_parts a_model a_ref a_kept a_closure a_posMask a_negMask a_chosen a_known a_decided a_savedTrue a_savedFalse a_group fy_n fy_predicates fy_atoms fy_closed fy_count fy_size fy_verdict fy_model ay_arities ay_first ay_lengths ay_data ay_instances ay_kept ay_refuters c cnt g rx ry rv
  have R := ig_mk (k + 5) (f_trueMask := f_trueMask) (f_falseMask := f_falseMask) (a_kept := a_kept) (a_posMask := a_posMask) (a_negMask := a_negMask) (a_chosen := a_chosen) (a_decided := a_decided) (a_savedTrue := a_savedTrue) (a_savedFalse := a_savedFalse) (a_group := a_group) (ay_kept := ay_kept) g rx ry rv
  unfold wpX_refutation wpY_refutation
  dsimp only
  rw [rv.1]
  refine br_c (fun z => br_t z ⟨?_, by rw [rv.1] at R; exact R⟩) (fun z => br_f z ⟨rfl, by rw [rv.1] at R; exact R⟩)
  obtain ⟨R, e, h1, h2, h3, h4⟩ := rv.2.2 z
  rw [h2, h3]
end
section
/-! refuter, binding, holds, discard, literal, close -/
theorem i_vc_refuter {k : Nat} {u : SX} {v : SY} (I : i_Rel k u v) (hk : k + 5 ≤ 2561) (v1 : Int32) : wpX_refuter (fun r => wpY_refuter (fun r' => r' = r ∧ i_Rel (k + 5) u v) v v1) u v1 := by
  refine ig_el (P := fun u v => wpX_refuter (fun r => wpY_refuter (fun r' => r' = r ∧ i_Rel (k + 5) u v) v v1) u v1) I ?_
  intro f_n f_verdict f_preds f_atoms f_count f_refs f_size f_trueMask f_falseMask a_arities a_starts a_atomPred a_atomFirst a_atomSecond a_lengths a_parts a_model a_ref a_kept a_closure a_posMask a_negMask a_chosen a_known a_decided a_savedTrue a_savedFalse a_group fy_n fy_predicates fy_atoms fy_closed fy_count fy_size fy_verdict fy_model ay_arities ay_first ay_lengths ay_data ay_instances ay_kept ay_refuters c cnt g rx ry rv
  have R := ig_mk (k + 5) (f_trueMask := f_trueMask) (f_falseMask := f_falseMask) (a_kept := a_kept) (a_posMask := a_posMask) (a_negMask := a_negMask) (a_chosen := a_chosen) (a_decided := a_decided) (a_savedTrue := a_savedTrue) (a_savedFalse := a_savedFalse) (a_group := a_group) (ay_kept := ay_kept) g rx ry rv
  have h12 := g.2.1
  unfold wpX_refuter wpY_refuter
  dsimp only
  have ev := rv.1
  subst ev
  refine br_c (fun z => ?_) (fun z => br_f z ⟨rfl, R⟩)
  obtain ⟨r, e, h1, h2, h3, h4⟩ := rv.2.2 z
  refine br_c (fun z1 => br_t z (br_t z1 ⟨rfl, R⟩)) (fun z1 => ?_)
  obtain ⟨j, hj, rfl⟩ := nI_of z1
  refine pk_lt j r (fun y => ?_) (fun y => br_t z (br_f z1 (pk_lt j r (fun y' => by omega) (fun _ => ⟨rfl, R⟩) rfl h3))) rfl h2
  refine ⟨vp_in_nI (by omega) (by omega), br_t z (br_f z1 (pk_lt j r (fun _ => ⟨vp_in_nI (by omega) (by omega), ?_, R⟩) (fun y' => by omega) rfl h3))⟩
  have hh := h4 j y
  have mj := ig_fl_mem hh.1
  have dj := (ig_pk_dig (c := c) (e j)).1
  have s9 : nI (ig_pk c (e j)) >>> ((9 : Int32) &&& 31) = nI (e j / 64) := by
    rw [pk_shrN (by omega) _ 9 (by decide)]
    exact congrArg nI dj
  have s6 : nI (e j) >>> ((6 : Int32) &&& 31) = nI (e j / 64) := pk_shrN (by omega) _ 6 (by decide)
  rw [nI_clamp hj, hh.2.1, hh.2.2, s9, s6]
theorem i_vc_binding {k : Nat} {u : SX} {v : SY} (I : i_Rel k u v) (hk : k + 5 ≤ 2561) (v1 : Int32) (v2 : Int32) : wpX_binding (fun r => wpY_binding (fun r' => r' = r ∧ i_Rel (k + 5) u v) v v1 v2) u v1 v2 := by
  refine ig_el (P := fun u v => wpX_binding (fun r => wpY_binding (fun r' => r' = r ∧ i_Rel (k + 5) u v) v v1 v2) u v1 v2) I ?_
  intro f_n f_verdict f_preds f_atoms f_count f_refs f_size f_trueMask f_falseMask a_arities a_starts a_atomPred a_atomFirst a_atomSecond a_lengths a_parts a_model a_ref a_kept a_closure a_posMask a_negMask a_chosen a_known a_decided a_savedTrue a_savedFalse a_group fy_n fy_predicates fy_atoms fy_closed fy_count fy_size fy_verdict fy_model ay_arities ay_first ay_lengths ay_data ay_instances ay_kept ay_refuters c cnt g rx ry rv
  have R := ig_mk (k + 5) (f_trueMask := f_trueMask) (f_falseMask := f_falseMask) (a_kept := a_kept) (a_posMask := a_posMask) (a_negMask := a_negMask) (a_chosen := a_chosen) (a_decided := a_decided) (a_savedTrue := a_savedTrue) (a_savedFalse := a_savedFalse) (a_group := a_group) (ay_kept := ay_kept) g rx ry rv
  have h12 := g.2.1
  have hn4 := g.1.2.1
  unfold wpX_binding wpY_binding
  dsimp only
  have ev := rv.1
  subst ev
  refine br_c (fun z => ?_) (fun z => br_f z ⟨rfl, R⟩)
  obtain ⟨r, e, h1, h2, h3, h4⟩ := rv.2.2 z
  refine br_c (fun z1 => br_t z (br_t z1 ⟨rfl, R⟩)) (fun z1 => ?_)
  obtain ⟨j, hj, rfl⟩ := nI_of z1
  refine pk_lt j r (fun y => ?_) (fun y => br_t z (br_f z1 (pk_le r j (fun _ => ⟨rfl, R⟩) (fun y' => by omega) h3 rfl))) rfl h2
  have ywrap : ∀ (A B : Prop), B → (fy_size ≤ nI j → A) ∧ (¬ fy_size ≤ nI j → B) := fun A B b => pk_le r j (fun y' => by omega) (fun _ => b) h3 rfl
  refine br_c (fun z2 => br_t z (br_f z1 (ywrap _ _ (br_t z2 ⟨rfl, R⟩)))) (fun z2 => ?_)
  refine br_c (fun z3 => ?_) (fun z3 => br_t z (br_f z1 (ywrap _ _ (br_f z2 (br_f z3 ⟨rfl, R⟩)))))
  obtain ⟨w, w6, ew⟩ := nI_of2 (x := v2) (M := 6) (n := 6) (by decide) (by
      intro q
      have a := Int32.lt_iff_toInt_lt.mp q
      have e4 : (4 : Int32).toInt = 4 := by decide
      have e0 : (0 : Int32).toInt = 0 := by decide
      exact z2 (Int32.lt_iff_toInt_lt.mpr (by omega))) z3
  subst ew
  have w4 : 4 ≤ w := by
    rcases Nat.lt_or_ge w 4 with q | q
    · exact (z2 (nI_lt (b := 4) q (by omega))).elim
    · exact q
  have hh := h4 j y
  have mj := ig_fl_mem hh.1
  have dj := ig_pk_dig (c := c) (e j)
  have hv := ig_va_n (ig_inr_mem mj.2).2 w w4 w6
  have hin : vp_in (nI j) 48 := vp_in_nI (by omega) (by omega)
  have em : nI (e j) &&& 63 = nI (e j % 64) := pk_andN (by omega) 6 (by decide)
  have ed : nI (e j) >>> ((6 : Int32) &&& 31) = nI (e j / 64) := pk_shrN (by omega) _ 6 (by decide)
  rw [nI_clamp hj, hh.2.1, hh.2.2, em, ed]
  refine ⟨hin, ig_x_resolve (by omega) w6 ?_⟩
  rw [dj.2 w w4 w6]
  cases o : ig_ob c (e j / 64) w
  · rw [cond_false]
    refine br_f z2 (br_t z (br_f z1 (ywrap _ _ (br_f z2 (br_t z3 ⟨hin, ig_y_occurs ry.1 (by omega) (by omega) fun r' hr => ?_⟩)))))
    rcases hr with ⟨rfl, hr⟩ | ⟨rfl, hr⟩
    · rw [o] at hr; cases hr
    · exact br_t rfl ⟨rfl, R⟩
  · rw [cond_true]
    refine br_t (nI_lt (b := 4) (by omega) (by omega)) (br_t z (br_f z1 (ywrap _ _ (br_f z2 (br_t z3 ⟨hin, ig_y_occurs ry.1 (by omega) (by omega) fun r' hr => ?_⟩)))))
    rcases hr with ⟨rfl, hr⟩ | ⟨rfl, hr⟩
    · refine br_f (by decide) ⟨hin, ig_y_value (by omega) fun x hx => ⟨?_, R⟩⟩
      rw [hx w w6 rfl, ig_gv_v w4]
    · rw [o] at hr; cases hr
section
variable {f_n f_verdict f_preds f_atoms f_count f_refs f_size f_trueMask f_falseMask : Int32} {a_arities a_starts a_atomPred a_atomFirst a_atomSecond a_lengths a_parts a_model a_ref a_kept a_closure a_posMask a_negMask a_chosen a_known a_decided a_savedTrue a_savedFalse a_group : Nat → Int32}
theorem ig_x_atomOf2 {post : Int32 → Prop} {c : ig_C} (t : ig_XT c f_n f_atoms a_arities a_starts a_lengths a_parts) (w : ig_WF c) {q x y : Nat} {pa pb : Int32} (hq : q < ig_q c) (ha : 1 ≤ ig_ar c q → pa = nI x) (hb : 2 ≤ ig_ar c q → pb = nI y) (h : post (nI (ig_ao c q x y))) : wpX_atomOf post (f_n, f_verdict, f_preds, f_atoms, f_count, f_refs, f_size, f_trueMask, f_falseMask, a_arities, a_starts, a_atomPred, a_atomFirst, a_atomSecond, a_lengths, a_parts, a_model, a_ref, a_kept, a_closure, a_posMask, a_negMask, a_chosen, a_known, a_decided, a_savedTrue, a_savedFalse, a_group) (nI q) pa pb := by
  have q10 := ig_q10 w hq
  have hi : vp_in (nI q) 10 := vp_in_nI q10 (by omega)
  have hr := (w.2.2.2.2.1 q hq).1
  unfold wpX_atomOf
  dsimp only
  rw [nI_clamp (show q < 2 ^ 31 by omega), (t.2.2.1 q hq).1, (t.2.2.1 q hq).2, t.1]
  unfold ig_ao at h
  refine ⟨hi, pk_eq (ig_ar c q) 0 (fun z => ⟨hi, ?_⟩) (fun z => ⟨hi, pk_eq (ig_ar c q) 1 (fun z' => ⟨hi, ?_⟩) (fun z' => ⟨hi, ?_⟩)⟩)⟩
  · rw [if_pos z] at h; exact h
  · rw [if_neg z, if_pos z'] at h; rw [ha (by omega), nI_add]; exact h
  · rw [if_neg z, if_neg z'] at h; rw [ha (by omega), hb (by omega), pk_mul, nI_add, nI_add]; exact h
end
theorem i_vc_holds {k : Nat} {u : SX} {v : SY} (I : i_Rel k u v) (hk : k + 5 ≤ 2561) (v1 : Int32) (v2 : Int32) (v3 : Int32) : wpX_holds (fun r => wpY_holds (fun r' => r' = r ∧ i_Rel (k + 5) u v) v v1 v2 v3) u v1 v2 v3 := by
  refine ig_el (P := fun u v => wpX_holds (fun r => wpY_holds (fun r' => r' = r ∧ i_Rel (k + 5) u v) v v1 v2 v3) u v1 v2 v3) I ?_
  intro f_n f_verdict f_preds f_atoms f_count f_refs f_size f_trueMask f_falseMask a_arities a_starts a_atomPred a_atomFirst a_atomSecond a_lengths a_parts a_model a_ref a_kept a_closure a_posMask a_negMask a_chosen a_known a_decided a_savedTrue a_savedFalse a_group fy_n fy_predicates fy_atoms fy_closed fy_count fy_size fy_verdict fy_model ay_arities ay_first ay_lengths ay_data ay_instances ay_kept ay_refuters c cnt g rx ry rv
  have R := ig_mk (k + 5) (f_trueMask := f_trueMask) (f_falseMask := f_falseMask) (a_kept := a_kept) (a_posMask := a_posMask) (a_negMask := a_negMask) (a_chosen := a_chosen) (a_decided := a_decided) (a_savedTrue := a_savedTrue) (a_savedFalse := a_savedFalse) (a_group := a_group) (ay_kept := ay_kept) g rx ry rv
  have hn4 := g.1.2.1
  have hA10 := g.1.2.2.1
  have hqa := g.1.2.2.2.1
  have ev := rv.1
  have xn := rx.1.1
  have yn := ry.1.1
  have key : ∃ r, (∀ post : Int32 → Prop, post r → wpX_holds post (f_n, f_verdict, f_preds, f_atoms, f_count, f_refs, f_size, f_trueMask, f_falseMask, a_arities, a_starts, a_atomPred, a_atomFirst, a_atomSecond, a_lengths, a_parts, a_model, a_ref, a_kept, a_closure, a_posMask, a_negMask, a_chosen, a_known, a_decided, a_savedTrue, a_savedFalse, a_group) v1 v2 v3) ∧ (∀ post : Int32 → Prop, post r → wpY_holds post (fy_n, fy_predicates, fy_atoms, fy_closed, fy_count, fy_size, fy_verdict, fy_model, ay_arities, ay_first, ay_lengths, ay_data, ay_instances, ay_kept, ay_refuters) v1 v2 v3) := by
    unfold wpX_holds wpY_holds
    dsimp only
    subst ev
    subst xn
    subst yn
    by_cases z : fy_verdict = 1
    case neg => exact ⟨-3, fun post hp => br_f z hp, fun post hp => br_f z hp⟩
    obtain ⟨m, hm, em, h4⟩ := rv.2.1 z
    have m31 : m < 2 ^ 31 := by have := ig_2A hA10; omega
    by_cases z1 : v1 < 0
    case pos => exact ⟨-1, fun post hp => br_t z (br_t z1 hp), fun post hp => br_t z (br_t z1 hp)⟩
    obtain ⟨q, hq31, rfl⟩ := nI_of z1
    rw [rx.2.1, ry.2.1]
    by_cases hq : q < ig_q c
    case neg => exact ⟨-1, fun post hp => br_t z (br_f z1 (br_f (nI_nlt (by omega) hq31) hp)), fun post hp => br_t z (br_f z1 (br_f (nI_nlt (by omega) hq31) hp))⟩
    have hq' : nI q < nI (ig_q c) := nI_lt hq (by omega)
    have q10 := ig_q10 g.1 hq
    have hin : vp_in (nI q) 10 := vp_in_nI q10 (by omega)
    have r2 := (g.1.2.2.2.2.1 q hq).1
    have xa := (rx.1.2.2.1 q hq).1
    have ya := (ry.1.2.2.2.1 q hq).1
    rw [nI_clamp hq31, xa, ya]
    have last : ∀ a b : Nat, (1 ≤ ig_ar c q → v2 = nI a) → (2 ≤ ig_ar c q → v3 = nI b) → a < ig_n c → b < ig_n c → ∀ post : Int32 → Prop, post (nI (m / 2 ^ (ig_a c - 1 - ig_ao c q a b) % 2)) → wX_holds_72 post (nI q) v2 v3 (nI (ig_n c)) fy_verdict (nI (ig_q c)) f_atoms f_count f_refs f_size f_trueMask f_falseMask a_arities a_starts a_atomPred a_atomFirst a_atomSecond a_lengths a_parts a_model a_ref a_kept a_closure a_posMask a_negMask a_chosen a_known a_decided a_savedTrue a_savedFalse a_group := by
      intro a b ha hb la lb post hp
      unfold wX_holds_72
      have lt := ig_ao_a g.1 hq la lb
      refine ig_x_atomOf2 rx.1 g.1 hq ha hb ?_
      rw [nI_clamp (show ig_ao c q a b < 2 ^ 31 by omega), h4 _ lt]
      exact ⟨vp_in_nI (by omega) (by omega), hp⟩
    have lasty : ∀ a b : Nat, (1 ≤ ig_ar c q → v2 = nI a) → (2 ≤ ig_ar c q → v3 = nI b) → a < ig_n c → b < ig_n c → ∀ post : Int32 → Prop, post (nI (m / 2 ^ (ig_a c - 1 - ig_ao c q a b) % 2)) → wY_holds_71 post (nI q) v2 v3 (nI (ig_n c)) (nI (ig_q c)) fy_atoms fy_closed fy_count fy_size fy_verdict fy_model ay_arities ay_first ay_lengths ay_data ay_instances ay_kept ay_refuters := by
      intro a b ha hb la lb post hp
      unfold wY_holds_71
      rw [em]
      have ga : ig_gv (ig_va 0) a = a := ig_gv_c (by omega)
      have gb : ig_gv (ig_va 0) b = b := ig_gv_c (by omega)
      refine ig_y_lt (sg := 1) (e := 0) (a := a) (b := b) ry.1 g.1 m31 (by omega) hq (by omega) (fun h => ⟨ha h, by omega⟩) (fun h => ⟨hb h, by omega⟩) (by rw [ga, gb]; exact ig_ao_a g.1 hq la lb) fun r hr => ?_
      rw [ga, gb, ig_M_t] at hr
      rcases hr with ⟨rfl, hr⟩ | ⟨rfl, hr⟩
      · have e1 : m / 2 ^ (ig_a c - 1 - ig_ao c q a b) % 2 = 1 := hr.mpr rfl
        rw [e1] at hp
        exact br_f (by decide) hp
      · have e0 : m / 2 ^ (ig_a c - 1 - ig_ao c q a b) % 2 = 0 := by
          have : ¬ m / 2 ^ (ig_a c - 1 - ig_ao c q a b) % 2 = 1 := fun h => hr ⟨fun _ => rfl, fun _ => h⟩
          omega
        rw [e0] at hp
        exact br_t rfl hp
    have n1 := g.1.1
    by_cases a0 : ig_ar c q = 0
    case pos =>
      refine ⟨nI (m / 2 ^ (ig_a c - 1 - ig_ao c q 0 0) % 2), fun post hp => br_t z (br_f z1 (br_t hq' ⟨hin, br_t (by rw [a0]; decide) ?_⟩)), fun post hp => br_t z (br_f z1 (br_t hq' ⟨hin, br_t (by rw [a0]; decide) ?_⟩))⟩
      case refine_1 =>
        unfold wX_holds_48
        rw [nI_clamp hq31, xa]
        exact ⟨hin, br_t (by rw [a0]; decide) (last 0 0 (fun h => by omega) (fun h => by omega) n1 n1 post hp)⟩
      case refine_2 =>
        unfold wY_holds_47
        rw [nI_clamp hq31, ya]
        exact ⟨hin, br_f (by rw [a0]; decide) (lasty 0 0 (fun h => by omega) (fun h => by omega) n1 n1 post hp)⟩
    have ca : ¬ nI (ig_ar c q) ≤ 0 := nI_nle (by omega) (by omega)
    have cb : ¬ nI (ig_ar c q) < 1 := nI_nlt (b := 1) (by omega) (by omega)
    by_cases z2 : v2 < 0
    case pos => exact ⟨-1, fun post hp => br_t z (br_f z1 (br_t hq' ⟨hin, br_f ca (br_t z2 hp)⟩)), fun post hp => br_t z (br_f z1 (br_t hq' ⟨hin, br_f cb (br_t z2 hp)⟩))⟩
    obtain ⟨a, ha31, rfl⟩ := nI_of z2
    by_cases la : a < ig_n c
    case neg => exact ⟨-1, fun post hp => br_t z (br_f z1 (br_t hq' ⟨hin, br_f ca (br_f z2 (br_f (nI_nlt (by omega) ha31) hp))⟩)), fun post hp => br_t z (br_f z1 (br_t hq' ⟨hin, br_f cb (br_f z2 (br_t (nI_le (by omega) ha31) hp))⟩))⟩
    have la1 : nI a < nI (ig_n c) := nI_lt la (by omega)
    have la2 : ¬ nI (ig_n c) ≤ nI a := nI_ge la (by omega)
    by_cases a1 : ig_ar c q = 1
    case pos =>
      refine ⟨nI (m / 2 ^ (ig_a c - 1 - ig_ao c q a 0) % 2), fun post hp => br_t z (br_f z1 (br_t hq' ⟨hin, br_f ca (br_f z2 (br_t la1 ?_))⟩)), fun post hp => br_t z (br_f z1 (br_t hq' ⟨hin, br_f cb (br_f z2 (br_f la2 ?_))⟩))⟩
      case refine_1 =>
        unfold wX_holds_48
        rw [nI_clamp hq31, xa]
        exact ⟨hin, br_t (by rw [a1]; decide) (last a 0 (fun h => rfl) (fun h => by omega) la n1 post hp)⟩
      case refine_2 =>
        unfold wY_holds_47
        rw [nI_clamp hq31, ya]
        exact ⟨hin, br_f (by rw [a1]; decide) (lasty a 0 (fun h => rfl) (fun h => by omega) la n1 post hp)⟩
    have a2 : ig_ar c q = 2 := by omega
    have red : ∀ r, (∀ post : Int32 → Prop, post r → ((v3 < 0 → post (-1)) ∧ (¬ v3 < 0 → ((v3 < nI (ig_n c) → wX_holds_72 post (nI q) (nI a) v3 (nI (ig_n c)) fy_verdict (nI (ig_q c)) f_atoms f_count f_refs f_size f_trueMask f_falseMask a_arities a_starts a_atomPred a_atomFirst a_atomSecond a_lengths a_parts a_model a_ref a_kept a_closure a_posMask a_negMask a_chosen a_known a_decided a_savedTrue a_savedFalse a_group) ∧ (¬ v3 < nI (ig_n c) → post (-1)))))) →
        (∀ post : Int32 → Prop, post r → ((v3 < 0 → post (-1)) ∧ (¬ v3 < 0 → ((v3 < nI (ig_n c) → wY_holds_71 post (nI q) (nI a) v3 (nI (ig_n c)) (nI (ig_q c)) fy_atoms fy_closed fy_count fy_size fy_verdict fy_model ay_arities ay_first ay_lengths ay_data ay_instances ay_kept ay_refuters) ∧ (¬ v3 < nI (ig_n c) → post (-1)))))) →
        ∃ r, (∀ post : Int32 → Prop, post r → wpX_holds post (nI (ig_n c), fy_verdict, nI (ig_q c), f_atoms, f_count, f_refs, f_size, f_trueMask, f_falseMask, a_arities, a_starts, a_atomPred, a_atomFirst, a_atomSecond, a_lengths, a_parts, a_model, a_ref, a_kept, a_closure, a_posMask, a_negMask, a_chosen, a_known, a_decided, a_savedTrue, a_savedFalse, a_group) (nI q) (nI a) v3) ∧ (∀ post : Int32 → Prop, post r → wpY_holds post (nI (ig_n c), nI (ig_q c), fy_atoms, fy_closed, fy_count, fy_size, fy_verdict, fy_model, ay_arities, ay_first, ay_lengths, ay_data, ay_instances, ay_kept, ay_refuters) (nI q) (nI a) v3) := by
      intro r hx hy
      unfold wpX_holds wpY_holds
      dsimp only
      rw [nI_clamp hq31, xa, ya]
      refine ⟨r, fun post hp => br_t z (br_f z1 (br_t hq' ⟨hin, br_f ca (br_f z2 (br_t la1 ?_))⟩)), fun post hp => br_t z (br_f z1 (br_t hq' ⟨hin, br_f cb (br_f z2 (br_f la2 ?_))⟩))⟩
      · unfold wX_holds_48
        rw [nI_clamp hq31, xa]
        exact ⟨hin, br_f (by rw [a2]; decide) (hx post hp)⟩
      · unfold wY_holds_47
        rw [nI_clamp hq31, ya]
        exact ⟨hin, br_t (by rw [a2]; decide) (hy post hp)⟩
    unfold wpX_holds wpY_holds at red
    dsimp only at red
    rw [nI_clamp hq31, xa, ya] at red
    by_cases z3 : v3 < 0
    case pos => exact red (-1) (fun post hp => br_t z3 hp) (fun post hp => br_t z3 hp)
    obtain ⟨b, hb31, rfl⟩ := nI_of z3
    by_cases lb : b < ig_n c
    case neg => exact red (-1) (fun post hp => br_f z3 (br_f (nI_nlt (by omega) hb31) hp)) (fun post hp => br_f z3 (br_f (nI_nlt (by omega) hb31) hp))
    exact red _ (fun post hp => br_f z3 (br_t (nI_lt lb (by omega)) (last a b (fun _ => rfl) (fun _ => rfl) la lb post hp))) (fun post hp => br_f z3 (br_t (nI_lt lb (by omega)) (lasty a b (fun _ => rfl) (fun _ => rfl) la lb post hp)))
  obtain ⟨r, hX, hY⟩ := key
  exact hX _ (hY _ ⟨rfl, R⟩)
end
section
/-! literals -/
def ig_tm (n : Nat) (p : Int32) : Prop := ∃ a, p = nI a ∧ ig_TO n a
def ig_GL (c : ig_C) (p0 p1 p2 p3 : Int32) : Prop := ∃ sg q, p0 = nI sg ∧ sg ≤ 1 ∧ p1 = nI q ∧ q < ig_q c ∧ (1 ≤ ig_ar c q → ig_tm (ig_n c) p2) ∧ (2 ≤ ig_ar c q → ig_tm (ig_n c) p3)
theorem ig_tm_neg {n : Nat} {p : Int32} (hn : n ≤ 4) (h : p < 0) : ¬ ig_tm n p := by
  rintro ⟨a, rfl, t⟩
  have : a < 2 ^ 31 := by rcases t with z | z <;> omega
  exact nI_pos this h
theorem ig_tm_nI {n j : Nat} (hn : n ≤ 4) (hj : j < 2 ^ 31) : ig_tm n (nI j) ↔ ig_TO n j := by
  constructor
  · rintro ⟨a, e, t⟩
    have ha : a < 2 ^ 31 := by rcases t with z | z <;> omega
    rw [nI_eq hj ha] at e
    rw [e]; exact t
  · intro t; exact ⟨j, rfl, t⟩
section
variable {f_n f_verdict f_preds f_atoms f_count f_refs f_size f_trueMask f_falseMask : Int32} {a_arities a_starts a_atomPred a_atomFirst a_atomSecond a_lengths a_parts a_model a_ref a_kept a_closure a_posMask a_negMask a_chosen a_known a_decided a_savedTrue a_savedFalse a_group : Nat → Int32}
theorem ig_x_isTerm {post : Int32 → Prop} {n : Nat} {p : Int32} (hn : f_n = nI n) (n4 : n ≤ 4) (K1 : ig_tm n p → post 1) (K0 : ¬ ig_tm n p → post 0) : wpX_isTerm post (f_n, f_verdict, f_preds, f_atoms, f_count, f_refs, f_size, f_trueMask, f_falseMask, a_arities, a_starts, a_atomPred, a_atomFirst, a_atomSecond, a_lengths, a_parts, a_model, a_ref, a_kept, a_closure, a_posMask, a_negMask, a_chosen, a_known, a_decided, a_savedTrue, a_savedFalse, a_group) p := by
  unfold wpX_isTerm
  dsimp only
  refine br_c (fun z => ?_) (fun z => ?_)
  · unfold wX_isTerm_12
    refine br_t ?_ (K0 (ig_tm_neg n4 z))
    have a := Int32.lt_iff_toInt_lt.mp z
    have e4 : (4 : Int32).toInt = 4 := by decide
    have e0 : (0 : Int32).toInt = 0 := by decide
    exact Int32.lt_iff_toInt_lt.mpr (by omega)
  · obtain ⟨j, hj, rfl⟩ := nI_of z
    rw [ig_tm_nI n4 hj] at K1 K0
    refine pk_lt j n (fun y => K1 (Or.inl y)) (fun y => ?_) rfl hn
    unfold wX_isTerm_12
    refine pk_lt j 4 (fun y2 => K0 ?_) (fun y2 => pk_lt 6 j (fun y3 => K0 ?_) (fun y3 => K1 (Or.inr ⟨y2, y3⟩)))
    · rintro (q | q) <;> omega
    · rintro (q | q) <;> omega
theorem ig_x_bad {post : Int32 → Prop} {c : ig_C} {p0 p1 p2 p3 : Int32} (tx : ig_XT c f_n f_atoms a_arities a_starts a_lengths a_parts) (hq : f_preds = nI (ig_q c)) (w : ig_WF c) (K0 : ig_GL c p0 p1 p2 p3 → post 0) (K1 : ¬ ig_GL c p0 p1 p2 p3 → post 1) : wpX_badLiteral post (f_n, f_verdict, f_preds, f_atoms, f_count, f_refs, f_size, f_trueMask, f_falseMask, a_arities, a_starts, a_atomPred, a_atomFirst, a_atomSecond, a_lengths, a_parts, a_model, a_ref, a_kept, a_closure, a_posMask, a_negMask, a_chosen, a_known, a_decided, a_savedTrue, a_savedFalse, a_group) p0 p1 p2 p3 := by
  have hA10 := w.2.2.1
  have hqa := w.2.2.2.1
  unfold wpX_badLiteral
  dsimp only
  refine br_c (fun z => K1 ?_) (fun z => ?_)
  · rintro ⟨sg, q, rfl, h, _⟩
    exact nI_pos (by omega) z
  obtain ⟨sg, hsg, rfl⟩ := nI_of z
  refine pk_lt 1 sg (fun y => K1 ?_) (fun y => ?_)
  · rintro ⟨sg', q, e, h, _⟩
    rw [nI_eq hsg (by omega)] at e
    omega
  refine br_c (fun z1 => K1 ?_) (fun z1 => ?_)
  · rintro ⟨sg, q, _, _, rfl, h, _⟩
    exact nI_pos (by omega) z1
  obtain ⟨q, hq31, rfl⟩ := nI_of z1
  have uq : ig_GL c (nI sg) (nI q) p2 p3 → q < ig_q c ∧ (1 ≤ ig_ar c q → ig_tm (ig_n c) p2) ∧ (2 ≤ ig_ar c q → ig_tm (ig_n c) p3) := by
    rintro ⟨sg', q', _, _, e, h1, h2, h3⟩
    rw [nI_eq hq31 (by omega)] at e
    subst e
    exact ⟨h1, h2, h3⟩
  refine pk_lt q (ig_q c) (fun y1 => ?_) (fun y1 => K1 fun h => ?_) rfl hq
  · have r2 := (w.2.2.2.2.1 q y1).1
    have hin : vp_in (nI q) 10 := vp_in_nI (by omega) (by omega)
    rw [nI_clamp hq31, (tx.2.2.1 q y1).1]
    have rest : (1 ≤ ig_ar c q → ig_tm (ig_n c) p2) → wX_badLiteral_42 post (nI q) p3 f_n f_verdict f_preds f_atoms f_count f_refs f_size f_trueMask f_falseMask a_arities a_starts a_atomPred a_atomFirst a_atomSecond a_lengths a_parts a_model a_ref a_kept a_closure a_posMask a_negMask a_chosen a_known a_decided a_savedTrue a_savedFalse a_group := by
      intro h2
      unfold wX_badLiteral_42
      rw [nI_clamp hq31, (tx.2.2.1 q y1).1]
      refine ⟨hin, pk_le (ig_ar c q) 1 (fun y2 => K0 ⟨sg, q, rfl, y, rfl, y1, h2, fun h => by omega⟩) (fun y2 => ?_)⟩
      refine ig_x_isTerm tx.1 w.2.1 (fun t => br_f (by decide) (K0 ⟨sg, q, rfl, y, rfl, y1, h2, fun _ => t⟩)) (fun t => br_t rfl (K1 fun h => t ((uq h).2.2 (by omega))))
    refine ⟨hin, pk_le (ig_ar c q) 0 (fun y2 => rest fun h => by omega) (fun y2 => ?_)⟩
    exact ig_x_isTerm tx.1 w.2.1 (fun t => br_f (by decide) (rest fun _ => t)) (fun t => br_t rfl (K1 fun h => t ((uq h).2.1 (by omega))))
  · have := (uq h).1
    omega
end
section
variable {fy_n fy_predicates fy_atoms fy_closed fy_count fy_size fy_verdict fy_model : Int32} {ay_arities ay_first ay_lengths ay_data ay_instances ay_kept ay_refuters : Nat → Int32}
theorem ig_y_isTerm {post : Int32 → Prop} {n : Nat} {p : Int32} (hn : fy_n = nI n) (n4 : n ≤ 4) (K1 : ig_tm n p → post 1) (K0 : ¬ ig_tm n p → post 0) : wpY_isTerm post (fy_n, fy_predicates, fy_atoms, fy_closed, fy_count, fy_size, fy_verdict, fy_model, ay_arities, ay_first, ay_lengths, ay_data, ay_instances, ay_kept, ay_refuters) p := by
  unfold wpY_isTerm
  dsimp only
  refine br_c (fun z => ?_) (fun z => ?_)
  · unfold wY_isTerm_12
    refine br_t ?_ (K0 (ig_tm_neg n4 z))
    have a := Int32.lt_iff_toInt_lt.mp z
    have e4 : (4 : Int32).toInt = 4 := by decide
    have e0 : (0 : Int32).toInt = 0 := by decide
    exact Int32.lt_iff_toInt_lt.mpr (by omega)
  · obtain ⟨j, hj, rfl⟩ := nI_of z
    rw [ig_tm_nI n4 hj] at K1 K0
    refine pk_lt j n (fun y => K1 (Or.inl y)) (fun y => ?_) rfl hn
    unfold wY_isTerm_12
    refine pk_lt j 4 (fun y2 => K0 ?_) (fun y2 => pk_lt 6 j (fun y3 => K0 ?_) (fun y3 => K1 (Or.inr ⟨y2, y3⟩)))
    · rintro (q | q) <;> omega
    · rintro (q | q) <;> omega
theorem ig_y_bad {post : Int32 → Prop} {c : ig_C} {cnt : Nat} {p0 p1 p2 p3 : Int32} (ty : ig_YT c cnt fy_n fy_atoms fy_closed ay_arities ay_first ay_lengths ay_data) (hq : fy_predicates = nI (ig_q c)) (w : ig_WF c) (K0 : ig_GL c p0 p1 p2 p3 → post 0) (K1 : ¬ ig_GL c p0 p1 p2 p3 → post 1) : wpY_badLiteral post (fy_n, fy_predicates, fy_atoms, fy_closed, fy_count, fy_size, fy_verdict, fy_model, ay_arities, ay_first, ay_lengths, ay_data, ay_instances, ay_kept, ay_refuters) p0 p1 p2 p3 := by
  have hA10 := w.2.2.1
  have hqa := w.2.2.2.1
  unfold wpY_badLiteral
  dsimp only
  refine br_c (fun z => K1 ?_) (fun z => ?_)
  · rintro ⟨sg, q, rfl, h, _⟩
    exact nI_pos (by omega) z
  obtain ⟨sg, hsg, rfl⟩ := nI_of z
  refine pk_lt 1 sg (fun y => K1 ?_) (fun y => ?_)
  · rintro ⟨sg', q, e, h, _⟩
    rw [nI_eq hsg (by omega)] at e
    omega
  refine br_c (fun z1 => K1 ?_) (fun z1 => ?_)
  · rintro ⟨sg, q, _, _, rfl, h, _⟩
    exact nI_pos (by omega) z1
  obtain ⟨q, hq31, rfl⟩ := nI_of z1
  have uq : ig_GL c (nI sg) (nI q) p2 p3 → q < ig_q c ∧ (1 ≤ ig_ar c q → ig_tm (ig_n c) p2) ∧ (2 ≤ ig_ar c q → ig_tm (ig_n c) p3) := by
    rintro ⟨sg', q', _, _, e, h1, h2, h3⟩
    rw [nI_eq hq31 (by omega)] at e
    subst e
    exact ⟨h1, h2, h3⟩
  refine pk_lt q (ig_q c) (fun y1 => ?_) (fun y1 => K1 fun h => ?_) rfl hq
  · have r2 := (w.2.2.2.2.1 q y1).1
    have hin : vp_in (nI q) 10 := vp_in_nI (by omega) (by omega)
    rw [nI_clamp hq31, (ty.2.2.2.1 q y1).1]
    have rest : (1 ≤ ig_ar c q → ig_tm (ig_n c) p2) → wY_badLiteral_41 post (nI q) p3 fy_n fy_predicates fy_atoms fy_closed fy_count fy_size fy_verdict fy_model ay_arities ay_first ay_lengths ay_data ay_instances ay_kept ay_refuters := by
      intro h2
      unfold wY_badLiteral_41
      rw [nI_clamp hq31, (ty.2.2.2.1 q y1).1]
      refine ⟨hin, pk_eq (ig_ar c q) 2 (fun y2 => ?_) (fun y2 => K0 ⟨sg, q, rfl, y, rfl, y1, h2, fun h => by omega⟩)⟩
      refine ig_y_isTerm ty.1 w.2.1 (fun t => br_f (by decide) (K0 ⟨sg, q, rfl, y, rfl, y1, h2, fun _ => t⟩)) (fun t => br_t rfl (K1 fun h => t ((uq h).2.2 (by omega))))
    refine ⟨hin, pk_lt (ig_ar c q) 1 (fun y2 => rest fun h => by omega) (fun y2 => ?_)⟩
    exact ig_y_isTerm ty.1 w.2.1 (fun t => br_f (by decide) (rest fun _ => t)) (fun t => br_t rfl (K1 fun h => t ((uq h).2.1 (by omega))))
  · have := (uq h).1
    omega
end
/-- the length of the clause in hand set -/
def ig_ls (c : ig_C) (s l : Nat) : Nat → Nat := fun k => if k = s then l else ig_L c k
theorem ig_ls_Lk {c : ig_C} {cnt l s : Nat} (hs : s < cnt) (h4 : ig_L c s ≤ 4) : ig_Lk c s (ig_ls c cnt l) (ig_P c) s := by
  refine ⟨?_, h4, fun _ _ => rfl⟩
  unfold ig_ls
  rw [if_neg (by omega)]
theorem i_vc_discard {k : Nat} {u : SX} {v : SY} (I : i_Rel k u v) (hk : k + 5 ≤ 2561) : wpX_discard (fun r u' => wpY_discard (fun r' v' => r' = r ∧ i_Rel (k + 5) u' v') v) u := by
  refine ig_el (P := fun u v => wpX_discard (fun r u' => wpY_discard (fun r' v' => r' = r ∧ i_Rel (k + 5) u' v') v) u) I ?_
  intro f_n f_verdict f_preds f_atoms f_count f_refs f_size f_trueMask f_falseMask a_arities a_starts a_atomPred a_atomFirst a_atomSecond a_lengths a_parts a_model a_ref a_kept a_closure a_posMask a_negMask a_chosen a_known a_decided a_savedTrue a_savedFalse a_group fy_n fy_predicates fy_atoms fy_closed fy_count fy_size fy_verdict fy_model ay_arities ay_first ay_lengths ay_data ay_instances ay_kept ay_refuters c cnt g rx ry rv
  have h12 := g.2.1
  have lk : ∀ s, s < cnt → ig_Lk c s (ig_ls c cnt 0) (ig_P c) s := fun s hs => ig_ls_Lk hs (rx.1.2.2.2.1 s (by omega)).2
  have hin : vp_in (nI cnt) 23 := vp_in_nI (by omega) (by omega)
  have hin' : vp_in (nI cnt) 13 := vp_in_nI (by omega) (by omega)
  unfold wpX_discard wpY_discard
  dsimp only
  rw [rx.2.2.1, ry.1.2.2.1, nI_clamp (show cnt < 2 ^ 31 by omega), (rx.1.2.2.2.1 cnt (by omega)).1, (ry.1.2.2.2.2.1 cnt (by omega)).1]
  refine ⟨hin, nm_e ⟨hin, nm_e ⟨hin', nm_e ⟨hin', nm_e ⟨rfl, ?_⟩⟩⟩⟩⟩
  refine ig_mk (k + 5) (c := ig_w c (ig_ls c cnt 0) (ig_P c)) (cnt := cnt) ⟨g.1, g.2.1, fun s hs => ?_, fun s hs => ?_, ?_⟩ ⟨⟨rx.1.1, rx.1.2.1, rx.1.2.2.1, fun s hs => ?_, rx.1.2.2.2.2⟩, rx.2.1, rfl, rx.2.2.2.1, rx.2.2.2.2⟩
    ⟨⟨ry.1.1, ry.1.2.1, rfl, ry.1.2.2.2.1, fun s hs => ?_, ry.1.2.2.2.2.2⟩, ry.2.1, ig_w_YI lk ry.2.2⟩ (ig_w_RV lk rv)
  · show 1 ≤ ig_ls c cnt 0 s
    rw [(lk s hs).1]; exact g.2.2.1 s hs
  · rcases (show s < cnt ∨ s = cnt by omega) with z | z
    · exact ig_w_CO (lk s z) (g.2.2.2.1 s hs)
    · subst z
      have e : ig_ls c s 0 s = 0 := if_pos rfl
      refine ⟨?_, fun q hq => ?_⟩
      · show ig_ls c s 0 s ≤ 4; omega
      · have hq : q < ig_ls c s 0 s := hq
        omega
  · rw [ig_w_sw lk]; exact g.2.2.2.2
  · show _ = nI (ig_ls c cnt 0 s) ∧ ig_ls c cnt 0 s ≤ 4
    unfold ig_ls
    by_cases e : s = cnt
    · rw [if_pos e, e, pk_us]; exact ⟨rfl, by omega⟩
    · rw [if_neg e, pk_un e]; exact rx.1.2.2.2.1 s hs
  · show _ = nI (ig_ls c cnt 0 s) ∧ ig_ls c cnt 0 s ≤ 4
    unfold ig_ls
    by_cases e : s = cnt
    · rw [if_pos e, e, pk_us]; exact ⟨rfl, by omega⟩
    · rw [if_neg e, pk_un e]; exact ry.1.2.2.2.2.1 s hs
end
section
/-! literal, close -/
theorem ig_pt_up {c : ig_C} {i sg q a b N : Nat} {arr : Nat → Int32} {z0 z1 : Int32} (h : ∀ k, k < N → arr k = nI (ig_P c k) ∧ ig_P c k < 16) (hsg : sg < 16) (hq : q < 16) (h0 : z0 = nI (if ig_ar c q ≤ 0 then 0 else a) ∧ (if ig_ar c q ≤ 0 then 0 else a) < 16) (h1 : z1 = nI (if ig_ar c q ≤ 1 then 0 else b) ∧ (if ig_ar c q ≤ 1 then 0 else b) < 16) :
    ∀ k, k < N → upd (upd (upd (upd arr i (nI sg)) (i + 1) (nI q)) (i + 2) z0) (i + 3) z1 k = nI (ig_pt c i sg q a b k) ∧ ig_pt c i sg q a b k < 16 := by
  intro k hk
  obtain ⟨v0, v1, v2, v3⟩ := ig_pt_v c i sg q a b
  by_cases k3 : k = i + 3
  · subst k3; rw [pk_us, v3]; exact h1
  rw [pk_un k3]
  by_cases k2 : k = i + 2
  · subst k2; rw [pk_us, v2]; exact h0
  rw [pk_un k2]
  by_cases k1 : k = i + 1
  · subst k1; rw [pk_us, v1]; exact ⟨rfl, hq⟩
  rw [pk_un k1]
  by_cases k0 : k = i
  · subst k0; rw [pk_us, v0]; exact ⟨rfl, hsg⟩
  rw [pk_un k0, ig_pt_o (by omega)]
  exact h k hk
section
variable {fy_n fy_predicates fy_atoms fy_closed fy_count fy_size fy_verdict fy_model : Int32} {ay_arities ay_first ay_lengths ay_data ay_instances ay_kept ay_refuters : Nat → Int32}
theorem ig_y_lput {post : Int32 → SY → Prop} {c : ig_C} {cnt : Nat} (ty : ig_YT c cnt fy_n fy_atoms fy_closed ay_arities ay_first ay_lengths ay_data) (w : ig_WF c) (h12 : cnt ≤ 12) (hL : ig_L c cnt < 4) {sg q a b : Nat} {pa pb : Int32} (hsg : sg ≤ 1) (hq : q < ig_q c) (ha : 1 ≤ ig_ar c q → pa = nI a ∧ a < 16) (hb : 2 ≤ ig_ar c q → pb = nI b ∧ b < 16)
    (K : ∀ le' da', ig_YT (ig_w c (ig_ls c cnt (ig_L c cnt + 1)) (ig_pt c (cnt * 16 + ig_L c cnt * 4) sg q a b)) cnt fy_n fy_atoms fy_closed ay_arities ay_first le' da' → post (nI (ig_L c cnt + 1)) (fy_n, fy_predicates, fy_atoms, fy_closed, fy_count, fy_size, fy_verdict, fy_model, ay_arities, ay_first, le', da', ay_instances, ay_kept, ay_refuters)) :
    vp_in (nI (cnt * 16 + ig_L c cnt * 4)) 208 ∧ ∀ a_data_23 : Nat → Int32, a_data_23 = upd ay_data (nI (cnt * 16 + ig_L c cnt * 4)).toNatClampNeg (nI sg) → (vp_in (nI (cnt * 16 + ig_L c cnt * 4) + 1) 208 ∧ ∀ a_data_25 : Nat → Int32, a_data_25 = upd a_data_23 (nI (cnt * 16 + ig_L c cnt * 4) + 1).toNatClampNeg (nI q) → (vp_in (nI q) 10 ∧
      (((ay_arities (nI q).toNatClampNeg) < 1 → (wY_literal_92 post (nI q) pb (nI (cnt * 16 + ig_L c cnt * 4)) 0 (nI (cnt * 16 + ig_L c cnt * 4) + 2) fy_n fy_predicates fy_atoms fy_closed fy_count fy_size fy_verdict fy_model ay_arities ay_first ay_lengths a_data_25 ay_instances ay_kept ay_refuters)) ∧ (¬ (ay_arities (nI q).toNatClampNeg) < 1 → (wY_literal_92 post (nI q) pb (nI (cnt * 16 + ig_L c cnt * 4)) pa (nI (cnt * 16 + ig_L c cnt * 4) + 2) fy_n fy_predicates fy_atoms fy_closed fy_count fy_size fy_verdict fy_model ay_arities ay_first ay_lengths a_data_25 ay_instances ay_kept ay_refuters))))) := by
  have q10 := ig_q10 w hq
  have iq : vp_in (nI q) 10 := vp_in_nI q10 (by omega)
  have r2 := (w.2.2.2.2.1 q hq).1
  have ea := (ty.2.2.2.1 q hq).1
  have ec := ty.2.2.1
  have el := (ty.2.2.2.2.1 cnt (by omega)).1
  have hc : vp_in (nI cnt) 13 := vp_in_nI (by omega) (by omega)
  generalize hi : cnt * 16 + ig_L c cnt * 4 = i at *
  have e1 : nI i + 1 = nI (i + 1) := nI_add i 1
  have e2 : nI i + 2 = nI (i + 2) := nI_add i 2
  have e3 : nI i + 3 = nI (i + 3) := nI_add i 3
  rw [e1, e2, nI_clamp (show i < 2 ^ 31 by omega), nI_clamp (show i + 1 < 2 ^ 31 by omega), nI_clamp (show q < 2 ^ 31 by omega), ea]
  refine ⟨vp_in_nI (by omega) (by omega), nm_e ⟨vp_in_nI (by omega) (by omega), nm_e ⟨iq, ?_⟩⟩⟩
  have lg : ∀ da', (∀ k, k < 208 → da' k = nI (ig_pt c i sg q a b k) ∧ ig_pt c i sg q a b k < 16) → ig_YT (ig_w c (ig_ls c cnt (ig_L c cnt + 1)) (ig_pt c i sg q a b)) cnt fy_n fy_atoms fy_closed ay_arities ay_first (upd ay_lengths cnt (nI (ig_L c cnt + 1))) da' := by
    intro da' hd
    refine ⟨ty.1, ty.2.1, ty.2.2.1, ty.2.2.2.1, fun s hs => ?_, hd⟩
    show _ = nI (ig_ls c cnt (ig_L c cnt + 1) s) ∧ ig_ls c cnt (ig_L c cnt + 1) s ≤ 4
    unfold ig_ls
    by_cases e : s = cnt
    · rw [if_pos e, e, pk_us]; exact ⟨rfl, by omega⟩
    · rw [if_neg e, pk_un e]; exact ty.2.2.2.2.1 s hs
  have t117 : ∀ (z0 z1 : Int32), (z0 = nI (if ig_ar c q ≤ 0 then 0 else a) ∧ (if ig_ar c q ≤ 0 then 0 else a) < 16) → (z1 = nI (if ig_ar c q ≤ 1 then 0 else b) ∧ (if ig_ar c q ≤ 1 then 0 else b) < 16) → wY_literal_117 post z1 (nI (i + 3)) fy_n fy_predicates fy_atoms fy_closed fy_count fy_size fy_verdict fy_model ay_arities ay_first ay_lengths (upd (upd (upd ay_data i (nI sg)) (i + 1) (nI q)) (i + 2) z0) ay_instances ay_kept ay_refuters := by
    intro z0 z1 h0 h1
    unfold wY_literal_117
    rw [ec, nI_clamp (show i + 3 < 2 ^ 31 by omega), nI_clamp (show cnt < 2 ^ 31 by omega), el, nI_1]
    rw [ec] at K lg
    exact ⟨vp_in_nI (by omega) (by omega), nm_e ⟨hc, hc, nm_e (K _ _ (lg _ (ig_pt_up ty.2.2.2.2.2 (by omega) (by omega) h0 h1)))⟩⟩
  have t92 : ∀ z0 : Int32, (z0 = nI (if ig_ar c q ≤ 0 then 0 else a) ∧ (if ig_ar c q ≤ 0 then 0 else a) < 16) → wY_literal_92 post (nI q) pb (nI i) z0 (nI (i + 2)) fy_n fy_predicates fy_atoms fy_closed fy_count fy_size fy_verdict fy_model ay_arities ay_first ay_lengths (upd (upd ay_data i (nI sg)) (i + 1) (nI q)) ay_instances ay_kept ay_refuters := by
    intro z0 h0
    unfold wY_literal_92
    rw [e3, nI_clamp (show i + 2 < 2 ^ 31 by omega), nI_clamp (show q < 2 ^ 31 by omega), ea]
    refine ⟨vp_in_nI (by omega) (by omega), nm_e ⟨iq, pk_eq (ig_ar c q) 2 (fun z => t117 _ _ h0 ?_) (fun z => t117 _ _ h0 ?_)⟩⟩
    · rw [if_neg (by omega)]; exact hb (by omega)
    · rw [if_pos (by omega)]; exact ⟨rfl, by omega⟩
  refine pk_lt (ig_ar c q) 1 (fun z => t92 _ ?_) (fun z => t92 _ ?_)
  · rw [if_pos (by omega)]; exact ⟨rfl, by omega⟩
  · rw [if_neg (by omega)]; exact ha (by omega)
end
theorem i_vc_literal {k : Nat} {u : SX} {v : SY} (I : i_Rel k u v) (hk : k + 5 ≤ 2561) (v1 : Int32) (v2 : Int32) (v3 : Int32) (v4 : Int32) : wpX_literal (fun r u' => wpY_literal (fun r' v' => r' = r ∧ i_Rel (k + 5) u' v') v v1 v2 v3 v4) u v1 v2 v3 v4 := by
  refine ig_el (P := fun u v => wpX_literal (fun r u' => wpY_literal (fun r' v' => r' = r ∧ i_Rel (k + 5) u' v') v v1 v2 v3 v4) u v1 v2 v3 v4) I ?_
  intro f_n f_verdict f_preds f_atoms f_count f_refs f_size f_trueMask f_falseMask a_arities a_starts a_atomPred a_atomFirst a_atomSecond a_lengths a_parts a_model a_ref a_kept a_closure a_posMask a_negMask a_chosen a_known a_decided a_savedTrue a_savedFalse a_group fy_n fy_predicates fy_atoms fy_closed fy_count fy_size fy_verdict fy_model ay_arities ay_first ay_lengths ay_data ay_instances ay_kept ay_refuters c cnt g rx ry rv
  have R := ig_mk (k + 5) (f_trueMask := f_trueMask) (f_falseMask := f_falseMask) (a_kept := a_kept) (a_posMask := a_posMask) (a_negMask := a_negMask) (a_chosen := a_chosen) (a_decided := a_decided) (a_savedTrue := a_savedTrue) (a_savedFalse := a_savedFalse) (a_group := a_group) (ay_kept := ay_kept) g rx ry rv
  have h12 := g.2.1
  have hn4 := g.1.2.1
  unfold wpX_literal
  dsimp only
  refine ig_x_bad rx.1 rx.2.1 g.1 (fun gl => br_t rfl ?_) (fun gl => br_f (by decide) ?_)
  case _ =>
    have hin : vp_in (nI cnt) 23 := vp_in_nI (by omega) (by omega)
    have hin' : vp_in (nI cnt) 13 := vp_in_nI (by omega) (by omega)
    have ecx := rx.2.2.1
    subst ecx
    rw [nI_clamp (show cnt < 2 ^ 31 by omega), (rx.1.2.2.2.1 cnt (by omega)).1]
    have l4 := (rx.1.2.2.2.1 cnt (by omega)).2
    refine ⟨hin, pk_lt (ig_L c cnt) 4 (fun y => ⟨hin, nm_r (e' := nI (cnt * 16 + ig_L c cnt * 4)) ?_ ?_⟩) (fun y => ?_)⟩
    · show nI cnt * nI 16 + nI (ig_L c cnt) * nI 4 = _
      rw [pk_mul, pk_mul, nI_add]
    · have gl0 := gl
      obtain ⟨sg, q, rfl, hsg, rfl, hq, h2, h3⟩ := gl
      obtain ⟨a, ha⟩ : ∃ a, 1 ≤ ig_ar c q → v3 = nI a ∧ ig_TO (ig_n c) a := by
        by_cases z : 1 ≤ ig_ar c q
        · obtain ⟨a, h⟩ := h2 z; exact ⟨a, fun _ => h⟩
        · exact ⟨0, fun h => (z h).elim⟩
      obtain ⟨b, hb⟩ : ∃ b, 2 ≤ ig_ar c q → v4 = nI b ∧ ig_TO (ig_n c) b := by
        by_cases z : 2 ≤ ig_ar c q
        · obtain ⟨b, h⟩ := h3 z; exact ⟨b, fun _ => h⟩
        · exact ⟨0, fun h => (z h).elim⟩
      have ha' : 1 ≤ ig_ar c q → v3 = nI a ∧ a < 16 := fun h => ⟨(ha h).1, by rcases (ha h).2 with z | z <;> omega⟩
      have hb' : 2 ≤ ig_ar c q → v4 = nI b ∧ b < 16 := fun h => ⟨(hb h).1, by rcases (hb h).2 with z | z <;> omega⟩
      refine ig_x_put rx.1 g.1 (by omega) (by omega) hq ha' hb' ?_
      intro pa' t'
      dsimp only
      rw [nI_clamp (show cnt < 2 ^ 31 by omega), (rx.1.2.2.2.1 cnt (by omega)).1, nI_1 (ig_L c cnt)]
      refine ⟨hin, hin, nm_e ⟨hin, ?_⟩⟩
      rw [pk_us]
      unfold wpY_literal
      dsimp only
      refine ig_y_bad ry.1 ry.2.1 g.1 (fun _ => br_t rfl ?_) (fun gl => (gl gl0).elim)
      have ecy := ry.1.2.2.1
      subst ecy
      have hlen := (ry.1.2.2.2.2.1 cnt (by omega)).1
      have ln : (nI cnt).toNatClampNeg = cnt := nI_clamp (by omega)
      have hle : ay_lengths (nI cnt).toNatClampNeg = nI (ig_L c cnt) := by rw [ln]; exact hlen
      rw [hle]
      refine ⟨hin', br_t (nI_lt (b := 4) y (by omega)) ⟨hin', nm_r (e' := nI (cnt * 16 + ig_L c cnt * 4)) ?_ ?_⟩⟩
      · show nI cnt * nI 16 + nI (ig_L c cnt) * nI 4 = _
        rw [pk_mul, pk_mul, nI_add]
      · refine ig_y_lput ry.1 g.1 h12 y hsg hq ha' hb' fun le' da' ty' => ⟨rfl, ?_⟩
        have lk : ∀ s, s < cnt → ig_Lk c s (ig_ls c cnt (ig_L c cnt + 1)) (ig_pt c (cnt * 16 + ig_L c cnt * 4) sg q a b) s := by
          intro s hs
          refine ⟨?_, (rx.1.2.2.2.1 s (by omega)).2, fun k hk => ig_pt_o (by omega)⟩
          unfold ig_ls
          rw [if_neg (by omega)]
        refine ig_mk (k + 5) (c := ig_w c (ig_ls c cnt (ig_L c cnt + 1)) (ig_pt c (cnt * 16 + ig_L c cnt * 4) sg q a b)) (cnt := cnt) ⟨g.1, h12, fun s hs => ?_, fun s hs => ?_, ?_⟩ ⟨⟨t'.1, t'.2.1, t'.2.2.1, fun s hs => ?_, t'.2.2.2.2⟩, rx.2.1, rfl, rx.2.2.2.1, rx.2.2.2.2⟩ ⟨ty', ry.2.1, ig_w_YI lk ry.2.2⟩ (ig_w_RV lk rv)
        · show 1 ≤ ig_ls c cnt (ig_L c cnt + 1) s
          rw [(lk s hs).1]; exact g.2.2.1 s hs
        · rcases (show s < cnt ∨ s = cnt by omega) with z | z
          · exact ig_w_CO (lk s z) (g.2.2.2.1 s hs)
          · subst z
            have e : ig_ls c s (ig_L c s + 1) s = ig_L c s + 1 := if_pos rfl
            refine ⟨?_, fun r hr => ?_⟩
            · show ig_ls c s (ig_L c s + 1) s ≤ 4; omega
            · have hr : r < ig_ls c s (ig_L c s + 1) s := hr
              rcases (show r < ig_L c s ∨ r = ig_L c s by omega) with q1 | q1
              · have l := (g.2.2.2.1 s hs).2 r q1
                have p0 : ig_pt c (s * 16 + ig_L c s * 4) sg q a b (s * 16 + r * 4) = ig_P c (s * 16 + r * 4) := ig_pt_o (by omega)
                have p1 : ig_pt c (s * 16 + ig_L c s * 4) sg q a b (s * 16 + r * 4 + 1) = ig_P c (s * 16 + r * 4 + 1) := ig_pt_o (by omega)
                have p2 : ig_pt c (s * 16 + ig_L c s * 4) sg q a b (s * 16 + r * 4 + 2) = ig_P c (s * 16 + r * 4 + 2) := ig_pt_o (by omega)
                have p3 : ig_pt c (s * 16 + ig_L c s * 4) sg q a b (s * 16 + r * 4 + 3) = ig_P c (s * 16 + r * 4 + 3) := ig_pt_o (by omega)
                unfold ig_LO at l ⊢
                rw [← p0, ← p1, ← p2, ← p3] at l
                exact l
              · subst q1
                exact ig_pt_LO g.1 hsg hq (fun h => (ha h).2) (fun h => (hb h).2)
        · rw [ig_w_sw lk]; exact g.2.2.2.2
        · show _ = nI (ig_ls c cnt (ig_L c cnt + 1) s) ∧ ig_ls c cnt (ig_L c cnt + 1) s ≤ 4
          unfold ig_ls
          by_cases e : s = cnt
          · rw [if_pos e, e, pk_us]; exact ⟨rfl, by omega⟩
          · rw [if_neg e, pk_un e]; exact rx.1.2.2.2.1 s hs
    · unfold wpY_literal
      dsimp only
      refine ig_y_bad ry.1 ry.2.1 g.1 (fun _ => br_t rfl ?_) (fun gl' => (gl' gl).elim)
      have ecy := ry.1.2.2.1
      subst ecy
      have hle : ay_lengths (nI cnt).toNatClampNeg = nI (ig_L c cnt) := by rw [nI_clamp (show cnt < 2 ^ 31 by omega)]; exact (ry.1.2.2.2.2.1 cnt (by omega)).1
      rw [hle]
      exact ⟨hin', br_f (nI_nlt (b := 4) y (by omega)) ⟨rfl, R⟩⟩
  case _ =>
    unfold wpY_literal
    dsimp only
    exact ig_y_bad ry.1 ry.2.1 g.1 (fun gl' => (gl gl').elim) (fun _ => br_f (by decide) ⟨rfl, R⟩)
end
section
/-! close -/
theorem ig_wy_le : ∀ n, n < 5 → ∀ o4 o5 o6 : Bool, ig_wy n o4 o5 o6 ≤ 64 := by decide +kernel
theorem ig_ws_le {c : ig_C} (w : ig_WF c) (s : Nat) : ig_ws c s ≤ 64 := ig_wy_le _ (by have := w.2.1; omega) _ _ _
section
variable {f_n f_verdict f_preds f_atoms f_count f_refs f_size f_trueMask f_falseMask : Int32} {a_arities a_starts a_atomPred a_atomFirst a_atomSecond a_lengths a_parts a_model a_ref a_kept a_closure a_posMask a_negMask a_chosen a_known a_decided a_savedTrue a_savedFalse a_group : Nat → Int32}
theorem ig_x_close30 {post : Int32 → SX → Prop} {c : ig_C} {cnt : Nat} (tx : ig_XT c f_n f_atoms a_arities a_starts a_lengths a_parts) (g : ig_Gd c cnt) (hcnt : f_count = nI cnt) (hc : cnt < 12)
    (K1 : ig_sw c (cnt + 1) ≤ 48 → post (nI cnt) (f_n, 0, f_preds, f_atoms, nI (cnt + 1), f_refs, f_size, f_trueMask, f_falseMask, a_arities, a_starts, a_atomPred, a_atomFirst, a_atomSecond, upd a_lengths (cnt + 1) 0, a_parts, a_model, a_ref, a_kept, a_closure, a_posMask, a_negMask, a_chosen, a_known, a_decided, a_savedTrue, a_savedFalse, a_group)) (K0 : 48 < ig_sw c (cnt + 1) → post (-2) (f_n, f_verdict, f_preds, f_atoms, f_count, f_refs, f_size, f_trueMask, f_falseMask, a_arities, a_starts, a_atomPred, a_atomFirst, a_atomSecond, a_lengths, a_parts, a_model, a_ref, a_kept, a_closure, a_posMask, a_negMask, a_chosen, a_known, a_decided, a_savedTrue, a_savedFalse, a_group)) :
    ∀ d s, s + d = cnt + 1 → wX_close_30 post f_n f_verdict f_preds f_atoms f_count f_refs f_size f_trueMask f_falseMask a_arities a_starts a_atomPred a_atomFirst a_atomSecond a_lengths a_parts a_model a_ref a_kept a_closure a_posMask a_negMask a_chosen a_known a_decided a_savedTrue a_savedFalse a_group (d + 1) (nI (ig_sw c s)) (nI s) := by
  have h48 := g.2.2.2.2
  have e1 : ig_sw c (cnt + 1) = ig_sw c cnt + ig_ws c cnt := rfl
  have w64 := ig_ws_le g.1 cnt
  subst hcnt
  intro d
  induction d with
  | zero =>
    intro s hs
    have e : s = cnt + 1 := by omega
    subst e
    rw [wX_close_30]
    dsimp only
    refine br_t (nI_lt (by omega) (by omega)) (pk_le (ig_sw c (cnt + 1)) 48 (fun z => nm_r (nI_1 cnt) ?_) (fun z => K0 z))
    rw [nI_clamp (show cnt + 1 < 2 ^ 31 by omega), nI_pred]
    exact ⟨vp_in_nI (by omega) (by omega), nm_e (K1 z)⟩
  | succ d ih =>
    intro s hs
    rw [wX_close_30]
    dsimp only
    refine br_f (nI_nlt (by omega) (by omega)) (ig_x_vo tx g.1 (by omega) (g.2.2.2.1 s (by omega)) (ig_x_ways _ _ _ tx.1 ?_))
    exact nm_r (nI_add _ _) (nm_r (nI_1 s) (ih (s + 1) (by omega)))
end
theorem i_vc_close {k : Nat} {u : SX} {v : SY} (I : i_Rel k u v) (hk : k + 5 ≤ 2561) : wpX_close (fun r u' => wpY_close (fun r' v' => r' = r ∧ i_Rel (k + 5) u' v') v) u := by
  refine ig_el (P := fun u v => wpX_close (fun r u' => wpY_close (fun r' v' => r' = r ∧ i_Rel (k + 5) u' v') v) u) I ?_
  intro f_n f_verdict f_preds f_atoms f_count f_refs f_size f_trueMask f_falseMask a_arities a_starts a_atomPred a_atomFirst a_atomSecond a_lengths a_parts a_model a_ref a_kept a_closure a_posMask a_negMask a_chosen a_known a_decided a_savedTrue a_savedFalse a_group fy_n fy_predicates fy_atoms fy_closed fy_count fy_size fy_verdict fy_model ay_arities ay_first ay_lengths ay_data ay_instances ay_kept ay_refuters c cnt g rx ry rv
  have R := ig_mk (k + 5) (f_trueMask := f_trueMask) (f_falseMask := f_falseMask) (a_kept := a_kept) (a_posMask := a_posMask) (a_negMask := a_negMask) (a_chosen := a_chosen) (a_decided := a_decided) (a_savedTrue := a_savedTrue) (a_savedFalse := a_savedFalse) (a_group := a_group) (ay_kept := ay_kept) g rx ry rv
  have h12 := g.2.1
  have h48 := g.2.2.2.2
  have w64 := ig_ws_le g.1 cnt
  have e1 : ig_sw c (cnt + 1) = ig_sw c cnt + ig_ws c cnt := rfl
  have hin : vp_in (nI cnt) 23 := vp_in_nI (by omega) (by omega)
  have hin' : vp_in (nI cnt) 13 := vp_in_nI (by omega) (by omega)
  have lx := rx.1.2.2.2.1 cnt (by omega)
  have ly := ry.1.2.2.2.2.1 cnt (by omega)
  have ecx := rx.2.2.1
  have ecy := ry.1.2.2.1
  have eq := ry.2.2.1
  subst ecx
  subst ecy
  subst eq
  have cl : (nI cnt).toNatClampNeg = cnt := nI_clamp (by omega)
  have hxl : a_lengths (nI cnt).toNatClampNeg = nI (ig_L c cnt) := by rw [cl]; exact lx.1
  have hyl : ay_lengths (nI cnt).toNatClampNeg = nI (ig_L c cnt) := by rw [cl]; exact ly.1
  unfold wpX_close wpY_close
  dsimp only
  rw [hxl, hyl]
  refine ⟨hin, pk_eq (ig_L c cnt) 0 (fun z => ⟨hin', br_t (by rw [z]; rfl) ⟨rfl, R⟩⟩) (fun z => ?_)⟩
  have zn : ¬ nI (ig_L c cnt) = 0 := nI_ne0 (by omega) (by omega)
  refine pk_lt cnt 12 (fun y => ⟨cnt + 1 + 1, ?_⟩) (fun y => ⟨hin', br_f zn (br_f (nI_nlt (b := 12) y (by omega)) ⟨rfl, R⟩)⟩)
  refine ig_x_close30 rx.1 g rfl y (fun h => ?_) (fun h => ?_) (cnt + 1) 0 (by omega)
  · refine ⟨hin', br_f zn (br_t (nI_lt (b := 12) y (by omega)) (ig_y_close33 ry.1 g.1 h12 h48 ⟨1, ?_⟩))⟩
    rw [wY_close_33]
    dsimp only
    refine br_t (by decide) (br_t (nI_le (b := 48) (by omega) (by omega)) (nm_r (nI_1 cnt) ?_))
    rw [nI_clamp (show cnt + 1 < 2 ^ 31 by omega)]
    refine ⟨vp_in_nI (by omega) (by omega), nm_e ?_⟩
    have lk : ∀ s, s < cnt + 1 → ig_Lk c s (ig_ls c (cnt + 1) 0) (ig_P c) s := fun s hs => ig_ls_Lk hs (rx.1.2.2.2.1 s (by omega)).2
    have el : ig_ls c (cnt + 1) 0 (cnt + 1) = 0 := if_pos rfl
    have g' : ig_Gd (ig_w c (ig_ls c (cnt + 1) 0) (ig_P c)) (cnt + 1) := by
      refine ⟨g.1, by omega, fun s hs => ?_, fun s hs => ?_, ?_⟩
      · show 1 ≤ ig_ls c (cnt + 1) 0 s
        rw [(lk s hs).1]
        rcases (show s < cnt ∨ s = cnt by omega) with q | q
        · exact g.2.2.1 s q
        · subst q; omega
      · rcases (show s < cnt + 1 ∨ s = cnt + 1 by omega) with q | q
        · exact ig_w_CO (lk s q) (g.2.2.2.1 s (by omega))
        · subst q
          refine ⟨?_, fun q hq => ?_⟩
          · show ig_ls c (cnt + 1) 0 (cnt + 1) ≤ 4; omega
          · have hq : q < ig_ls c (cnt + 1) 0 (cnt + 1) := hq
            omega
      · rw [ig_w_sw lk]; exact h
    refine ig_y_cc (c := ig_w c (ig_ls c (cnt + 1) 0) (ig_P c)) (cnt := cnt + 1) ⟨ry.1.1, ry.1.2.1, rfl, ry.1.2.2.2.1, fun s hs => ?_, ry.1.2.2.2.2.2⟩ g' fun ins' yi' => ?_
    · show _ = nI (ig_ls c (cnt + 1) 0 s) ∧ ig_ls c (cnt + 1) 0 s ≤ 4
      unfold ig_ls
      by_cases e : s = cnt + 1
      · rw [if_pos e, e, pk_us]; exact ⟨rfl, by omega⟩
      · rw [if_neg e, pk_un e]; exact ry.1.2.2.2.2.1 s hs
    · dsimp only
      refine ⟨nI_pred cnt, ig_mk (k + 5) g' ⟨⟨rx.1.1, rx.1.2.1, rx.1.2.2.1, fun s hs => ?_, rx.1.2.2.2.2⟩, rx.2.1, rfl, rx.2.2.2.1, rx.2.2.2.2⟩ ⟨⟨ry.1.1, ry.1.2.1, rfl, ry.1.2.2.2.1, fun s hs => ?_, ry.1.2.2.2.2.2⟩, ry.2.1, yi'⟩ ig_RV0⟩
      · show _ = nI (ig_ls c (cnt + 1) 0 s) ∧ ig_ls c (cnt + 1) 0 s ≤ 4
        unfold ig_ls
        by_cases e : s = cnt + 1
        · rw [if_pos e, e, pk_us]; exact ⟨rfl, by omega⟩
        · rw [if_neg e, pk_un e]; exact rx.1.2.2.2.1 s hs
      · show _ = nI (ig_ls c (cnt + 1) 0 s) ∧ ig_ls c (cnt + 1) 0 s ≤ 4
        unfold ig_ls
        by_cases e : s = cnt + 1
        · rw [if_pos e, e, pk_us]; exact ⟨rfl, by omega⟩
        · rw [if_neg e, pk_un e]; exact ry.1.2.2.2.2.1 s hs
  · refine ⟨hin', br_f zn (br_t (nI_lt (b := 12) y (by omega)) (ig_y_close33 ry.1 g.1 h12 h48 ⟨1, ?_⟩))⟩
    rw [wY_close_33]
    dsimp only
    exact br_t (by decide) (br_f (nI_ge (a := 48) (by omega) (by omega)) ⟨rfl, R⟩)
/-! retract -/
def ig_sh (f : Nat → Nat) (d lo hi k : Nat) : Nat := if lo ≤ k ∧ k < hi then f (k + d) else f k
theorem ig_sh_up {arr : Nat → Int32} {f : Nat → Nat} {d lo hi N : Nat} (h : ∀ k, k < N → arr k = nI (ig_sh f d lo hi k)) (hl : lo ≤ hi) (hN : hi + d < N) : ∀ k, k < N → upd arr hi (arr (hi + d)) k = nI (ig_sh f d lo (hi + 1) k) := by
  intro k hk
  by_cases e : k = hi
  · subst e
    rw [pk_us, h _ hN]
    unfold ig_sh
    rw [if_neg (by omega), if_pos ⟨hl, by omega⟩]
  · rw [pk_un e, h k hk]
    unfold ig_sh
    by_cases z : lo ≤ k ∧ k < hi
    · rw [if_pos z, if_pos ⟨z.1, by omega⟩]
    · rw [if_neg z, if_neg (by omega)]
theorem ig_sh_0 {f : Nat → Nat} {d lo : Nat} (k : Nat) : ig_sh f d lo lo k = f k := by
  unfold ig_sh
  rw [if_neg (by omega)]
section
variable {f_n f_verdict f_preds f_atoms f_count f_refs f_size f_trueMask f_falseMask : Int32} {a_arities a_starts a_atomPred a_atomFirst a_atomSecond a_lengths a_parts a_model a_ref a_kept a_closure a_posMask a_negMask a_chosen a_known a_decided a_savedTrue a_savedFalse a_group : Nat → Int32}
theorem ig_x_retract16 {post : Int32 → SX → Prop} {L P : Nat → Nat} {j cnt : Nat} (h12 : cnt ≤ 12) (hj : j < cnt)
    (K : ∀ le' pa', (∀ s, s < 23 → le' s = nI (ig_sh L 1 j cnt s)) → (∀ k, k < 368 → pa' k = nI (ig_sh P 16 (j * 16) (cnt * 16) k)) → post (nI (cnt - 1)) (f_n, 0, f_preds, f_atoms, nI (cnt - 1), f_refs, f_size, f_trueMask, f_falseMask, a_arities, a_starts, a_atomPred, a_atomFirst, a_atomSecond, le', pa', a_model, a_ref, a_kept, a_closure, a_posMask, a_negMask, a_chosen, a_known, a_decided, a_savedTrue, a_savedFalse, a_group)) :
    ∀ d s, s + d = cnt → j ≤ s → ∀ a_lengths a_parts : Nat → Int32, (∀ i, i < 23 → a_lengths i = nI (ig_sh L 1 j s i)) → (∀ k, k < 368 → a_parts k = nI (ig_sh P 16 (j * 16) (s * 16) k)) →
      wX_retract_16 post f_n f_verdict f_preds f_atoms (nI cnt) f_refs f_size f_trueMask f_falseMask (d + 1) (nI s) a_arities a_starts a_atomPred a_atomFirst a_atomSecond a_lengths a_parts a_model a_ref a_kept a_closure a_posMask a_negMask a_chosen a_known a_decided a_savedTrue a_savedFalse a_group := by
  have inner : ∀ (J : Int32 → (Nat → Int32) → (Nat → Int32) → (Nat → Int32) → (Nat → Int32) → (Nat → Int32) → (Nat → Int32) → (Nat → Int32) → (Nat → Int32) → (Nat → Int32) → (Nat → Int32) → (Nat → Int32) → (Nat → Int32) → (Nat → Int32) → (Nat → Int32) → (Nat → Int32) → (Nat → Int32) → (Nat → Int32) → (Nat → Int32) → (Nat → Int32) → Prop) (s : Nat) (a_lengths : Nat → Int32), s < cnt → j ≤ s →
      (∀ pa', (∀ k, k < 368 → pa' k = nI (ig_sh P 16 (j * 16) ((s + 1) * 16) k)) → J (nI (s + 1)) a_arities a_starts a_atomPred a_atomFirst a_atomSecond a_lengths pa' a_model a_ref a_kept a_closure a_posMask a_negMask a_chosen a_known a_decided a_savedTrue a_savedFalse a_group) →
      ∀ d t, t + d = 16 → ∀ a_parts : Nat → Int32, (∀ k, k < 368 → a_parts k = nI (ig_sh P 16 (j * 16) (s * 16 + t) k)) → wX_retract_40 post J (nI s) f_n f_verdict f_preds f_atoms (nI cnt) f_refs f_size f_trueMask f_falseMask (d + 1) (nI t) a_arities a_starts a_atomPred a_atomFirst a_atomSecond a_lengths a_parts a_model a_ref a_kept a_closure a_posMask a_negMask a_chosen a_known a_decided a_savedTrue a_savedFalse a_group := by
    intro J s le hs hjs KJ d
    induction d with
    | zero =>
      intro t ht pa h
      have e : t = 16 := by omega
      subst e
      rw [wX_retract_40]
      dsimp only
      refine br_t (by decide) (nm_r (nI_1 s) (KJ pa ?_))
      rw [show (s + 1) * 16 = s * 16 + 16 by omega]
      exact h
    | succ d ih =>
      intro t ht pa h
      rw [wX_retract_40]
      dsimp only
      have ea : nI s * 16 + nI t = nI (s * 16 + t) := by
        show nI s * nI 16 + nI t = _
        rw [pk_mul, nI_add]
      have eb : nI s * 16 + 16 + nI t = nI (s * 16 + t + 16) := by
        show nI s * nI 16 + nI 16 + nI t = _
        rw [pk_mul, nI_add, nI_add, show s * 16 + 16 + t = s * 16 + t + 16 by omega]
      rw [ea, eb, nI_clamp (show s * 16 + t < 2 ^ 31 by omega), nI_clamp (show s * 16 + t + 16 < 2 ^ 31 by omega)]
      refine br_f (nI_ge (b := 16) (by omega) (by omega)) ⟨vp_in_nI (by omega) (by omega), vp_in_nI (by omega) (by omega), nm_e (nm_r (nI_1 t) (ih (t + 1) (by omega) _ ?_))⟩
      exact ig_sh_up h (by omega) (by omega)
  intro d
  induction d with
  | zero =>
    intro s hs hjs le pa h1 h2
    have e : s = cnt := by omega
    subst e
    rw [wX_retract_16]
    dsimp only
    have e1 : nI s - 1 = nI (s - 1) := pk_sub (b := 1) (by omega)
    rw [e1]
    exact br_t (nI_le (Nat.le_refl _) (by omega)) (nm_e (K le pa h1 h2))
  | succ d ih =>
    intro s hs hjs le pa h1 h2
    rw [wX_retract_16]
    dsimp only
    have e1 : nI s + 1 = nI (s + 1) := nI_1 s
    rw [e1, nI_clamp (show s < 2 ^ 31 by omega), nI_clamp (show s + 1 < 2 ^ 31 by omega)]
    refine br_f (nI_ge (by omega) (by omega)) ⟨vp_in_nI (by omega) (by omega), vp_in_nI (by omega) (by omega), nm_e ⟨16 + 1, inner _ s _ (by omega) hjs (fun pa' h' => ?_) 16 0 (by omega) _ h2⟩⟩
    exact ih (s + 1) (by omega) (by omega) _ pa' (ig_sh_up h1 hjs (by omega)) h'
end
section
variable {fy_n fy_predicates fy_atoms fy_closed fy_count fy_size fy_verdict fy_model : Int32} {ay_arities ay_first ay_lengths ay_data ay_instances ay_kept ay_refuters : Nat → Int32}
theorem ig_y_retract16 {post : Int32 → SY → Prop} {L P : Nat → Nat} {j cnt : Nat} (h12 : cnt ≤ 12) (hj : j < cnt)
    (K : ∀ le' da', (∀ s, s < 13 → le' s = nI (ig_sh L 1 j cnt s)) → (∀ k, k < 208 → da' k = nI (ig_sh P 16 (j * 16) (cnt * 16) k)) → wpY_clausesChanged (fun u => match u with | (fy_n, fy_predicates, fy_atoms, fy_closed, fy_count, fy_size, fy_verdict, fy_model, ay_arities, ay_first, ay_lengths, ay_data, ay_instances, ay_kept, ay_refuters) => post fy_closed (fy_n, fy_predicates, fy_atoms, fy_closed, fy_count, fy_size, fy_verdict, fy_model, ay_arities, ay_first, ay_lengths, ay_data, ay_instances, ay_kept, ay_refuters)) (fy_n, fy_predicates, fy_atoms, nI (cnt - 1), fy_count, fy_size, fy_verdict, fy_model, ay_arities, ay_first, le', da', ay_instances, ay_kept, ay_refuters)) :
    ∀ d s, s + d = cnt → j ≤ s → ∀ ay_lengths ay_data : Nat → Int32, (∀ i, i < 13 → ay_lengths i = nI (ig_sh L 1 j s i)) → (∀ k, k < 208 → ay_data k = nI (P k)) →
      wY_retract_16 post (nI j) fy_n fy_predicates fy_atoms (nI cnt) fy_count fy_size fy_verdict fy_model (d + 1) (nI s) ay_arities ay_first ay_lengths ay_data ay_instances ay_kept ay_refuters := by
  have inner : ∀ ay_lengths : Nat → Int32, (∀ s, s < 13 → ay_lengths s = nI (ig_sh L 1 j cnt s)) → ∀ d t, t + d = cnt * 16 → j * 16 ≤ t → ∀ ay_data : Nat → Int32, (∀ k, k < 208 → ay_data k = nI (ig_sh P 16 (j * 16) t k)) → wY_retract_49 post fy_n fy_predicates fy_atoms (nI cnt) fy_count fy_size fy_verdict fy_model (d + 1) (nI t) ay_arities ay_first ay_lengths ay_data ay_instances ay_kept ay_refuters := by
    intro le hle d
    have em : nI cnt * 16 = nI (cnt * 16) := pk_mul cnt 16
    induction d with
    | zero =>
      intro t ht hjt da h
      have e : t = cnt * 16 := by omega
      subst e
      rw [wY_retract_49]
      dsimp only
      have e1 : nI cnt - 1 = nI (cnt - 1) := pk_sub (b := 1) (by omega)
      rw [em, e1]
      exact br_t (nI_le (Nat.le_refl _) (by omega)) (nm_e (K le da hle h))
    | succ d ih =>
      intro t ht hjt da h
      rw [wY_retract_49]
      dsimp only
      have e2 : nI t + 16 = nI (t + 16) := nI_add t 16
      rw [em, e2, nI_clamp (show t < 2 ^ 31 by omega), nI_clamp (show t + 16 < 2 ^ 31 by omega)]
      exact br_f (nI_ge (by omega) (by omega)) ⟨vp_in_nI (by omega) (by omega), vp_in_nI (by omega) (by omega), nm_e (nm_r (nI_1 t) (ih (t + 1) (by omega) (by omega) _ (ig_sh_up h hjt (by omega))))⟩
  intro d
  induction d with
  | zero =>
    intro s hs hjs le da h1 h2
    have e : s = cnt := by omega
    subst e
    rw [wY_retract_16]
    dsimp only
    refine br_t (nI_le (Nat.le_refl _) (by omega)) (nm_r (e' := nI (j * 16)) (pk_mul j 16) ⟨s * 16 - j * 16 + 1, inner le h1 (s * 16 - j * 16) (j * 16) (by omega) (Nat.le_refl _) da fun k hk => ?_⟩)
    rw [ig_sh_0]; exact h2 k hk
  | succ d ih =>
    intro s hs hjs le da h1 h2
    rw [wY_retract_16]
    dsimp only
    have e1 : nI s + 1 = nI (s + 1) := nI_1 s
    rw [e1, nI_clamp (show s < 2 ^ 31 by omega), nI_clamp (show s + 1 < 2 ^ 31 by omega)]
    exact br_f (nI_ge (by omega) (by omega)) ⟨vp_in_nI (by omega) (by omega), vp_in_nI (by omega) (by omega), nm_e (nm_e (ih (s + 1) (by omega) (by omega) _ da (ig_sh_up h1 hjs (by omega)) h2))⟩
end
end
section
/-! retract, predicate -/
theorem i_vc_retract {k : Nat} {u : SX} {v : SY} (I : i_Rel k u v) (hk : k + 5 ≤ 2561) (v1 : Int32) : wpX_retract (fun r u' => wpY_retract (fun r' v' => r' = r ∧ i_Rel (k + 5) u' v') v v1) u v1 := by
  refine ig_el (P := fun u v => wpX_retract (fun r u' => wpY_retract (fun r' v' => r' = r ∧ i_Rel (k + 5) u' v') v v1) u v1) I ?_
  intro f_n f_verdict f_preds f_atoms f_count f_refs f_size f_trueMask f_falseMask a_arities a_starts a_atomPred a_atomFirst a_atomSecond a_lengths a_parts a_model a_ref a_kept a_closure a_posMask a_negMask a_chosen a_known a_decided a_savedTrue a_savedFalse a_group fy_n fy_predicates fy_atoms fy_closed fy_count fy_size fy_verdict fy_model ay_arities ay_first ay_lengths ay_data ay_instances ay_kept ay_refuters c cnt g rx ry rv
  have R := ig_mk (k + 5) (f_trueMask := f_trueMask) (f_falseMask := f_falseMask) (a_kept := a_kept) (a_posMask := a_posMask) (a_negMask := a_negMask) (a_chosen := a_chosen) (a_decided := a_decided) (a_savedTrue := a_savedTrue) (a_savedFalse := a_savedFalse) (a_group := a_group) (ay_kept := ay_kept) g rx ry rv
  have h12 := g.2.1
  have ecx := rx.2.2.1
  have ecy := ry.1.2.2.1
  subst ecx
  subst ecy
  unfold wpX_retract wpY_retract
  dsimp only
  refine br_c (fun z => br_t z ⟨rfl, R⟩) (fun z => ?_)
  obtain ⟨j, hj31, rfl⟩ := nI_of z
  refine pk_lt j cnt (fun hj => ?_) (fun hj => br_f z (br_f (nI_nlt hj (by omega)) ⟨rfl, R⟩))
  have hl4 : ∀ s, s < 23 → ig_L c s ≤ 4 := fun s hs => (rx.1.2.2.2.1 s hs).2
  have lo : ∀ s, s < j → ig_Lk c s (ig_sh (ig_L c) 1 j cnt) (ig_sh (ig_P c) 16 (j * 16) (cnt * 16)) s := by
    intro s hs
    refine ⟨?_, hl4 s (by omega), fun t ht => ?_⟩
    · unfold ig_sh; rw [if_neg (by omega)]
    · unfold ig_sh; rw [if_neg (by omega)]
  have hi : ∀ s, j ≤ s → s < cnt → ig_Lk c (s + 1) (ig_sh (ig_L c) 1 j cnt) (ig_sh (ig_P c) 16 (j * 16) (cnt * 16)) s := by
    intro s hs hs'
    refine ⟨?_, hl4 (s + 1) (by omega), fun t ht => ?_⟩
    · unfold ig_sh; rw [if_pos ⟨hs, hs'⟩]
    · unfold ig_sh; rw [if_pos (by omega), show s * 16 + t + 16 = (s + 1) * 16 + t by omega]
  have sw : ∀ m, m < cnt → (m ≤ j → ig_sw (ig_w c (ig_sh (ig_L c) 1 j cnt) (ig_sh (ig_P c) 16 (j * 16) (cnt * 16))) m = ig_sw c m) ∧ (j ≤ m → ig_sw (ig_w c (ig_sh (ig_L c) 1 j cnt) (ig_sh (ig_P c) 16 (j * 16) (cnt * 16))) m + ig_ws c j = ig_sw c (m + 1)) := by
    intro m
    induction m with
    | zero =>
      intro _
      refine ⟨fun _ => rfl, fun h => ?_⟩
      have : j = 0 := by omega
      subst this
      rfl
    | succ m ih =>
      intro hm
      have ih := ih (by omega)
      refine ⟨fun h => ?_, fun h => ?_⟩
      · show ig_sw (ig_w c _ _) m + ig_ws (ig_w c _ _) m = ig_sw c m + ig_ws c m
        rw [ih.1 (by omega), ig_w_ws (lo m (by omega))]
      · rcases (show j = m + 1 ∨ j ≤ m by omega) with q | q
        · have e1 : ig_sw (ig_w c (ig_sh (ig_L c) 1 j cnt) (ig_sh (ig_P c) 16 (j * 16) (cnt * 16))) (m + 1) = ig_sw c (m + 1) := by
            show ig_sw (ig_w c _ _) m + ig_ws (ig_w c _ _) m = ig_sw c m + ig_ws c m
            rw [ih.1 (by omega), ig_w_ws (lo m (by omega))]
          rw [e1, show ig_sw c (m + 1 + 1) = ig_sw c (m + 1) + ig_ws c (m + 1) from rfl, q]
        · have a := ih.2 q
          show ig_sw (ig_w c _ _) m + ig_ws (ig_w c _ _) m + ig_ws c j = ig_sw c (m + 1) + ig_ws c (m + 1)
          rw [ig_w_ws (hi m q (by omega))]
          omega
  have g' : ig_Gd (ig_w c (ig_sh (ig_L c) 1 j cnt) (ig_sh (ig_P c) 16 (j * 16) (cnt * 16))) (cnt - 1) := by
    refine ⟨g.1, by omega, fun s hs => ?_, fun s hs => ?_, ?_⟩
    · show 1 ≤ ig_sh (ig_L c) 1 j cnt s
      rcases Nat.lt_or_ge s j with q | q
      · rw [(lo s q).1]; exact g.2.2.1 s (by omega)
      · rw [(hi s q (by omega)).1]; exact g.2.2.1 (s + 1) (by omega)
    · rcases Nat.lt_or_ge s j with q | q
      · exact ig_w_CO (lo s q) (g.2.2.2.1 s (by omega))
      · exact ig_w_CO (hi s q (by omega)) (g.2.2.2.1 (s + 1) (by omega))
    · have a := (sw (cnt - 1) (by omega)).2 (by omega)
      rw [show cnt - 1 + 1 = cnt by omega] at a
      have := g.2.2.2.2
      omega
  have bl : ∀ s, s < 23 → ig_sh (ig_L c) 1 j cnt s ≤ 4 := by
    intro s hs
    unfold ig_sh
    split
    · exact hl4 (s + 1) (by omega)
    · exact hl4 s hs
  have bp : ∀ t, t < 368 → ig_sh (ig_P c) 16 (j * 16) (cnt * 16) t < 16 := by
    intro t ht
    unfold ig_sh
    split
    · exact (rx.1.2.2.2.2 (t + 16) (by omega)).2
    · exact (rx.1.2.2.2.2 t ht).2
  refine ⟨cnt - j + 1, ig_x_retract16 (L := ig_L c) (P := ig_P c) h12 hj (fun le' pa' hle hpa => ?_) (cnt - j) j (by omega) (Nat.le_refl _) _ _ (fun i hi => by rw [ig_sh_0]; exact (rx.1.2.2.2.1 i hi).1) (fun t ht => by rw [ig_sh_0]; exact (rx.1.2.2.2.2 t ht).1)⟩
  refine br_f z (br_t (nI_lt hj (by omega)) ⟨cnt - j + 1, ig_y_retract16 (L := ig_L c) (P := ig_P c) h12 hj (fun ly' da' hly hda => ?_) (cnt - j) j (by omega) (Nat.le_refl _) _ _ (fun i hi => by rw [ig_sh_0]; exact (ry.1.2.2.2.2.1 i hi).1) (fun t ht => (ry.1.2.2.2.2.2 t ht).1)⟩)
  have ty' : ig_YT (ig_w c (ig_sh (ig_L c) 1 j cnt) (ig_sh (ig_P c) 16 (j * 16) (cnt * 16))) (cnt - 1) fy_n fy_atoms (nI (cnt - 1)) ay_arities ay_first ly' da' :=
    ⟨ry.1.1, ry.1.2.1, rfl, ry.1.2.2.2.1, fun s hs => ⟨hly s hs, bl s (by omega)⟩, fun t ht => ⟨hda t ht, bp t (by omega)⟩⟩
  refine ig_y_cc (c := ig_w c (ig_sh (ig_L c) 1 j cnt) (ig_sh (ig_P c) 16 (j * 16) (cnt * 16))) (cnt := cnt - 1) ty' g' fun ins' yi' => ?_
  dsimp only
  exact ⟨rfl, ig_mk (k + 5) g' ⟨⟨rx.1.1, rx.1.2.1, rx.1.2.2.1, fun s hs => ⟨hle s hs, bl s hs⟩, fun t ht => ⟨hpa t ht, bp t ht⟩⟩, rx.2.1, rfl, rx.2.2.2.1, rx.2.2.2.2⟩ ⟨ty', ry.2.1, yi'⟩ ig_RV0⟩
/-- one predicate more -/
def ig_cp (c : ig_C) (a : Nat) : ig_C := (ig_n c, ig_q c + 1, ig_a c + ig_sz (ig_n c) a, fun k => if k = ig_q c then a else ig_ar c k, fun k => if k = ig_q c then ig_a c else ig_st c k, ig_L c, ig_P c)
theorem ig_cp_o {c : ig_C} {a q : Nat} (h : q < ig_q c) : ig_ar (ig_cp c a) q = ig_ar c q ∧ ig_st (ig_cp c a) q = ig_st c q :=
  ⟨if_neg (by omega), if_neg (by omega)⟩
theorem ig_cp_n (c : ig_C) (a : Nat) : ig_ar (ig_cp c a) (ig_q c) = a ∧ ig_st (ig_cp c a) (ig_q c) = ig_a c := ⟨if_pos rfl, if_pos rfl⟩
theorem ig_cp_ao {c : ig_C} {a q x y : Nat} (h : q < ig_q c) : ig_ao (ig_cp c a) q x y = ig_ao c q x y := by
  unfold ig_ao
  rw [(ig_cp_o h).1, (ig_cp_o h).2]
  rfl
theorem ig_cp_sw {c : ig_C} {a : Nat} : ∀ m, ig_sw (ig_cp c a) m = ig_sw c m
  | 0 => rfl
  | m + 1 => by
    show ig_sw (ig_cp c a) m + ig_ws (ig_cp c a) m = ig_sw c m + ig_ws c m
    rw [ig_cp_sw m]; rfl
theorem ig_cp_fl {c : ig_C} {a : Nat} : ∀ m, ig_fl (ig_cp c a) m = ig_fl c m
  | 0 => rfl
  | m + 1 => by
    show ig_fl (ig_cp c a) m ++ ig_inr (ig_cp c a) m = ig_fl c m ++ ig_inr c m
    rw [ig_cp_fl m]; rfl
theorem ig_cp_Gd {c : ig_C} {cnt a : Nat} (g : ig_Gd c cnt) (ha : a ≤ 2) (hs : ig_a c + ig_sz (ig_n c) a ≤ 10) : ig_Gd (ig_cp c a) cnt := by
  obtain ⟨⟨w1, w2, w3, w4, w5, w6⟩, g2, g3, g4, g5⟩ := g
  have sz1 : 1 ≤ ig_sz (ig_n c) a := by
    unfold ig_sz
    split
    · omega
    · split
      · exact w1
      · exact Nat.mul_le_mul w1 w1
  refine ⟨⟨w1, w2, hs, ?_, fun q hq => ?_, fun i q hiq hq => ?_⟩, g2, g3, fun s hs => ⟨(g4 s hs).1, fun r hr => ?_⟩, by rw [ig_cp_sw]; exact g5⟩
  · show ig_q c + 1 ≤ ig_a c + ig_sz (ig_n c) a
    omega
  · have hq : q < ig_q c + 1 := hq
    show _ ∧ _ ≤ ig_a c + ig_sz (ig_n c) a
    rcases (show q < ig_q c ∨ q = ig_q c by omega) with z | z
    · rw [(ig_cp_o z).1, (ig_cp_o z).2]
      have := w5 q z
      exact ⟨this.1, Nat.le_trans this.2 (by omega)⟩
    · subst z
      rw [(ig_cp_n c a).1, (ig_cp_n c a).2]
      exact ⟨ha, Nat.le_refl _⟩
  · have hq : q < ig_q c + 1 := hq
    rw [(ig_cp_o (show i < ig_q c by omega)).1, (ig_cp_o (show i < ig_q c by omega)).2]
    rcases (show q < ig_q c ∨ q = ig_q c by omega) with z | z
    · rw [(ig_cp_o z).2]; exact w6 i q hiq z
    · subst z
      rw [(ig_cp_n c a).2]; exact (w5 i hiq).2
  · obtain ⟨l1, l2, l3, l4, l5, l6⟩ := (g4 s hs).2 r hr
    refine ⟨l1, ?_, l3, l4, fun h => l5 ?_, fun h => l6 ?_⟩
    · show ig_P c _ < ig_q c + 1
      omega
    · rw [← (ig_cp_o (a := a) l2).1]; exact h
    · rw [← (ig_cp_o (a := a) l2).1]; exact h
section
variable {f_n f_verdict f_preds f_atoms f_count f_refs f_size f_trueMask f_falseMask : Int32} {a_arities a_starts a_atomPred a_atomFirst a_atomSecond a_lengths a_parts a_model a_ref a_kept a_closure a_posMask a_negMask a_chosen a_known a_decided a_savedTrue a_savedFalse a_group : Nat → Int32}
/-- the atoms' table so far -/
def ig_A3 (c : ig_C) (m : Nat) (a_atomPred a_atomFirst a_atomSecond : Nat → Int32) : Prop := ∀ k, k < m → ∃ q x y, a_atomPred k = nI q ∧ a_atomFirst k = nI x ∧ a_atomSecond k = nI y ∧ q < ig_q c ∧ x < ig_n c ∧ y < ig_n c ∧ ig_ao c q x y = k
theorem ig_A3_s {c : ig_C} {m q x y : Nat} (h : ig_A3 c m a_atomPred a_atomFirst a_atomSecond) (hq : q < ig_q c) (hx : x < ig_n c) (hy : y < ig_n c) (e : ig_ao c q x y = m) : ig_A3 c (m + 1) (upd a_atomPred m (nI q)) (upd a_atomFirst m (nI x)) (upd a_atomSecond m (nI y)) := by
  intro k hk
  by_cases z : k = m
  · subst z
    exact ⟨q, x, y, by rw [pk_us], by rw [pk_us], by rw [pk_us], hq, hx, hy, e⟩
  · rw [pk_un z, pk_un z, pk_un z]; exact h k (by omega)
theorem ig_x_pred80 {post : Int32 → SX → Prop} {c : ig_C} {Q A rows cols : Nat} (hq : ig_q c = Q + 1) (hn4 : ig_n c ≤ 4) (hr : rows ≤ ig_n c) (hc : cols ≤ ig_n c) (h10 : A + rows * cols ≤ 10) (hao : ∀ x y, x < rows → y < cols → ig_ao c Q x y = A + x * cols + y) (hQ : f_preds = nI Q)
    (K : ∀ ap' af' as', ig_A3 c (A + rows * cols) ap' af' as' → post (nI Q) (f_n, 0, nI (Q + 1), nI (A + rows * cols), f_count, f_refs, f_size, f_trueMask, f_falseMask, a_arities, a_starts, ap', af', as', a_lengths, a_parts, a_model, a_ref, a_kept, a_closure, a_posMask, a_negMask, a_chosen, a_known, a_decided, a_savedTrue, a_savedFalse, a_group)) :
    ∀ d x, x + d = rows → ∀ a_atomPred a_atomFirst a_atomSecond : Nat → Int32, ig_A3 c (A + x * cols) a_atomPred a_atomFirst a_atomSecond →
      wX_predicate_80 post (nI rows) (nI cols) f_n f_verdict f_preds f_count f_refs f_size f_trueMask f_falseMask (d + 1) (nI x) (nI (A + x * cols)) a_arities a_starts a_atomPred a_atomFirst a_atomSecond a_lengths a_parts a_model a_ref a_kept a_closure a_posMask a_negMask a_chosen a_known a_decided a_savedTrue a_savedFalse a_group := by
  subst hQ
  have inner : ∀ (J : Int32 → Int32 → (Nat → Int32) → (Nat → Int32) → (Nat → Int32) → (Nat → Int32) → (Nat → Int32) → (Nat → Int32) → (Nat → Int32) → (Nat → Int32) → (Nat → Int32) → (Nat → Int32) → (Nat → Int32) → (Nat → Int32) → (Nat → Int32) → (Nat → Int32) → (Nat → Int32) → (Nat → Int32) → (Nat → Int32) → (Nat → Int32) → (Nat → Int32) → Prop) (x : Nat), x < rows →
      (∀ ap' af' as', ig_A3 c (A + (x + 1) * cols) ap' af' as' → J (nI (x + 1)) (nI (A + (x + 1) * cols)) a_arities a_starts ap' af' as' a_lengths a_parts a_model a_ref a_kept a_closure a_posMask a_negMask a_chosen a_known a_decided a_savedTrue a_savedFalse a_group) →
      ∀ d y, y + d = cols → ∀ a_atomPred a_atomFirst a_atomSecond : Nat → Int32, ig_A3 c (A + x * cols + y) a_atomPred a_atomFirst a_atomSecond →
      wX_predicate_89 post J (nI rows) (nI cols) (nI x) f_n f_verdict (nI Q) f_count f_refs f_size f_trueMask f_falseMask (d + 1) (nI y) (nI (A + x * cols + y)) a_arities a_starts a_atomPred a_atomFirst a_atomSecond a_lengths a_parts a_model a_ref a_kept a_closure a_posMask a_negMask a_chosen a_known a_decided a_savedTrue a_savedFalse a_group := by
    intro J x hx KJ d
    have hb : x * cols + cols ≤ rows * cols := by
      have := Nat.mul_le_mul_right cols (show x + 1 ≤ rows by omega)
      rw [Nat.add_mul] at this
      omega
    induction d with
    | zero =>
      intro y hy ap af as h
      have e : y = cols := by omega
      subst e
      have e2 : A + (x + 1) * y = A + x * y + y := by rw [Nat.add_mul]; omega
      rw [wX_predicate_89]
      dsimp only
      rw [e2] at KJ
      exact br_t (nI_le (Nat.le_refl _) (by omega)) (nm_r (nI_1 x) (KJ ap af as h))
    | succ d ih =>
      intro y hy ap af as h
      have hin : vp_in (nI (A + x * cols + y)) 10 := vp_in_nI (by omega) (by omega)
      rw [wX_predicate_89]
      dsimp only
      rw [nI_clamp (show A + x * cols + y < 2 ^ 31 by omega)]
      refine br_f (nI_ge (by omega) (by omega)) ⟨hin, nm_e ⟨hin, nm_e ⟨hin, nm_e (nm_r (nI_1 _) (nm_r (nI_1 y) (ih (y + 1) (by omega) _ _ _ ?_)))⟩⟩⟩
      exact ig_A3_s h (by omega) (by omega) (by omega) (hao x y hx (by omega))
  intro d
  induction d with
  | zero =>
    intro x hx ap af as h
    have e : x = rows := by omega
    subst e
    rw [wX_predicate_80]
    dsimp only
    refine br_t (nI_le (Nat.le_refl _) ?_) (nm_r (nI_1 Q) ?_)
    · omega
    · rw [nI_pred]
      exact K ap af as h
  | succ d ih =>
    intro x hx ap af as h
    rw [wX_predicate_80]
    dsimp only
    refine br_f (nI_ge (by omega) (by omega)) ⟨cols + 1, inner _ x (by omega) (fun ap' af' as' h' => ih (x + 1) (by omega) ap' af' as' h') cols 0 (by omega) ap af as h⟩
end
section
variable {f_n f_verdict f_preds f_atoms f_count f_refs f_size f_trueMask f_falseMask : Int32} {a_arities a_starts a_atomPred a_atomFirst a_atomSecond a_lengths a_parts a_model a_ref a_kept a_closure a_posMask a_negMask a_chosen a_known a_decided a_savedTrue a_savedFalse a_group : Nat → Int32}
theorem ig_x_pred37 {post : Int32 → SX → Prop} {c : ig_C} {cnt a rows cols : Nat} (g : ig_Gd c cnt) (tx : ig_XT c f_n f_atoms a_arities a_starts a_lengths a_parts) (hp : f_preds = nI (ig_q c)) (h3 : ig_At3 c a_atomPred a_atomFirst a_atomSecond) (ha : a ≤ 2) (hr : rows = if a = 0 then 1 else ig_n c) (hc : cols = if a ≤ 1 then 1 else ig_n c)
    (K1 : ig_a c + ig_sz (ig_n c) a ≤ 10 → ∀ ar' st' ap' af' as', ig_XT (ig_cp c a) f_n (nI (ig_a c + ig_sz (ig_n c) a)) ar' st' a_lengths a_parts → ig_At3 (ig_cp c a) ap' af' as' → post (nI (ig_q c)) (f_n, 0, nI (ig_q c + 1), nI (ig_a c + ig_sz (ig_n c) a), f_count, f_refs, f_size, f_trueMask, f_falseMask, ar', st', ap', af', as', a_lengths, a_parts, a_model, a_ref, a_kept, a_closure, a_posMask, a_negMask, a_chosen, a_known, a_decided, a_savedTrue, a_savedFalse, a_group))
    (K0 : 10 < ig_a c + ig_sz (ig_n c) a → post (-2) (f_n, f_verdict, f_preds, f_atoms, f_count, f_refs, f_size, f_trueMask, f_falseMask, a_arities, a_starts, a_atomPred, a_atomFirst, a_atomSecond, a_lengths, a_parts, a_model, a_ref, a_kept, a_closure, a_posMask, a_negMask, a_chosen, a_known, a_decided, a_savedTrue, a_savedFalse, a_group)) : wX_predicate_37 post (nI a) (nI rows) (nI cols) f_n f_verdict f_preds f_atoms f_count f_refs f_size f_trueMask f_falseMask a_arities a_starts a_atomPred a_atomFirst a_atomSecond a_lengths a_parts a_model a_ref a_kept a_closure a_posMask a_negMask a_chosen a_known a_decided a_savedTrue a_savedFalse a_group := by
  have n1 := g.1.1
  have n4 := g.1.2.1
  have qa := g.1.2.2.2.1
  have a10 := g.1.2.2.1
  have sz : rows * cols = ig_sz (ig_n c) a := by
    unfold ig_sz
    rw [hr, hc]
    rcases (show a = 0 ∨ a = 1 ∨ a = 2 by omega) with z | z | z <;> subst z
    · rfl
    · rw [if_neg (by omega), if_pos (by omega), if_neg (by omega), if_pos rfl, Nat.mul_one]
    · rw [if_neg (by omega), if_neg (by omega), if_neg (by omega), if_neg (by omega)]
  have rn : rows ≤ ig_n c := by rw [hr]; split <;> omega
  have cn : cols ≤ ig_n c := by rw [hc]; split <;> omega
  have r1 : 1 ≤ rows := by rw [hr]; split <;> omega
  have c1 : 1 ≤ cols := by rw [hc]; split <;> omega
  have p1 : 1 ≤ rows * cols := Nat.mul_le_mul r1 c1
  have p16 : rows * cols ≤ 16 := by
    have := Nat.mul_le_mul (show rows ≤ 4 by omega) (show cols ≤ 4 by omega)
    omega
  have ea := tx.2.1
  subst ea
  unfold wX_predicate_37
  have es : nI (ig_a c) + nI rows * nI cols = nI (ig_a c + rows * cols) := by rw [pk_mul, nI_add]
  rw [es, hp, nI_clamp (show ig_q c < 2 ^ 31 by omega)]
  refine pk_le (ig_a c + rows * cols) 10 (fun z => ?_) (fun z => ?_)
  · have hin : vp_in (nI (ig_q c)) 10 := vp_in_nI (by omega) (by omega)
    refine ⟨hin, nm_e ⟨hin, nm_e ⟨rows + 1, ?_⟩⟩⟩
    have e0 : nI (ig_a c) = nI (ig_a c + 0 * cols) := by rw [Nat.zero_mul, Nat.add_zero]
    have key := ig_x_pred80 (post := post) (c := ig_cp c a) (Q := ig_q c) (A := ig_a c) (rows := rows) (cols := cols) (f_n := f_n) (f_verdict := f_verdict) (f_preds := nI (ig_q c)) (f_count := f_count) (f_refs := f_refs) (f_size := f_size) (f_trueMask := f_trueMask) (f_falseMask := f_falseMask) (a_arities := upd a_arities (ig_q c) (nI a)) (a_starts := upd a_starts (ig_q c) (nI (ig_a c))) (a_lengths := a_lengths) (a_parts := a_parts) (a_model := a_model) (a_ref := a_ref) (a_kept := a_kept) (a_closure := a_closure) (a_posMask := a_posMask) (a_negMask := a_negMask) (a_chosen := a_chosen) (a_known := a_known) (a_decided := a_decided) (a_savedTrue := a_savedTrue) (a_savedFalse := a_savedFalse) (a_group := a_group) rfl n4 rn cn z ?_ rfl ?_ rows 0 (by omega) a_atomPred a_atomFirst a_atomSecond ?_
    · rw [← e0] at key
      exact key
    · intro x y hx hy
      unfold ig_ao
      rw [(ig_cp_n c a).1, (ig_cp_n c a).2]
      show (if a = 0 then ig_a c else if a = 1 then ig_a c + x else ig_a c + x * ig_n c + y) = _
      rcases (show a = 0 ∨ a = 1 ∨ a = 2 by omega) with q | q | q <;> subst q
      · rw [if_pos rfl]
        rw [if_pos rfl] at hr
        rw [if_pos (by omega)] at hc
        subst hr hc
        omega
      · rw [if_neg (by omega), if_pos rfl]
        rw [if_pos (by omega)] at hc
        subst hc
        omega
      · rw [if_neg (by omega), if_neg (by omega)]
        rw [if_neg (by omega)] at hc
        rw [hc]
    · intro ap' af' as' h'
      rw [sz] at h' ⊢
      refine K1 (by omega) _ _ ap' af' as' ⟨tx.1, rfl, fun q hq => ?_, tx.2.2.2.1, tx.2.2.2.2⟩ h'
      have hq : q < ig_q c + 1 := hq
      rcases (show q < ig_q c ∨ q = ig_q c by omega) with y | y
      · rw [pk_un (by omega), pk_un (by omega), (ig_cp_o y).1, (ig_cp_o y).2]; exact tx.2.2.1 q y
      · subst y
        rw [pk_us, pk_us, (ig_cp_n c a).1, (ig_cp_n c a).2]; exact ⟨rfl, rfl⟩
    · rw [Nat.zero_mul, Nat.add_zero]
      intro t ht
      obtain ⟨q, x, y, e1, e2, e3, hq, hx, hy, eao⟩ := h3 t ht
      exact ⟨q, x, y, e1, e2, e3, Nat.lt_succ_of_lt hq, hx, hy, by rw [ig_cp_ao hq]; exact eao⟩
  · rw [← hp]
    exact K0 (by omega)
end
section
variable {fy_n fy_predicates fy_atoms fy_closed fy_count fy_size fy_verdict fy_model : Int32} {ay_arities ay_first ay_lengths ay_data ay_instances ay_kept ay_refuters : Nat → Int32}
theorem ig_y_pred40 {post : Int32 → SY → Prop} {c : ig_C} {cnt a : Nat} (g : ig_Gd c cnt) (ty : ig_YT c cnt fy_n fy_atoms fy_closed ay_arities ay_first ay_lengths ay_data) (hp : fy_predicates = nI (ig_q c)) (ha : a ≤ 2)
    (K1 : ig_a c + ig_sz (ig_n c) a ≤ 10 → ∀ ar' st', ig_YT (ig_cp c a) cnt fy_n (nI (ig_a c + ig_sz (ig_n c) a)) fy_closed ar' st' ay_lengths ay_data → post (nI (ig_q c)) (fy_n, nI (ig_q c + 1), nI (ig_a c + ig_sz (ig_n c) a), fy_closed, fy_count, fy_size, 0, fy_model, ar', st', ay_lengths, ay_data, ay_instances, ay_kept, ay_refuters))
    (K0 : 10 < ig_a c + ig_sz (ig_n c) a → post (-2) (fy_n, fy_predicates, fy_atoms, fy_closed, fy_count, fy_size, fy_verdict, fy_model, ay_arities, ay_first, ay_lengths, ay_data, ay_instances, ay_kept, ay_refuters)) : wpY_predicate post (fy_n, fy_predicates, fy_atoms, fy_closed, fy_count, fy_size, fy_verdict, fy_model, ay_arities, ay_first, ay_lengths, ay_data, ay_instances, ay_kept, ay_refuters) (nI a) := by
  have n1 := g.1.1
  have n4 := g.1.2.1
  have qa := g.1.2.2.2.1
  have a10 := g.1.2.2.1
  have s1 : 1 ≤ ig_sz (ig_n c) a ∧ ig_sz (ig_n c) a ≤ 16 := by
    unfold ig_sz
    split
    · omega
    · split
      · omega
      · exact ⟨Nat.mul_le_mul n1 n1, Nat.mul_le_mul n4 n4⟩
  have ea := ty.2.1
  have en := ty.1
  subst ea hp
  have t40 : ∀ z0 : Int32, z0 = nI (ig_sz (ig_n c) a) → wY_predicate_40 post (nI a) z0 fy_n (nI (ig_q c)) (nI (ig_a c)) fy_closed fy_count fy_size fy_verdict fy_model ay_arities ay_first ay_lengths ay_data ay_instances ay_kept ay_refuters := by
    intro z0 hz
    subst hz
    unfold wY_predicate_40
    rw [nI_add, nI_clamp (show ig_q c < 2 ^ 31 by omega)]
    refine pk_le (ig_a c + ig_sz (ig_n c) a) 10 (fun z => ?_) (fun z => K0 z)
    have hin : vp_in (nI (ig_q c)) 10 := vp_in_nI (by omega) (by omega)
    refine ⟨hin, nm_e ⟨hin, nm_e (nm_e (nm_r (nI_1 _) (K1 z _ _ ⟨ty.1, rfl, ty.2.2.1, fun q hq => ?_, ty.2.2.2.2.1, ty.2.2.2.2.2⟩)))⟩⟩
    have hq : q < ig_q c + 1 := hq
    rcases (show q < ig_q c ∨ q = ig_q c by omega) with y | y
    · rw [pk_un (by omega), pk_un (by omega), (ig_cp_o y).1, (ig_cp_o y).2]; exact ty.2.2.2.1 q y
    · subst y
      rw [pk_us, pk_us, (ig_cp_n c a).1, (ig_cp_n c a).2]; exact ⟨rfl, rfl⟩
  unfold wpY_predicate
  dsimp only
  refine br_f (nI_pos (by omega)) (br_t (nI_le (b := 2) ha (by omega)) (pk_eq a 0 (fun z => t40 _ ?_) (fun z => pk_eq a 1 (fun z' => t40 _ ?_) (fun z' => t40 _ ?_))))
  · subst z; rfl
  · subst z'; rw [en]; rfl
  · have : a = 2 := by omega
    subst this
    rw [en, pk_mul]; rfl
end
theorem i_vc_predicate {k : Nat} {u : SX} {v : SY} (I : i_Rel k u v) (hk : k + 5 ≤ 2561) (v1 : Int32) : wpX_predicate (fun r u' => wpY_predicate (fun r' v' => r' = r ∧ i_Rel (k + 5) u' v') v v1) u v1 := by
  refine ig_el (P := fun u v => wpX_predicate (fun r u' => wpY_predicate (fun r' v' => r' = r ∧ i_Rel (k + 5) u' v') v v1) u v1) I ?_
  intro f_n f_verdict f_preds f_atoms f_count f_refs f_size f_trueMask f_falseMask a_arities a_starts a_atomPred a_atomFirst a_atomSecond a_lengths a_parts a_model a_ref a_kept a_closure a_posMask a_negMask a_chosen a_known a_decided a_savedTrue a_savedFalse a_group fy_n fy_predicates fy_atoms fy_closed fy_count fy_size fy_verdict fy_model ay_arities ay_first ay_lengths ay_data ay_instances ay_kept ay_refuters c cnt g rx ry rv
  have R := ig_mk (k + 5) (f_trueMask := f_trueMask) (f_falseMask := f_falseMask) (a_kept := a_kept) (a_posMask := a_posMask) (a_negMask := a_negMask) (a_chosen := a_chosen) (a_decided := a_decided) (a_savedTrue := a_savedTrue) (a_savedFalse := a_savedFalse) (a_group := a_group) (ay_kept := ay_kept) g rx ry rv
  have n1 := g.1.1
  have n4 := g.1.2.1
  have en := rx.1.1
  unfold wpX_predicate
  dsimp only
  refine br_c (fun z => ?_) (fun z => br_c (fun z2 => ?_) (fun z2 => ?_))
  · unfold wpY_predicate
    exact br_t z ⟨rfl, R⟩
  · obtain ⟨a, ha, ea⟩ := nI_of2 (x := v1) (M := 2) (n := 2) (by decide) z z2
    subst ea
    have main : ∀ rows cols : Nat, (rows = if a = 0 then 1 else ig_n c) → (cols = if a ≤ 1 then 1 else ig_n c) → wX_predicate_37 (fun r u' => wpY_predicate (fun r' v' => r' = r ∧ i_Rel (k + 5) u' v') (fy_n, fy_predicates, fy_atoms, fy_closed, fy_count, fy_size, fy_verdict, fy_model, ay_arities, ay_first, ay_lengths, ay_data, ay_instances, ay_kept, ay_refuters) (nI a)) (nI a) (nI rows) (nI cols) f_n f_verdict f_preds f_atoms f_count f_refs f_size f_trueMask f_falseMask a_arities a_starts a_atomPred a_atomFirst a_atomSecond a_lengths a_parts a_model a_ref a_kept a_closure a_posMask a_negMask a_chosen a_known a_decided a_savedTrue a_savedFalse a_group := by
      intro rows cols hr hc
      refine ig_x_pred37 g rx.1 rx.2.1 rx.2.2.2.1 ha hr hc (fun h ar' st' ap' af' as' tx' h3' => ?_) (fun h => ?_)
      · refine ig_y_pred40 g ry.1 ry.2.1 ha (fun _ ar2 st2 ty' => ⟨rfl, ?_⟩) (fun h' => by omega)
        refine ig_mk (k + 5) (ig_cp_Gd g ha h) ⟨tx', rfl, rx.2.2.1, h3', rx.2.2.2.2⟩ ⟨ty', rfl, ?_⟩ ig_RV0
        have yi := ry.2.2
        unfold ig_YI ig_en at yi ⊢
        rw [ig_cp_sw, ig_cp_fl]
        exact yi
      · exact ig_y_pred40 g ry.1 ry.2.1 ha (fun h' => by omega) (fun _ => ⟨rfl, R⟩)
    have mid : ∀ rows : Nat, (rows = if a = 0 then 1 else ig_n c) → wX_predicate_23 (fun r u' => wpY_predicate (fun r' v' => r' = r ∧ i_Rel (k + 5) u' v') (fy_n, fy_predicates, fy_atoms, fy_closed, fy_count, fy_size, fy_verdict, fy_model, ay_arities, ay_first, ay_lengths, ay_data, ay_instances, ay_kept, ay_refuters) (nI a)) (nI a) (nI rows) f_n f_verdict f_preds f_atoms f_count f_refs f_size f_trueMask f_falseMask a_arities a_starts a_atomPred a_atomFirst a_atomSecond a_lengths a_parts a_model a_ref a_kept a_closure a_posMask a_negMask a_chosen a_known a_decided a_savedTrue a_savedFalse a_group := by
      intro rows hr
      unfold wX_predicate_23
      refine pk_le a 1 (fun y => main rows 1 hr (by rw [if_pos y])) (fun y => ?_)
      have := main rows (ig_n c) hr (by rw [if_neg (by omega)])
      rw [← en] at this
      exact this
    refine pk_le a 0 (fun y => mid 1 (by rw [if_pos (by omega)])) (fun y => ?_)
    have := mid (ig_n c) (by rw [if_neg (by omega)])
    rw [← en] at this
    exact this
  · unfold wpY_predicate
    exact br_f z (br_f z2 ⟨rfl, R⟩)
end
section
/-! solve, follows -/
section
variable {f_n f_verdict f_preds f_atoms f_count f_refs f_size f_trueMask f_falseMask : Int32} {a_arities a_starts a_atomPred a_atomFirst a_atomSecond a_lengths a_parts a_model a_ref a_kept a_closure a_posMask a_negMask a_chosen a_known a_decided a_savedTrue a_savedFalse a_group : Nat → Int32}
variable {fy_n fy_predicates fy_atoms fy_closed fy_count fy_size fy_verdict fy_model : Int32} {ay_arities ay_first ay_lengths ay_data ay_instances ay_kept ay_refuters : Nat → Int32}
theorem ig_w_YT {c : ig_C} {cnt : Nat} {L P : Nat → Nat} (h : ∀ s, s ≤ 12 → ig_Lk c s L P s) (ty : ig_YT c cnt fy_n fy_atoms fy_closed ay_arities ay_first ay_lengths ay_data) : ig_YT (ig_w c L P) cnt fy_n fy_atoms fy_closed ay_arities ay_first ay_lengths ay_data := by
  refine ⟨ty.1, ty.2.1, ty.2.2.1, ty.2.2.2.1, fun s hs => ?_, fun k hk => ?_⟩
  · show _ = nI (L s) ∧ L s ≤ 4
    rw [(h s (by omega)).1]; exact ty.2.2.2.2.1 s hs
  · show _ = nI (P k) ∧ P k < 16
    have e := (h (k / 16) (by omega)).2.2 (k % 16) (by omega)
    rw [show k / 16 * 16 + k % 16 = k by omega] at e
    rw [e]; exact ty.2.2.2.2.2 k hk
end
theorem i_vc_solve {k : Nat} {u : SX} {v : SY} (I : i_Rel k u v) (hk : k + 5 ≤ 2561) : wpX_solve (fun r u' => wpY_solve (fun r' v' => r' = r ∧ i_Rel (k + 5) u' v') v) u := by
  refine ig_el (P := fun u v => wpX_solve (fun r u' => wpY_solve (fun r' v' => r' = r ∧ i_Rel (k + 5) u' v') v) u) I ?_
  intro f_n f_verdict f_preds f_atoms f_count f_refs f_size f_trueMask f_falseMask a_arities a_starts a_atomPred a_atomFirst a_atomSecond a_lengths a_parts a_model a_ref a_kept a_closure a_posMask a_negMask a_chosen a_known a_decided a_savedTrue a_savedFalse a_group fy_n fy_predicates fy_atoms fy_closed fy_count fy_size fy_verdict fy_model ay_arities ay_first ay_lengths ay_data ay_instances ay_kept ay_refuters c cnt g rx ry rv
  have R := ig_mk (k + 5) (f_trueMask := f_trueMask) (f_falseMask := f_falseMask) (a_kept := a_kept) (a_posMask := a_posMask) (a_negMask := a_negMask) (a_chosen := a_chosen) (a_decided := a_decided) (a_savedTrue := a_savedTrue) (a_savedFalse := a_savedFalse) (a_group := a_group) (ay_kept := ay_kept) g rx ry rv
  have h12 := g.2.1
  have h48 := g.2.2.2.2
  have ev := rv.1
  subst ev
  unfold wpX_solve
  dsimp only
  refine br_c (fun z => ?_) (fun z => ?_)
  case refine_2 =>
    unfold wpY_solve
    exact br_f z ⟨rfl, R⟩
  have ec := rx.2.2.1
  subst ec
  have hA := ig_units_AS (m := 0) (at' := fun k => k) g (by omega) (fun k hk => by omega)
  have hC := ig_units_cap (m := 0) (at' := fun k => k) g (by omega) (fun k hk => by omega)
  have eqv := ig_units_sat (m := 0) (at' := fun k => k) g (fun k hk => by omega)
  refine ig_x_reset rx.2.2.2.2 ?_
  intro kn0 hk0
  dsimp only
  obtain ⟨D0, R0⟩ := ig_DY_0 (c := c) (S := ig_Sl cnt 0) (a_closure := a_closure) (a_posMask := a_posMask) (a_negMask := a_negMask) hk0
  refine ig_x_seedRoots rx.1 g.1 hA hC (fun s hs => Or.inl hs) (by omega) D0 R0 ?_
  intro N1 cl1 sz1 clo1 pm1 nm1 kn1 D1 R1
  dsimp only
  have R2 : ig_St N1 cl1 (ig_Rt cnt 0) := ig_St_congr R1 fun p => by
    constructor
    · rintro (h | h)
      · exact h.elim
      · exact Or.inl h
    · rintro (h | ⟨j, hj, _⟩)
      · exact Or.inr h
      · omega
  refine ig_x_sat rx.1 g.1 hA hC D1 R2 ?_
  intro r sz' t' f' clo' pm' nm' ch' kn' dc' sT' sF' gr' DL' hr
  dsimp only
  rw [eqv] at hr
  rcases hr with ⟨rfl, hr⟩ | ⟨rfl, hr⟩
  · refine br_t rfl (ig_x_trim rx.1 g rfl DL' ?_)
    intro rf2 kp2 sz2 t2 f2 clo2 pm2 nm2 ch2 kn2 dc2 sT2 sF2 gr2 DL2 hrf
    dsimp only
    refine ig_y_solve ry.1 ry.2.2 g z (fun m kp' hm hmo _ => (hr ⟨_, hmo, fun k hk => by omega⟩).elim) (fun rf3 kp3 md3 _ hrf3 => ⟨rfl, ?_⟩)
    have le := ig_cn_le (ig_kp c cnt (ig_sw c cnt)) (ig_sw c cnt)
    refine ig_mk (k + 5) g ⟨rx.1, rx.2.1, rfl, rx.2.2.2.1, DL2⟩ ⟨ry.1, ry.2.1, ry.2.2⟩ ⟨rfl, fun h => absurd h (by decide), fun _ => ⟨ig_cn (ig_kp c cnt (ig_sw c cnt)) (ig_sw c cnt), ig_ce (ig_kp c cnt (ig_sw c cnt)) (ig_en c cnt) (ig_sw c cnt), by omega, rfl, rfl, fun j hj => ⟨?_, hrf j hj, hrf3 j hj⟩⟩⟩
    exact ig_ce_in (Q := fun e => e ∈ ig_fl c cnt) (fun i hi => ig_en_mem g.1 hi) j hj
  · refine br_f (by decide) (ig_x_findModel rx.1 g rfl rx.2.2.2.1 DL' ?_)
    intro mb L P sz2 t2 f2 le2 pa2 md2 clo2 pm2 nm2 ch2 kn2 dc2 sT2 sF2 gr2 tx2 DL2 lk hmd lx
    dsimp only
    refine ig_y_solve ry.1 ry.2.2 g z (fun m kp' hm hmo hl => ⟨rfl, ?_⟩) (fun rf3 kp3 md3 hn _ => ?_)
    · have ls := ig_least g lx hm hmo hl
      refine ig_mk (k + 5) (ig_w_Gd g (fun s hs => lk s (by omega))) ⟨tx2, rx.2.1, rfl, rx.2.2.2.1, DL2⟩ ⟨ig_w_YT lk ry.1, ry.2.1, ig_w_YI (fun s hs => lk s (by omega)) ry.2.2⟩ ⟨rfl, fun _ => ⟨m, hm, rfl, fun j hj => ?_⟩, fun h => absurd h (by decide)⟩
      rw [hmd j hj, ls j hj]; rfl
    · obtain ⟨M, hM, _⟩ := hr
      exact (hn ⟨M, hM⟩).elim
section
variable {f_n f_verdict f_preds f_atoms f_count f_refs f_size f_trueMask f_falseMask : Int32} {a_arities a_starts a_atomPred a_atomFirst a_atomSecond a_lengths a_parts a_model a_ref a_kept a_closure a_posMask a_negMask a_chosen a_known a_decided a_savedTrue a_savedFalse a_group : Nat → Int32}
/-- the component's store while it asks for consequences -/
def ig_FX (c : ig_C) (f_n f_atoms f_size : Int32) (a_arities a_starts a_lengths a_parts a_closure a_known : Nat → Int32) : Prop := ∃ L P, ig_XT (ig_w c L P) f_n f_atoms a_arities a_starts a_lengths a_parts ∧ (∀ s, s ≤ 12 → ig_Lk c s L P s) ∧ ig_DL f_size a_closure a_known
def ig_Et (c : ig_C) (cnt k sg : Nat) : Prop := ∀ M, ig_Mo c cnt M → (M k = true ↔ sg = 1)
theorem ig_x_ent {post : Int32 → SX → Prop} {c : ig_C} {cnt : Nat} (F : ig_FX c f_n f_atoms f_size a_arities a_starts a_lengths a_parts a_closure a_known) (g : ig_Gd c cnt) (hcnt : f_count = nI cnt) {sg q a b : Nat} (hs : sg ≤ 1) (hq : q < ig_q c) (ha : a < ig_n c) (hb : b < ig_n c)
    (K : ∀ r sz' t' f' le' pa' clo' pm' nm' ch' kn' dc' sT' sF' gr', ig_FX c f_n f_atoms sz' a_arities a_starts le' pa' clo' kn' → ((r = 1 ∧ ig_Et c cnt (ig_ao c q a b) sg) ∨ (r = 0 ∧ ¬ ig_Et c cnt (ig_ao c q a b) sg)) →
      post r (f_n, f_verdict, f_preds, f_atoms, f_count, f_refs, sz', t', f', a_arities, a_starts, a_atomPred, a_atomFirst, a_atomSecond, le', pa', a_model, a_ref, a_kept, clo', pm', nm', ch', kn', dc', sT', sF', gr')) : wpX_entailed post (f_n, f_verdict, f_preds, f_atoms, f_count, f_refs, f_size, f_trueMask, f_falseMask, a_arities, a_starts, a_atomPred, a_atomFirst, a_atomSecond, a_lengths, a_parts, a_model, a_ref, a_kept, a_closure, a_posMask, a_negMask, a_chosen, a_known, a_decided, a_savedTrue, a_savedFalse, a_group) (nI sg) (nI q) (nI a) (nI b) := by
  obtain ⟨L, P, tx, lk, hD⟩ := F
  have g1 := ig_w_Gd g (fun s hs => lk s (Nat.le_trans hs g.2.1))
  have mo : ∀ M, ig_Mo (ig_w c L P) cnt M ↔ ig_Mo c cnt M := ig_w_Mo (fun s hs => lk s (Nat.le_of_lt (Nat.lt_of_lt_of_le hs g.2.1)))
  refine ig_x_entailed tx g1 hcnt hD hs hq (fun _ => ⟨rfl, ha⟩) (fun _ => ⟨rfl, hb⟩) ?_
  intro r L2 P2 sz' t' f' le' pa' clo' pm' nm' ch' kn' dc' sT' sF' gr' tx2 lk2 DL2 hr
  refine K r sz' t' f' le' pa' clo' pm' nm' ch' kn' dc' sT' sF' gr' ⟨L2, P2, tx2, fun s hs => ig_Lk_t (lk s hs) (lk2 s hs), DL2⟩ ?_
  rcases hr with ⟨h1, h2⟩ | ⟨h1, M, h2, h3⟩
  · exact Or.inl ⟨h1, fun M hM => h2 M ((mo M).mpr hM)⟩
  · exact Or.inr ⟨h1, fun h => h3 (h M ((mo M).mp h2))⟩
def ig_lf (f1 x : Nat) : Nat := if f1 < 4 then f1 else x
def ig_rg (f1 f2 x y : Nat) : Nat := if f2 < 4 then f2 else if f2 = f1 then x else y
theorem ig_x_fo100 {post : Int32 → SX → Prop} {J : Int32 → Int32 → Int32 → Int32 → Int32 → Int32 → Int32 → Int32 → Int32 → Int32 → (Nat → Int32) → (Nat → Int32) → (Nat → Int32) → (Nat → Int32) → (Nat → Int32) → (Nat → Int32) → (Nat → Int32) → (Nat → Int32) → (Nat → Int32) → (Nat → Int32) → (Nat → Int32) → (Nat → Int32) → (Nat → Int32) → (Nat → Int32) → (Nat → Int32) → (Nat → Int32) → (Nat → Int32) → (Nat → Int32) → (Nat → Int32) → Prop} {c : ig_C} {cnt : Nat} (g : ig_Gd c cnt) (hcnt : f_count = nI cnt) {sg q f1 f2 rows cols x : Nat} (hs : sg ≤ 1) (hq : q < ig_q c) (h1 : ig_TO (ig_n c) f1) (h2 : ig_TO (ig_n c) f2) (hx : x < ig_n c) (hc : cols ≤ ig_n c)
    (K0 : ∀ y sz' t' f' le' pa' clo' pm' nm' ch' kn' dc' sT' sF' gr', y < cols → ig_FX c f_n f_atoms sz' a_arities a_starts le' pa' clo' kn' → ¬ ig_Et c cnt (ig_ao c q (ig_lf f1 x) (ig_rg f1 f2 x y)) sg → post 0 (f_n, f_verdict, f_preds, f_atoms, f_count, f_refs, sz', t', f', a_arities, a_starts, a_atomPred, a_atomFirst, a_atomSecond, le', pa', a_model, a_ref, a_kept, clo', pm', nm', ch', kn', dc', sT', sF', gr'))
    (K1 : ∀ sz' t' f' le' pa' clo' pm' nm' ch' kn' dc' sT' sF' gr', ig_FX c f_n f_atoms sz' a_arities a_starts le' pa' clo' kn' → (∀ y, y < cols → ig_Et c cnt (ig_ao c q (ig_lf f1 x) (ig_rg f1 f2 x y)) sg) → J (nI (x + 1)) f_n f_verdict f_preds f_atoms f_count f_refs sz' t' f' a_arities a_starts a_atomPred a_atomFirst a_atomSecond le' pa' a_model a_ref a_kept clo' pm' nm' ch' kn' dc' sT' sF' gr') :
    ∀ d y, y + d = cols → ∀ (f_size f_trueMask f_falseMask : Int32) (a_lengths a_parts a_closure a_posMask a_negMask a_chosen a_known a_decided a_savedTrue a_savedFalse a_group : Nat → Int32), ig_FX c f_n f_atoms f_size a_arities a_starts a_lengths a_parts a_closure a_known → (∀ y', y' < y → ig_Et c cnt (ig_ao c q (ig_lf f1 x) (ig_rg f1 f2 x y')) sg) →
      wX_follows_100 post J (nI sg) (nI q) (nI f1) (nI f2) (nI rows) (nI cols) (nI x) (d + 1) (nI y) f_n f_verdict f_preds f_atoms f_count f_refs f_size f_trueMask f_falseMask a_arities a_starts a_atomPred a_atomFirst a_atomSecond a_lengths a_parts a_model a_ref a_kept a_closure a_posMask a_negMask a_chosen a_known a_decided a_savedTrue a_savedFalse a_group := by
  have n4 := g.1.2.1
  have b1 : f1 ≤ 6 := by rcases h1 with z | z <;> omega
  have b2 : f2 ≤ 6 := by rcases h2 with z | z <;> omega
  have lf : ig_lf f1 x < ig_n c := by
    unfold ig_lf
    split
    · rcases h1 with z | z <;> omega
    · exact hx
  intro d
  induction d with
  | zero =>
    intro y hy f_size f_trueMask f_falseMask a_lengths a_parts a_closure a_posMask a_negMask a_chosen a_known a_decided a_savedTrue a_savedFalse a_group F h
    have e : y = cols := by omega
    subst e
    rw [wX_follows_100]
    dsimp only
    exact br_t (nI_le (Nat.le_refl _) (by omega)) (nm_r (nI_1 x) (K1 _ _ _ _ _ _ _ _ _ _ _ _ _ _ F h))
  | succ d ih =>
    intro y hy f_size f_trueMask f_falseMask a_lengths a_parts a_closure a_posMask a_negMask a_chosen a_known a_decided a_savedTrue a_savedFalse a_group F h
    have rg : ig_rg f1 f2 x y < ig_n c := by
      unfold ig_rg
      split
      · rcases h2 with z | z <;> omega
      · split <;> omega
    have t147 : ∀ l r, l = ig_lf f1 x → r = ig_rg f1 f2 x y → wX_follows_147 post J (wX_follows_100 post J (nI sg) (nI q) (nI f1) (nI f2) (nI rows) (nI cols) (nI x) (d + 1)) (nI sg) (nI q) (nI f1) (nI f2) (nI rows) (nI cols) (nI x) (nI y) (nI l) (nI r) f_n f_verdict f_preds f_atoms f_count f_refs f_size f_trueMask f_falseMask a_arities a_starts a_atomPred a_atomFirst a_atomSecond a_lengths a_parts a_model a_ref a_kept a_closure a_posMask a_negMask a_chosen a_known a_decided a_savedTrue a_savedFalse a_group := by
      intro l r hl hr
      subst hl hr
      unfold wX_follows_147
      refine ig_x_ent F g hcnt hs hq lf rg ?_
      intro r sz' t' f' le' pa' clo' pm' nm' ch' kn' dc' sT' sF' gr' F' hr
      dsimp only
      rcases hr with ⟨rfl, hr⟩ | ⟨rfl, hr⟩
      · refine br_f (by decide) (nm_r (nI_1 y) (ih (y + 1) (by omega) _ _ _ _ _ _ _ _ _ _ _ _ _ _ F' fun y' hy' => ?_))
        rcases (show y' < y ∨ y' = y by omega) with z | z
        · exact h y' z
        · subst z; exact hr
      · exact br_t rfl (K0 y _ _ _ _ _ _ _ _ _ _ _ _ _ _ (by omega) F' hr)
    have t120 : ∀ l, l = ig_lf f1 x → wX_follows_120 post J (wX_follows_100 post J (nI sg) (nI q) (nI f1) (nI f2) (nI rows) (nI cols) (nI x) (d + 1)) (nI sg) (nI q) (nI f1) (nI f2) (nI rows) (nI cols) (nI x) (nI y) (nI l) f_n f_verdict f_preds f_atoms f_count f_refs f_size f_trueMask f_falseMask a_arities a_starts a_atomPred a_atomFirst a_atomSecond a_lengths a_parts a_model a_ref a_kept a_closure a_posMask a_negMask a_chosen a_known a_decided a_savedTrue a_savedFalse a_group := by
      intro l hl
      unfold wX_follows_120
      refine pk_le 4 f2 (fun z => pk_eq f2 f1 (fun z' => t147 l x hl ?_) (fun z' => t147 l y hl ?_)) (fun z => t147 l f2 hl ?_)
      · unfold ig_rg; rw [if_neg (by omega), if_pos z']
      · unfold ig_rg; rw [if_neg (by omega), if_neg z']
      · unfold ig_rg; rw [if_pos z]
    rw [wX_follows_100]
    dsimp only
    refine br_f (nI_ge (by omega) (by omega)) (pk_lt f1 4 (fun z => t120 f1 ?_) (fun z => t120 x ?_))
    · unfold ig_lf; rw [if_pos z]
    · unfold ig_lf; rw [if_neg (by omega)]
theorem ig_x_fo90 {post : Int32 → SX → Prop} {c : ig_C} {cnt : Nat} (g : ig_Gd c cnt) (hcnt : f_count = nI cnt) {sg q f1 f2 rows cols : Nat} (hs : sg ≤ 1) (hq : q < ig_q c) (h1 : ig_TO (ig_n c) f1) (h2 : ig_TO (ig_n c) f2) (hr : rows ≤ ig_n c) (hc : cols ≤ ig_n c)
    (K : ∀ r sz' t' f' le' pa' clo' pm' nm' ch' kn' dc' sT' sF' gr', ig_FX c f_n f_atoms sz' a_arities a_starts le' pa' clo' kn' →
      ((r = 0 ∧ ∃ x y, x < rows ∧ y < cols ∧ ¬ ig_Et c cnt (ig_ao c q (ig_lf f1 x) (ig_rg f1 f2 x y)) sg) ∨ (r = 1 ∧ ∀ x y, x < rows → y < cols → ig_Et c cnt (ig_ao c q (ig_lf f1 x) (ig_rg f1 f2 x y)) sg)) →
      post r (f_n, f_verdict, f_preds, f_atoms, f_count, f_refs, sz', t', f', a_arities, a_starts, a_atomPred, a_atomFirst, a_atomSecond, le', pa', a_model, a_ref, a_kept, clo', pm', nm', ch', kn', dc', sT', sF', gr')) :
    ∀ d x, x + d = rows → ∀ (f_size f_trueMask f_falseMask : Int32) (a_lengths a_parts a_closure a_posMask a_negMask a_chosen a_known a_decided a_savedTrue a_savedFalse a_group : Nat → Int32), ig_FX c f_n f_atoms f_size a_arities a_starts a_lengths a_parts a_closure a_known → (∀ x' y, x' < x → y < cols → ig_Et c cnt (ig_ao c q (ig_lf f1 x') (ig_rg f1 f2 x' y)) sg) →
      wX_follows_90 post (nI sg) (nI q) (nI f1) (nI f2) (nI rows) (nI cols) (d + 1) (nI x) f_n f_verdict f_preds f_atoms f_count f_refs f_size f_trueMask f_falseMask a_arities a_starts a_atomPred a_atomFirst a_atomSecond a_lengths a_parts a_model a_ref a_kept a_closure a_posMask a_negMask a_chosen a_known a_decided a_savedTrue a_savedFalse a_group := by
  have n4 := g.1.2.1
  intro d
  induction d with
  | zero =>
    intro x hx f_size f_trueMask f_falseMask a_lengths a_parts a_closure a_posMask a_negMask a_chosen a_known a_decided a_savedTrue a_savedFalse a_group F h
    have e : x = rows := by omega
    subst e
    rw [wX_follows_90]
    dsimp only
    exact br_t (nI_le (Nat.le_refl _) (by omega)) (K 1 _ _ _ _ _ _ _ _ _ _ _ _ _ _ F (Or.inr ⟨rfl, h⟩))
  | succ d ih =>
    intro x hx f_size f_trueMask f_falseMask a_lengths a_parts a_closure a_posMask a_negMask a_chosen a_known a_decided a_savedTrue a_savedFalse a_group F h
    rw [wX_follows_90]
    dsimp only
    refine br_f (nI_ge (by omega) (by omega)) ⟨cols + 1, ig_x_fo100 g hcnt hs hq h1 h2 (by omega) hc ?_ ?_ cols 0 (by omega) _ _ _ _ _ _ _ _ _ _ _ _ _ _ F (fun y' hy' => by omega)⟩
    · intro y sz' t' f' le' pa' clo' pm' nm' ch' kn' dc' sT' sF' gr' hy F' hn
      exact K 0 _ _ _ _ _ _ _ _ _ _ _ _ _ _ F' (Or.inl ⟨rfl, x, y, by omega, hy, hn⟩)
    · intro sz' t' f' le' pa' clo' pm' nm' ch' kn' dc' sT' sF' gr' F' he
      refine ih (x + 1) (by omega) _ _ _ _ _ _ _ _ _ _ _ _ _ _ F' fun x' y hx' hy => ?_
      rcases (show x' < x ∨ x' = x by omega) with z | z
      · exact h x' y z hy
      · subst z; exact he y hy
end
end
section
/-! follows -/
def ig_rw (n f1 : Nat) : Nat := if f1 < 4 then 1 else n
def ig_cw (n f1 f2 : Nat) : Nat := if f2 < 4 then 1 else if f2 = f1 then 1 else n
theorem ig_fo_A {n f1 f2 : Nat} {σ : Nat → Nat} (n1 : 1 ≤ n) (n4 : n ≤ 4) (h1 : ig_TO n f1) (h2 : ig_TO n f2) (hs : ∀ v, 4 ≤ v → v ≤ 6 → σ v < n) : ∃ x y, x < ig_rw n f1 ∧ y < ig_cw n f1 f2 ∧ ig_lf f1 x = ig_gv σ f1 ∧ ig_rg f1 f2 x y = ig_gv σ f2 := by
  unfold ig_rw ig_cw ig_lf ig_rg
  have b1 : f1 < 4 ∨ (4 ≤ f1 ∧ f1 ≤ 6) := by rcases h1 with z | z <;> omega
  have b2 : f2 < 4 ∨ (4 ≤ f2 ∧ f2 ≤ 6) := by rcases h2 with z | z <;> omega
  rcases b1 with a1 | ⟨a1, a1'⟩
  · rcases b2 with a2 | ⟨a2, a2'⟩
    · refine ⟨0, 0, ?_, ?_, ?_, ?_⟩
      · rw [if_pos a1]; omega
      · rw [if_pos a2]; omega
      · rw [if_pos a1, ig_gv_c a1]
      · rw [if_pos a2, ig_gv_c a2]
    · refine ⟨0, σ f2, ?_, ?_, ?_, ?_⟩
      · rw [if_pos a1]; omega
      · rw [if_neg (by omega), if_neg (by omega)]; exact hs f2 a2 a2'
      · rw [if_pos a1, ig_gv_c a1]
      · rw [if_neg (by omega), if_neg (by omega), ig_gv_v a2]
  · rcases b2 with a2 | ⟨a2, a2'⟩
    · refine ⟨σ f1, 0, ?_, ?_, ?_, ?_⟩
      · rw [if_neg (by omega)]; exact hs f1 a1 a1'
      · rw [if_pos a2]; omega
      · rw [if_neg (by omega), ig_gv_v a1]
      · rw [if_pos a2, ig_gv_c a2]
    · by_cases e : f2 = f1
      · refine ⟨σ f1, 0, ?_, ?_, ?_, ?_⟩
        · rw [if_neg (by omega)]; exact hs f1 a1 a1'
        · rw [if_neg (by omega), if_pos e]; omega
        · rw [if_neg (by omega), ig_gv_v a1]
        · rw [if_neg (by omega), if_pos e, ig_gv_v a2, e]
      · refine ⟨σ f1, σ f2, ?_, ?_, ?_, ?_⟩
        · rw [if_neg (by omega)]; exact hs f1 a1 a1'
        · rw [if_neg (by omega), if_neg e]; exact hs f2 a2 a2'
        · rw [if_neg (by omega), ig_gv_v a1]
        · rw [if_neg (by omega), if_neg e, ig_gv_v a2]
theorem ig_code {x y z : Nat} (hx : x < 4) (hy : y < 4) (hz : z < 4) : ∃ e, e < 64 ∧ ig_va e 4 = x ∧ ig_va e 5 = y ∧ ig_va e 6 = z := by
  refine ⟨x * 16 + y * 4 + z, by omega, ?_, ?_, ?_⟩
  · show (x * 16 + y * 4 + z) / 16 % 4 = x; omega
  · show (x * 16 + y * 4 + z) / 4 % 4 = y; omega
  · show (x * 16 + y * 4 + z) % 4 = z; omega
theorem ig_fo_B {n f1 f2 x y : Nat} (n1 : 1 ≤ n) (n4 : n ≤ 4) (h1 : ig_TO n f1) (h2 : ig_TO n f2) (hx : x < ig_rw n f1) (hy : y < ig_cw n f1 f2) : ∃ e, e < 64 ∧ ig_va e 4 < n ∧ ig_va e 5 < n ∧ ig_va e 6 < n ∧ ig_gv (ig_va e) f1 = ig_lf f1 x ∧ ig_gv (ig_va e) f2 = ig_rg f1 f2 x y := by
  have xn : x < n := by unfold ig_rw at hx; split at hx <;> omega
  have yn : y < n := by
    unfold ig_cw at hy
    split at hy
    · omega
    · split at hy <;> omega
  have key : ∃ τ : Nat → Nat, (∀ v, τ v < n) ∧ ig_gv τ f1 = ig_lf f1 x ∧ ig_gv τ f2 = ig_rg f1 f2 x y := by
    refine ⟨fun v => if v = f1 then x else y, fun v => ?_, ?_, ?_⟩
    · show (if v = f1 then x else y) < n
      split <;> omega
    · unfold ig_gv ig_lf
      by_cases z : f1 < 4
      · rw [if_pos z, if_pos z]
      · rw [if_neg z, if_neg z]; exact if_pos rfl
    · rfl
  obtain ⟨τ, ht, e1, e2⟩ := key
  obtain ⟨e, he, v4, v5, v6⟩ := ig_code (x := τ 4) (y := τ 5) (z := τ 6) (by have := ht 4; omega) (by have := ht 5; omega) (by have := ht 6; omega)
  have gg : ∀ f, ig_TO n f → ig_gv (ig_va e) f = ig_gv τ f := by
    intro f hf
    rcases hf with z | ⟨z, z'⟩
    · rw [ig_gv_c (by omega), ig_gv_c (by omega)]
    · rw [ig_gv_v z, ig_gv_v z]
      rcases (show f = 4 ∨ f = 5 ∨ f = 6 by omega) with q | q | q <;> subst q <;> assumption
  exact ⟨e, he, by rw [v4]; exact ht 4, by rw [v5]; exact ht 5, by rw [v6]; exact ht 6, by rw [gg f1 h1]; exact e1, by rw [gg f2 h2]; exact e2⟩
def ig_f1 (c : ig_C) (q a : Nat) : Nat := if ig_ar c q ≤ 0 then 0 else a
def ig_f2 (c : ig_C) (q b : Nat) : Nat := if ig_ar c q ≤ 1 then 0 else b
theorem ig_fo_ao {c : ig_C} {q a b : Nat} (h2 : ig_ar c q ≤ 2) (σ : Nat → Nat) : ig_ao c q (ig_gv σ a) (ig_gv σ b) = ig_ao c q (ig_gv σ (ig_f1 c q a)) (ig_gv σ (ig_f2 c q b)) := by
  unfold ig_ao ig_f1 ig_f2
  by_cases z0 : ig_ar c q = 0
  · rw [if_pos z0, if_pos z0]
  · rw [if_neg z0, if_neg z0]
    by_cases z1 : ig_ar c q = 1
    · rw [if_pos z1, if_pos z1, if_neg (by omega)]
    · rw [if_neg z1, if_neg z1, if_neg (by omega), if_neg (by omega)]
section
variable {f_n f_verdict f_preds f_atoms f_count f_refs f_size f_trueMask f_falseMask : Int32} {a_arities a_starts a_atomPred a_atomFirst a_atomSecond a_lengths a_parts a_model a_ref a_kept a_closure a_posMask a_negMask a_chosen a_known a_decided a_savedTrue a_savedFalse a_group : Nat → Int32}
theorem ig_x_fo46 {post : Int32 → SX → Prop} {c : ig_C} {cnt : Nat} (g : ig_Gd c cnt) (hcnt : f_count = nI cnt) (hn : f_n = nI (ig_n c)) {sg q f1 f2 : Nat} (hs : sg ≤ 1) (hq : q < ig_q c) (h1 : ig_TO (ig_n c) f1) (h2 : ig_TO (ig_n c) f2) (F : ig_FX c f_n f_atoms f_size a_arities a_starts a_lengths a_parts a_closure a_known)
    (K : ∀ r sz' t' f' le' pa' clo' pm' nm' ch' kn' dc' sT' sF' gr', ig_FX c f_n f_atoms sz' a_arities a_starts le' pa' clo' kn' →
      ((r = 0 ∧ ∃ x y, x < ig_rw (ig_n c) f1 ∧ y < ig_cw (ig_n c) f1 f2 ∧ ¬ ig_Et c cnt (ig_ao c q (ig_lf f1 x) (ig_rg f1 f2 x y)) sg) ∨ (r = 1 ∧ ∀ x y, x < ig_rw (ig_n c) f1 → y < ig_cw (ig_n c) f1 f2 → ig_Et c cnt (ig_ao c q (ig_lf f1 x) (ig_rg f1 f2 x y)) sg)) →
      post r (f_n, f_verdict, f_preds, f_atoms, f_count, f_refs, sz', t', f', a_arities, a_starts, a_atomPred, a_atomFirst, a_atomSecond, le', pa', a_model, a_ref, a_kept, clo', pm', nm', ch', kn', dc', sT', sF', gr')) :
    wX_follows_46 post (nI sg) (nI q) (nI f1) (nI f2) f_n f_verdict f_preds f_atoms f_count f_refs f_size f_trueMask f_falseMask a_arities a_starts a_atomPred a_atomFirst a_atomSecond a_lengths a_parts a_model a_ref a_kept a_closure a_posMask a_negMask a_chosen a_known a_decided a_savedTrue a_savedFalse a_group := by
  have n1 := g.1.1
  have n4 := g.1.2.1
  have b1 : f1 ≤ 6 := by rcases h1 with z | z <;> omega
  have b2 : f2 ≤ 6 := by rcases h2 with z | z <;> omega
  have rn : ig_rw (ig_n c) f1 ≤ ig_n c := by unfold ig_rw; split <;> omega
  have cn : ig_cw (ig_n c) f1 f2 ≤ ig_n c := by
    unfold ig_cw
    split
    · omega
    · split <;> omega
  have go : ∃ n90, wX_follows_90 post (nI sg) (nI q) (nI f1) (nI f2) (nI (ig_rw (ig_n c) f1)) (nI (ig_cw (ig_n c) f1 f2)) n90 0 f_n f_verdict f_preds f_atoms f_count f_refs f_size f_trueMask f_falseMask a_arities a_starts a_atomPred a_atomFirst a_atomSecond a_lengths a_parts a_model a_ref a_kept a_closure a_posMask a_negMask a_chosen a_known a_decided a_savedTrue a_savedFalse a_group :=
    ⟨ig_rw (ig_n c) f1 + 1, ig_x_fo90 g hcnt hs hq h1 h2 rn cn K (ig_rw (ig_n c) f1) 0 (by omega) _ _ _ _ _ _ _ _ _ _ _ _ _ _ F (fun x' y hx' => by omega)⟩
  have t62 : wX_follows_62 post (nI sg) (nI q) (nI f1) (nI f2) (nI (ig_rw (ig_n c) f1)) f_n f_verdict f_preds f_atoms f_count f_refs f_size f_trueMask f_falseMask a_arities a_starts a_atomPred a_atomFirst a_atomSecond a_lengths a_parts a_model a_ref a_kept a_closure a_posMask a_negMask a_chosen a_known a_decided a_savedTrue a_savedFalse a_group := by
    unfold wX_follows_62
    refine pk_lt f2 4 (fun z => ?_) (fun z => pk_eq f2 f1 (fun z' => ?_) (fun z' => ?_))
    · have e : ig_cw (ig_n c) f1 f2 = 1 := if_pos z
      rw [e] at go; exact go
    · have e : ig_cw (ig_n c) f1 f2 = 1 := by unfold ig_cw; rw [if_neg (by omega), if_pos z']
      rw [e] at go; exact go
    · have e : ig_cw (ig_n c) f1 f2 = ig_n c := by unfold ig_cw; rw [if_neg (by omega), if_neg z']
      rw [e, ← hn] at go; exact go
  unfold wX_follows_46
  refine pk_lt f1 4 (fun z => ?_) (fun z => ?_)
  · have e : ig_rw (ig_n c) f1 = 1 := if_pos z
    rw [e] at t62; exact t62
  · have e : ig_rw (ig_n c) f1 = ig_n c := if_neg (by omega)
    rw [e, ← hn] at t62; exact t62
end
theorem i_vc_follows {k : Nat} {u : SX} {v : SY} (I : i_Rel k u v) (hk : k + 5 ≤ 2561) (v1 : Int32) (v2 : Int32) (v3 : Int32) (v4 : Int32) : wpX_follows (fun r u' => wpY_follows (fun r' => r' = r ∧ i_Rel (k + 5) u' v) v v1 v2 v3 v4) u v1 v2 v3 v4 := by
  refine ig_el (P := fun u v => wpX_follows (fun r u' => wpY_follows (fun r' => r' = r ∧ i_Rel (k + 5) u' v) v v1 v2 v3 v4) u v1 v2 v3 v4) I ?_
  intro f_n f_verdict f_preds f_atoms f_count f_refs f_size f_trueMask f_falseMask a_arities a_starts a_atomPred a_atomFirst a_atomSecond a_lengths a_parts a_model a_ref a_kept a_closure a_posMask a_negMask a_chosen a_known a_decided a_savedTrue a_savedFalse a_group fy_n fy_predicates fy_atoms fy_closed fy_count fy_size fy_verdict fy_model ay_arities ay_first ay_lengths ay_data ay_instances ay_kept ay_refuters c cnt g rx ry rv
  have R := ig_mk (k + 5) (f_trueMask := f_trueMask) (f_falseMask := f_falseMask) (a_kept := a_kept) (a_posMask := a_posMask) (a_negMask := a_negMask) (a_chosen := a_chosen) (a_decided := a_decided) (a_savedTrue := a_savedTrue) (a_savedFalse := a_savedFalse) (a_group := a_group) (ay_kept := ay_kept) g rx ry rv
  have h12 := g.2.1
  have n1 := g.1.1
  have n4 := g.1.2.1
  unfold wpX_follows
  dsimp only
  refine ig_x_bad rx.1 rx.2.1 g.1 (fun gl => br_t rfl ?_) (fun gl => br_f (by decide) ?_)
  case _ =>
    have gl0 := gl
    obtain ⟨sg, q, rfl, hsg, rfl, hq, h2, h3⟩ := gl
    have q10 := ig_q10 g.1 hq
    have hin : vp_in (nI q) 10 := vp_in_nI q10 (by omega)
    have r2 := (g.1.2.2.2.2.1 q hq).1
    have xa : a_arities (nI q).toNatClampNeg = nI (ig_ar c q) := by rw [nI_clamp (show q < 2 ^ 31 by omega)]; exact (rx.1.2.2.1 q hq).1
    obtain ⟨a, ha⟩ : ∃ a, 1 ≤ ig_ar c q → v3 = nI a ∧ ig_TO (ig_n c) a := by
      by_cases z : 1 ≤ ig_ar c q
      · obtain ⟨a, h⟩ := h2 z; exact ⟨a, fun _ => h⟩
      · exact ⟨0, fun h => (z h).elim⟩
    obtain ⟨b, hb⟩ : ∃ b, 2 ≤ ig_ar c q → v4 = nI b ∧ ig_TO (ig_n c) b := by
      by_cases z : 2 ≤ ig_ar c q
      · obtain ⟨b, h⟩ := h3 z; exact ⟨b, fun _ => h⟩
      · exact ⟨0, fun h => (z h).elim⟩
    have ha' : 1 ≤ ig_ar c q → v3 = nI a ∧ a ≤ 6 := fun h => ⟨(ha h).1, by rcases (ha h).2 with z | z <;> omega⟩
    have hb' : 2 ≤ ig_ar c q → v4 = nI b ∧ b ≤ 6 := fun h => ⟨(hb h).1, by rcases (hb h).2 with z | z <;> omega⟩
    have t1 : ig_TO (ig_n c) (ig_f1 c q a) := by
      unfold ig_f1
      split
      · exact Or.inl n1
      · exact (ha (by omega)).2
    have t2 : ig_TO (ig_n c) (ig_f2 c q b) := by
      unfold ig_f2
      split
      · exact Or.inl n1
      · exact (hb (by omega)).2
    have hva : ∀ e, ig_va e 4 < ig_n c → ig_va e 5 < ig_n c → ig_va e 6 < ig_n c → ∀ w, 4 ≤ w → w ≤ 6 → ig_va e w < ig_n c := fun e a b d => ig_v3 a b d
    have hAo : ∀ e, e < 64 → ig_va e 4 < ig_n c → ig_va e 5 < ig_n c → ig_va e 6 < ig_n c → ig_ao c q (ig_gv (ig_va e) a) (ig_gv (ig_va e) b) < ig_a c := by
      intro e _ e4 e5 e6
      rw [ig_fo_ao r2]
      exact ig_ao_a g.1 hq (ig_gv_n t1 n4 (hva e e4 e5 e6)) (ig_gv_n t2 n4 (hva e e4 e5 e6))
    have F0 : ig_FX c f_n f_atoms f_size a_arities a_starts a_lengths a_parts a_closure a_known := ⟨ig_L c, ig_P c, rx.1, fun s hs => ⟨rfl, (rx.1.2.2.2.1 s (by omega)).2, fun _ _ => rfl⟩, rx.2.2.2.2⟩
    have main : wX_follows_46 (fun r u' => wpY_follows (fun r' => r' = r ∧ i_Rel (k + 5) u' (fy_n, fy_predicates, fy_atoms, fy_closed, fy_count, fy_size, fy_verdict, fy_model, ay_arities, ay_first, ay_lengths, ay_data, ay_instances, ay_kept, ay_refuters)) (fy_n, fy_predicates, fy_atoms, fy_closed, fy_count, fy_size, fy_verdict, fy_model, ay_arities, ay_first, ay_lengths, ay_data, ay_instances, ay_kept, ay_refuters) (nI sg) (nI q) v3 v4) (nI sg) (nI q) (nI (ig_f1 c q a)) (nI (ig_f2 c q b)) f_n f_verdict f_preds f_atoms f_count f_refs f_size f_trueMask f_falseMask a_arities a_starts a_atomPred a_atomFirst a_atomSecond a_lengths a_parts a_model a_ref a_kept a_closure a_posMask a_negMask a_chosen a_known a_decided a_savedTrue a_savedFalse a_group := by
      refine ig_x_fo46 g rx.2.2.1 rx.1.1 hsg hq t1 t2 F0 ?_
      intro r sz' t' f' le' pa' clo' pm' nm' ch' kn' dc' sT' sF' gr' F' hr
      have R' : i_Rel (k + 5) (f_n, f_verdict, f_preds, f_atoms, f_count, f_refs, sz', t', f', a_arities, a_starts, a_atomPred, a_atomFirst, a_atomSecond, le', pa', a_model, a_ref, a_kept, clo', pm', nm', ch', kn', dc', sT', sF', gr') (fy_n, fy_predicates, fy_atoms, fy_closed, fy_count, fy_size, fy_verdict, fy_model, ay_arities, ay_first, ay_lengths, ay_data, ay_instances, ay_kept, ay_refuters) := by
        obtain ⟨L, P, tx, lk, hD⟩ := F'
        have lk' : ∀ s, s < cnt → ig_Lk c s L P s := fun s hs => lk s (by omega)
        exact ig_mk (k + 5) (ig_w_Gd g (fun s hs => lk s (by omega))) ⟨tx, rx.2.1, rx.2.2.1, rx.2.2.2.1, hD⟩ ⟨ig_w_YT lk ry.1, ry.2.1, ig_w_YI lk' ry.2.2⟩ (ig_w_RV lk' rv)
      unfold wpY_follows
      dsimp only
      refine ig_y_bad ry.1 ry.2.1 g.1 (fun _ => br_t rfl ?_) (fun gl => (gl gl0).elim)
      rcases hr with ⟨rfl, x, y, hx, hy, hn⟩ | ⟨rfl, hall⟩
      · refine ig_y_follows17 (a := a) (b := b) ry.1 ry.2.2 g hsg hq ha' hb' hAo (fun _ => ⟨rfl, R'⟩) (fun hY => (hn fun M hM => ?_).elim)
        obtain ⟨m, hm, em⟩ := ig_M_ex (ig_a c) M
        have agree : ∀ j, j < ig_a c → M j = ig_M (ig_a c) m j := fun j hj => by
          have := em j hj
          rw [← ig_M_t] at this
          exact (Bool.eq_iff_iff.mpr this).symm
        obtain ⟨e, he, e4, e5, e6, g1, g2⟩ := ig_fo_B n1 n4 t1 t2 hx hy
        have hh := hY m hm (ig_Mo_M g agree hM) e he e4 e5 e6
        have lt := hAo e he e4 e5 e6
        rw [ig_fo_ao r2, g1, g2] at hh lt
        rw [agree _ lt]
        exact hh
      · refine ig_y_follows17 (a := a) (b := b) ry.1 ry.2.2 g hsg hq ha' hb' hAo (fun hY => ?_) (fun _ => ⟨rfl, R'⟩)
        obtain ⟨m, hm, hmo, e, he, e4, e5, e6, hn⟩ := hY
        obtain ⟨x, y, hx, hy, g1, g2⟩ := ig_fo_A n1 n4 t1 t2 (hva e e4 e5 e6)
        have hh := hall x y hx hy _ hmo
        rw [g1, g2, ← ig_fo_ao r2] at hh
        exact (hn hh).elim
    have t28 : ∀ z0 : Int32, z0 = nI (ig_f1 c q a) → wX_follows_28 (fun r u' => wpY_follows (fun r' => r' = r ∧ i_Rel (k + 5) u' (fy_n, fy_predicates, fy_atoms, fy_closed, fy_count, fy_size, fy_verdict, fy_model, ay_arities, ay_first, ay_lengths, ay_data, ay_instances, ay_kept, ay_refuters)) (fy_n, fy_predicates, fy_atoms, fy_closed, fy_count, fy_size, fy_verdict, fy_model, ay_arities, ay_first, ay_lengths, ay_data, ay_instances, ay_kept, ay_refuters) (nI sg) (nI q) v3 v4) (nI sg) (nI q) v4 z0 f_n f_verdict f_preds f_atoms f_count f_refs f_size f_trueMask f_falseMask a_arities a_starts a_atomPred a_atomFirst a_atomSecond a_lengths a_parts a_model a_ref a_kept a_closure a_posMask a_negMask a_chosen a_known a_decided a_savedTrue a_savedFalse a_group := by
      intro z0 hz
      subst hz
      unfold wX_follows_28
      rw [xa]
      refine ⟨hin, pk_le (ig_ar c q) 1 (fun z => ?_) (fun z => ?_)⟩
      · have e : ig_f2 c q b = 0 := if_pos z
        rw [e] at main; exact main
      · have e : ig_f2 c q b = b := if_neg (by omega)
        rw [e, ← (hb (by omega)).1] at main; exact main
    rw [xa]
    refine ⟨hin, pk_le (ig_ar c q) 0 (fun z => t28 _ ?_) (fun z => t28 _ ?_)⟩
    · have e : ig_f1 c q a = 0 := if_pos z
      rw [e]; rfl
    · have e : ig_f1 c q a = a := if_neg (by omega)
      rw [e]; exact (ha (by omega)).1
  case _ =>
    unfold wpY_follows
    dsimp only
    exact ig_y_bad ry.1 ry.2.1 g.1 (fun gl' => (gl gl').elim) (fun _ => br_f (by decide) ⟨rfl, R⟩)
end

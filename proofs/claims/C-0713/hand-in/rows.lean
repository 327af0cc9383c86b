section
/-! pure rows to paste: stores, nI and lN arithmetic, masks, shifts, narrowing, branches by naturals (pk_le, pk_lt, pk_eq), loops (lp1 .. lp16: the measure of the state; rp1 ..: recursion), negatives. Take what you need -/
theorem pk_us {f : Nat → Int32} {k : Nat} {x : Int32} : upd f k x k = x := if_pos rfl
theorem pk_un {f : Nat → Int32} {k j : Nat} {x : Int32} (h : j ≠ k) : upd f k x j = f j := if_neg h
theorem pk_uLs {f : Nat → Int64} {k : Nat} {x : Int64} : vp_updL f k x k = x := if_pos rfl
theorem pk_uLn {f : Nat → Int64} {k j : Nat} {x : Int64} (h : j ≠ k) : vp_updL f k x j = f j := if_neg h
theorem pk_sub {a b : Nat} (h : b ≤ a) : nI a - nI b = nI (a - b) := by
  obtain ⟨c, rfl⟩ : ∃ c, a = c + b := ⟨a - b, by omega⟩
  rw [← nI_add, Int32.add_sub_cancel, Nat.add_sub_cancel]
theorem pk_m1 (n : Nat) : nI (n + 1) + (-1) = nI n := by
  rw [← nI_1, Int32.add_assoc, show (1 : Int32) + (-1) = 0 from rfl, Int32.add_zero]
theorem pk_mul (a b : Nat) : nI a * nI b = nI (a * b) := (Int32.ofNat_mul a b).symm
theorem pk_div {a d : Nat} (ha : a < 2 ^ 31) (h0 : 0 < d) (hd : d < 2 ^ 31) : nI a / nI d = nI (a / d) := by
  apply Int32.toInt_inj.mp
  rw [lg_idiv_nonneg (by rw [nI_toInt ha]; omega) (by rw [nI_toInt hd]; omega), nI_toInt ha, nI_toInt hd, nI_toInt (Nat.lt_of_le_of_lt (Nat.div_le_self a d) ha)]
  first | rfl | exact (Int.natCast_ediv _ _).symm
theorem pk_rem {a d : Nat} (ha : a < 2 ^ 31) (h0 : 0 < d) (hd : d < 2 ^ 31) : nI a - nI a / nI d * nI d = nI (a % d) := by
  rw [pk_div ha h0 hd, pk_mul, pk_sub (Nat.div_mul_le_self a d)]
  exact congrArg nI (by have := Nat.div_add_mod' a d; omega)
theorem pk_sub_toInt {a b : Nat} (ha : a < 2 ^ 30) (hb : b < 2 ^ 30) : (nI a - nI b).toInt = (a : Int) - b := by
  rw [Int32.toInt_sub, nI_toInt (by omega), nI_toInt (by omega)]
  exact Int.bmod_eq_of_le (by omega) (by omega)
theorem pk_sneg {a b : Nat} (hb : b < 2 ^ 30) (h : a < b) : nI a - nI b < 0 := by
  rw [Int32.lt_iff_toInt_lt, pk_sub_toInt (by omega) hb, show (0 : Int32).toInt = 0 from by decide]
  omega
theorem pk_ix (x : Int32) {n : Nat} (hn : n < 2 ^ 31) : x < 0 ∨ nI n ≤ x ∨ ∃ j : Nat, j < n ∧ x = nI j := by
  by_cases h : x < 0
  · exact Or.inl h
  · obtain ⟨j, hj, rfl⟩ := nI_of h
    by_cases h2 : j < n
    · exact Or.inr (Or.inr ⟨j, h2, rfl⟩)
    · exact Or.inr (Or.inl (nI_le (by omega) hj))
theorem pk_le {x y : Int32} {A B : Prop} (a b : Nat) (f : a ≤ b → A) (g : b < a → B) (hx : x = nI a := by rfl) (hy : y = nI b := by rfl) (ha : a < 2 ^ 31 := by omega) (hb : b < 2 ^ 31 := by omega) : (x ≤ y → A) ∧ (¬ x ≤ y → B) := by
  subst hx hy
  rw [nI_leI ha hb]
  exact ⟨f, fun z => g (by omega)⟩
theorem pk_lt {x y : Int32} {A B : Prop} (a b : Nat) (f : a < b → A) (g : b ≤ a → B) (hx : x = nI a := by rfl) (hy : y = nI b := by rfl) (ha : a < 2 ^ 31 := by omega) (hb : b < 2 ^ 31 := by omega) : (x < y → A) ∧ (¬ x < y → B) := by
  subst hx hy
  rw [nI_ltI ha hb]
  exact ⟨f, fun z => g (by omega)⟩
theorem pk_eq {x y : Int32} {A B : Prop} (a b : Nat) (f : a = b → A) (g : a ≠ b → B) (hx : x = nI a := by rfl) (hy : y = nI b := by rfl) (ha : a < 2 ^ 31 := by omega) (hb : b < 2 ^ 31 := by omega) : (x = y → A) ∧ (¬ x = y → B) := by
  subst hx hy
  rw [nI_eq ha hb]
  exact ⟨f, g⟩
theorem pk_in {x : Int32} (n N : Nat) (h : n < N) (hx : x = nI n := by rfl) (hN : N < 2 ^ 31 := by omega) : vp_in x N := by
  subst hx
  exact vp_in_nI h hN
theorem pk_cl {x : Int32} (n : Nat) (hx : x = nI n := by rfl) (h : n < 2 ^ 31 := by omega) : x.toNatClampNeg = n := by
  subst hx
  exact nI_clamp h
theorem pk_tn {n : Nat} (h : n < 2 ^ 32) : (nI n).toBitVec.toNat = n := Nat.mod_eq_of_lt h
theorem pk_and (x : Int32) {m : Int32} (k : Nat) (hm : m.toBitVec.toNat = 2 ^ k - 1) : x &&& m = nI (x.toBitVec.toNat % 2 ^ k) := by
  apply Int32.toBitVec_inj.mp
  apply BitVec.eq_of_toNat_eq
  rw [Int32.toBitVec_and, BitVec.toNat_and, hm, Nat.and_two_pow_sub_one_eq_mod]
  show _ = (BitVec.ofNat 32 _).toNat
  rw [BitVec.toNat_ofNat]
  exact (Nat.mod_eq_of_lt (Nat.lt_of_le_of_lt (Nat.mod_le _ _) x.toBitVec.isLt)).symm
theorem pk_andN {n : Nat} (h : n < 2 ^ 32) {m : Int32} (k : Nat) (hm : m.toBitVec.toNat = 2 ^ k - 1) : nI n &&& m = nI (n % 2 ^ k) := by
  rw [pk_and _ k hm, pk_tn h]
theorem pk_andE (x : Int32) {m : Int32} (k : Nat) (hm : m.toBitVec.toNat = 2 ^ k - 1) : ∃ j : Nat, j < 2 ^ k ∧ x &&& m = nI j := ⟨_, Nat.mod_lt _ (Nat.two_pow_pos k), pk_and x k hm⟩
theorem pk_andIn (x : Int32) {m : Int32} (k : Nat) (hm : m.toBitVec.toNat = 2 ^ k - 1) (hk : k ≤ 30) : vp_in (x &&& m) (2 ^ k) := by
  obtain ⟨j, hj, e⟩ := pk_andE x k hm
  rw [e]
  exact vp_in_nI hj (Nat.lt_of_le_of_lt (Nat.pow_le_pow_right (by decide) hk) (by decide))
theorem pk_shl (a s : Int32) (k : Nat) (hs : (s.toBitVec.smod 32).toNat = k) : (a <<< s).toBitVec.toNat = a.toBitVec.toNat * 2 ^ k % 2 ^ 32 := by
  show (a.toBitVec <<< (s.toBitVec.smod 32).toNat).toNat = _
  rw [hs, BitVec.toNat_shiftLeft, Nat.shiftLeft_eq]
theorem pk_shlN {n : Nat} (s : Int32) (k : Nat) (hs : (s.toBitVec.smod 32).toNat = k) (h : n * 2 ^ k < 2 ^ 32) : nI n <<< s = nI (n * 2 ^ k) := by
  apply Int32.toBitVec_inj.mp
  apply BitVec.eq_of_toNat_eq
  have hn : n < 2 ^ 32 := Nat.lt_of_le_of_lt (Nat.le_mul_of_pos_right n (Nat.two_pow_pos k)) h
  rw [pk_shl _ _ k hs, pk_tn hn, pk_tn h, Nat.mod_eq_of_lt h]
theorem pk_shr (a s : Int32) (k : Nat) (hs : (s.toBitVec.smod 32).toNat = k) : (a >>> s).toInt = a.toInt >>> k := by
  show (a.toBitVec.sshiftRight (s.toBitVec.smod 32).toNat).toInt = _
  rw [hs, BitVec.toInt_sshiftRight]
  rfl
theorem pk_shrN {n : Nat} (h : n < 2 ^ 31) (s : Int32) (k : Nat) (hs : (s.toBitVec.smod 32).toNat = k) : nI n >>> s = nI (n / 2 ^ k) := by
  apply Int32.toInt_inj.mp
  have h2 : n / 2 ^ k ≤ n := Nat.div_le_self _ _
  rw [pk_shr _ _ k hs, nI_toInt h, nI_toInt (by omega), Int.shiftRight_eq_div_pow]
  rfl
theorem pk_ushr (x s : Int32) (k : Nat) (hs : ((s.toUInt32 &&& Int32.toUInt32 31).toBitVec % 32).toNat = k) : (x.toUInt32 >>> (s.toUInt32 &&& Int32.toUInt32 31)).toInt32.toBitVec.toNat = x.toBitVec.toNat / 2 ^ k := by
  have e : (x.toUInt32 >>> (s.toUInt32 &&& Int32.toUInt32 31)).toInt32.toBitVec = x.toBitVec >>> k := by
    rw [← hs]
    exact UInt32.toBitVec_shiftRight _ _
  rw [e, BitVec.toNat_ushiftRight, Nat.shiftRight_eq_div_pow]
theorem pk_ushrN {n : Nat} (hn : n < 2 ^ 32) (s : Int32) (k : Nat) (hs : ((s.toUInt32 &&& Int32.toUInt32 31).toBitVec % 32).toNat = k) : ((nI n).toUInt32 >>> (s.toUInt32 &&& Int32.toUInt32 31)).toInt32 = nI (n / 2 ^ k) := by
  apply Int32.toBitVec_inj.mp
  apply BitVec.eq_of_toNat_eq
  rw [pk_ushr _ s k hs, pk_tn hn, pk_tn (Nat.lt_of_le_of_lt (Nat.div_le_self _ _) hn)]
theorem pk_nb (z : Int32) : narrow .byte (.int z.toInt8.toInt32) = .int z.toInt8.toInt32 := congrArg Value.int (by simp)
theorem pk_ns (z : Int32) : narrow .short (.int z.toInt16.toInt32) = .int z.toInt16.toInt32 := congrArg Value.int (by simp)
theorem pk_fb (r : Int32) : fits .byte (.int r.toInt8.toInt32) = true := by
  have ⟨a, b⟩ := lg_i2b_range r
  have h1 : (-128 : Int32).toInt = -128 := by decide
  have h2 : (127 : Int32).toInt = 127 := by decide
  simp only [fits, Bool.and_eq_true, decide_eq_true_eq, Int32.le_iff_toInt_le, h1, h2]
  omega
theorem pk_fs (r : Int32) : fits .short (.int r.toInt16.toInt32) = true := by
  have ⟨a, b⟩ := lg_i2s_range r
  have h1 : (-32768 : Int32).toInt = -32768 := by decide
  have h2 : (32767 : Int32).toInt = 32767 := by decide
  simp only [fits, Bool.and_eq_true, decide_eq_true_eq, Int32.le_iff_toInt_le, h1, h2]
  omega
theorem pk_charN {q : Nat} (hq : q < 65536) : narrow .char (.int (nI q)) = .int (nI q) ∧ fits .char (.int (nI q)) = true := by
  constructor
  · have e : (nI q).toUInt32.toUInt16.toUInt32.toInt32 = nI q := by
      apply Int32.toBitVec_inj.mp
      apply BitVec.eq_of_toNat_eq
      show (nI q).toUInt32.toUInt16.toUInt32.toNat = q % 2 ^ 32
      rw [UInt16.toNat_toUInt32, UInt32.toNat_toUInt16, show (nI q).toUInt32.toNat = q % 2 ^ 32 from rfl]
      omega
    exact congrArg Value.int e
  · have a : (0 : Int32) ≤ nI q := nI_pos' (by omega)
    have b : nI q ≤ 65535 := nI_le (b := 65535) (by omega) (by decide)
    show (decide ((0 : Int32) ≤ nI q) && decide (nI q ≤ 65535)) = true
    rw [decide_eq_true a, decide_eq_true b]
    rfl
theorem pk_char (x : Int32) : (x.toUInt32 % 65536).toInt32 = nI (x.toBitVec.toNat % 65536) := by
  apply Int32.toBitVec_inj.mp
  apply BitVec.eq_of_toNat_eq
  rw [pk_tn (by omega)]
  show (x.toUInt32 % 65536).toNat = _
  rw [UInt32.toNat_mod]
  rfl
theorem pk_nc (x : Int32) : narrow .char (.int (x.toUInt32 % 65536).toInt32) = .int (x.toUInt32 % 65536).toInt32 := by
  rw [pk_char]
  exact (pk_charN (Nat.mod_lt _ (by decide))).1
theorem pk_fc (x : Int32) : fits .char (.int (x.toUInt32 % 65536).toInt32) = true := by
  rw [pk_char]
  exact (pk_charN (Nat.mod_lt _ (by decide))).2
theorem pk_vb (z : Int32) : vp_nar .byte z.toInt8.toInt32 = z.toInt8.toInt32 := by rw [vp_nar_byte]; simp
theorem pk_vs (z : Int32) : vp_nar .short z.toInt16.toInt32 = z.toInt16.toInt32 := by rw [vp_nar_short]; simp
theorem pk_vc (z : Int32) : vp_nar .char (z.toUInt32 % 65536).toInt32 = (z.toUInt32 % 65536).toInt32 := Value.int.inj (pk_nc z)
theorem pk_lT {n : Nat} (h : n < 2 ^ 63) : (lN n).toInt = (n : Int) := lg_ofNat_toInt h
theorem pk_lLT {a b : Nat} (ha : a < 2 ^ 63) (hb : b < 2 ^ 63) : lN a < lN b ↔ a < b := by
  rw [Int64.lt_iff_toInt_lt, pk_lT ha, pk_lT hb]; omega
theorem pk_lLE {a b : Nat} (ha : a < 2 ^ 63) (hb : b < 2 ^ 63) : lN a ≤ lN b ↔ a ≤ b := by
  rw [Int64.le_iff_toInt_le, pk_lT ha, pk_lT hb]; omega
theorem pk_lEQ {a b : Nat} (ha : a < 2 ^ 63) (hb : b < 2 ^ 63) : lN a = lN b ↔ a = b := by
  rw [← Int64.toInt_inj, pk_lT ha, pk_lT hb]; omega
theorem pk_lOf {x : Int64} (h : ¬ x < 0) : ∃ k : Nat, k < 2 ^ 63 ∧ x = lN k := by
  rw [Int64.lt_iff_toInt_lt] at h
  have h0 : (0 : Int64).toInt = 0 := by decide
  have hx := Int64.toInt_lt x
  refine ⟨x.toInt.toNat, by omega, Int64.toInt_inj.mp ?_⟩
  rw [pk_lT (by omega)]
  omega
theorem pk_lDiv {a b : Nat} (ha : a < 2 ^ 63) (h0 : 0 < b) (hb : b < 2 ^ 63) : lN a / lN b = lN (a / b) := by
  apply Int64.toInt_inj.mp
  rw [lg_ldiv_nonneg (by rw [pk_lT ha]; omega) (by rw [pk_lT hb]; omega), pk_lT ha, pk_lT hb, pk_lT (Nat.lt_of_le_of_lt (Nat.div_le_self a b) ha)]
  rfl
theorem pk_lRem {a b : Nat} (ha : a < 2 ^ 63) (h0 : 0 < b) (hb : b < 2 ^ 63) : lN a - lN a / lN b * lN b = lN (a % b) := by
  rw [pk_lDiv ha h0 hb, lN_mul, lN_sub (Nat.div_mul_le_self a b)]
  exact congrArg lN (by have := Nat.div_add_mod' a b; omega)
theorem pk_loop {σ : Type} (W : Nat → Nat → σ → Prop) (I : Nat → σ → Prop) (e i0 : Nat) (s : σ) (hi : i0 ≤ e) (h0 : I i0 s) (hx : ∀ n s, I e s → W (n + 1) e s)
    (hs : ∀ n i s, i < e → I i s → (∀ s', I (i + 1) s' → W n (i + 1) s') → W (n + 1) i s) : ∃ n, W n i0 s :=
  ⟨e + 1, loop_i W I e hx hs (e + 1) i0 s hi (by omega) h0⟩
theorem pk_loopD {σ : Type} (W : Nat → Nat → σ → Prop) (I : Nat → σ → Prop) (hx : ∀ n s, I 0 s → W (n + 1) 0 s)
    (hs : ∀ n i s, I (i + 1) s → (∀ s', I i s' → W n i s') → W (n + 1) (i + 1) s) : ∀ (e : Nat) (s : σ), I e s → W (e + 1) e s := by
  intro e
  induction e with
  | zero => exact fun s h => hx 0 s h
  | succ e ih => exact fun s h => hs (e + 1) e s h (fun s' h' => ih s' h')
theorem lp1 {A1 : Type} (W : Nat → A1 → Prop) (I : A1 → Prop) (μ : A1 → Nat) (hs : ∀ (n : Nat) (a1 : A1), I a1 → (∀ (b1 : A1), I b1 → μ b1 < μ a1 → W n b1) → W (n + 1) a1) (a1 : A1) (h : I a1) : ∃ n, W n a1 :=
  loop_m (σ := A1) (fun n s => W n s) (fun s => I s) (fun s => μ s) (fun n s hI hk => hs n s hI (fun b1 h9 hm => hk b1 h9 hm)) a1 h
theorem lp2 {A1 A2 : Type} (W : Nat → A1 → A2 → Prop) (I : A1 → A2 → Prop) (μ : A1 → A2 → Nat) (hs : ∀ (n : Nat) (a1 : A1) (a2 : A2), I a1 a2 → (∀ (b1 : A1) (b2 : A2), I b1 b2 → μ b1 b2 < μ a1 a2 → W n b1 b2) → W (n + 1) a1 a2) (a1 : A1) (a2 : A2) (h : I a1 a2) : ∃ n, W n a1 a2 :=
  loop_m (σ := A1 × A2) (fun n s => W n s.1 s.2) (fun s => I s.1 s.2) (fun s => μ s.1 s.2) (fun n s hI hk => hs n s.1 s.2 hI (fun b1 b2 h9 hm => hk (b1, b2) h9 hm)) (a1, a2) h
theorem lp3 {A1 A2 A3 : Type} (W : Nat → A1 → A2 → A3 → Prop) (I : A1 → A2 → A3 → Prop) (μ : A1 → A2 → A3 → Nat) (hs : ∀ (n : Nat) (a1 : A1) (a2 : A2) (a3 : A3), I a1 a2 a3 → (∀ (b1 : A1) (b2 : A2) (b3 : A3), I b1 b2 b3 → μ b1 b2 b3 < μ a1 a2 a3 → W n b1 b2 b3) → W (n + 1) a1 a2 a3) (a1 : A1) (a2 : A2) (a3 : A3) (h : I a1 a2 a3) : ∃ n, W n a1 a2 a3 :=
  loop_m (σ := A1 × A2 × A3) (fun n s => W n s.1 s.2.1 s.2.2) (fun s => I s.1 s.2.1 s.2.2) (fun s => μ s.1 s.2.1 s.2.2) (fun n s hI hk => hs n s.1 s.2.1 s.2.2 hI (fun b1 b2 b3 h9 hm => hk (b1, b2, b3) h9 hm)) (a1, a2, a3) h
theorem lp4 {A1 A2 A3 A4 : Type} (W : Nat → A1 → A2 → A3 → A4 → Prop) (I : A1 → A2 → A3 → A4 → Prop) (μ : A1 → A2 → A3 → A4 → Nat) (hs : ∀ (n : Nat) (a1 : A1) (a2 : A2) (a3 : A3) (a4 : A4), I a1 a2 a3 a4 → (∀ (b1 : A1) (b2 : A2) (b3 : A3) (b4 : A4), I b1 b2 b3 b4 → μ b1 b2 b3 b4 < μ a1 a2 a3 a4 → W n b1 b2 b3 b4) → W (n + 1) a1 a2 a3 a4) (a1 : A1) (a2 : A2) (a3 : A3) (a4 : A4) (h : I a1 a2 a3 a4) : ∃ n, W n a1 a2 a3 a4 :=
  loop_m (σ := A1 × A2 × A3 × A4) (fun n s => W n s.1 s.2.1 s.2.2.1 s.2.2.2) (fun s => I s.1 s.2.1 s.2.2.1 s.2.2.2) (fun s => μ s.1 s.2.1 s.2.2.1 s.2.2.2) (fun n s hI hk => hs n s.1 s.2.1 s.2.2.1 s.2.2.2 hI (fun b1 b2 b3 b4 h9 hm => hk (b1, b2, b3, b4) h9 hm)) (a1, a2, a3, a4) h
theorem lp5 {A1 A2 A3 A4 A5 : Type} (W : Nat → A1 → A2 → A3 → A4 → A5 → Prop) (I : A1 → A2 → A3 → A4 → A5 → Prop) (μ : A1 → A2 → A3 → A4 → A5 → Nat) (hs : ∀ (n : Nat) (a1 : A1) (a2 : A2) (a3 : A3) (a4 : A4) (a5 : A5), I a1 a2 a3 a4 a5 → (∀ (b1 : A1) (b2 : A2) (b3 : A3) (b4 : A4) (b5 : A5), I b1 b2 b3 b4 b5 → μ b1 b2 b3 b4 b5 < μ a1 a2 a3 a4 a5 → W n b1 b2 b3 b4 b5) → W (n + 1) a1 a2 a3 a4 a5) (a1 : A1) (a2 : A2) (a3 : A3) (a4 : A4) (a5 : A5) (h : I a1 a2 a3 a4 a5) : ∃ n, W n a1 a2 a3 a4 a5 :=
  loop_m (σ := A1 × A2 × A3 × A4 × A5) (fun n s => W n s.1 s.2.1 s.2.2.1 s.2.2.2.1 s.2.2.2.2) (fun s => I s.1 s.2.1 s.2.2.1 s.2.2.2.1 s.2.2.2.2) (fun s => μ s.1 s.2.1 s.2.2.1 s.2.2.2.1 s.2.2.2.2) (fun n s hI hk => hs n s.1 s.2.1 s.2.2.1 s.2.2.2.1 s.2.2.2.2 hI (fun b1 b2 b3 b4 b5 h9 hm => hk (b1, b2, b3, b4, b5) h9 hm)) (a1, a2, a3, a4, a5) h
theorem lp6 {A1 A2 A3 A4 A5 A6 : Type} (W : Nat → A1 → A2 → A3 → A4 → A5 → A6 → Prop) (I : A1 → A2 → A3 → A4 → A5 → A6 → Prop) (μ : A1 → A2 → A3 → A4 → A5 → A6 → Nat) (hs : ∀ (n : Nat) (a1 : A1) (a2 : A2) (a3 : A3) (a4 : A4) (a5 : A5) (a6 : A6), I a1 a2 a3 a4 a5 a6 → (∀ (b1 : A1) (b2 : A2) (b3 : A3) (b4 : A4) (b5 : A5) (b6 : A6), I b1 b2 b3 b4 b5 b6 → μ b1 b2 b3 b4 b5 b6 < μ a1 a2 a3 a4 a5 a6 → W n b1 b2 b3 b4 b5 b6) → W (n + 1) a1 a2 a3 a4 a5 a6) (a1 : A1) (a2 : A2) (a3 : A3) (a4 : A4) (a5 : A5) (a6 : A6) (h : I a1 a2 a3 a4 a5 a6) : ∃ n, W n a1 a2 a3 a4 a5 a6 :=
  loop_m (σ := A1 × A2 × A3 × A4 × A5 × A6) (fun n s => W n s.1 s.2.1 s.2.2.1 s.2.2.2.1 s.2.2.2.2.1 s.2.2.2.2.2) (fun s => I s.1 s.2.1 s.2.2.1 s.2.2.2.1 s.2.2.2.2.1 s.2.2.2.2.2) (fun s => μ s.1 s.2.1 s.2.2.1 s.2.2.2.1 s.2.2.2.2.1 s.2.2.2.2.2) (fun n s hI hk => hs n s.1 s.2.1 s.2.2.1 s.2.2.2.1 s.2.2.2.2.1 s.2.2.2.2.2 hI (fun b1 b2 b3 b4 b5 b6 h9 hm => hk (b1, b2, b3, b4, b5, b6) h9 hm)) (a1, a2, a3, a4, a5, a6) h
theorem lp7 {A1 A2 A3 A4 A5 A6 A7 : Type} (W : Nat → A1 → A2 → A3 → A4 → A5 → A6 → A7 → Prop) (I : A1 → A2 → A3 → A4 → A5 → A6 → A7 → Prop) (μ : A1 → A2 → A3 → A4 → A5 → A6 → A7 → Nat) (hs : ∀ (n : Nat) (a1 : A1) (a2 : A2) (a3 : A3) (a4 : A4) (a5 : A5) (a6 : A6) (a7 : A7), I a1 a2 a3 a4 a5 a6 a7 → (∀ (b1 : A1) (b2 : A2) (b3 : A3) (b4 : A4) (b5 : A5) (b6 : A6) (b7 : A7), I b1 b2 b3 b4 b5 b6 b7 → μ b1 b2 b3 b4 b5 b6 b7 < μ a1 a2 a3 a4 a5 a6 a7 → W n b1 b2 b3 b4 b5 b6 b7) → W (n + 1) a1 a2 a3 a4 a5 a6 a7) (a1 : A1) (a2 : A2) (a3 : A3) (a4 : A4) (a5 : A5) (a6 : A6) (a7 : A7) (h : I a1 a2 a3 a4 a5 a6 a7) : ∃ n, W n a1 a2 a3 a4 a5 a6 a7 :=
  loop_m (σ := A1 × A2 × A3 × A4 × A5 × A6 × A7) (fun n s => W n s.1 s.2.1 s.2.2.1 s.2.2.2.1 s.2.2.2.2.1 s.2.2.2.2.2.1 s.2.2.2.2.2.2) (fun s => I s.1 s.2.1 s.2.2.1 s.2.2.2.1 s.2.2.2.2.1 s.2.2.2.2.2.1 s.2.2.2.2.2.2) (fun s => μ s.1 s.2.1 s.2.2.1 s.2.2.2.1 s.2.2.2.2.1 s.2.2.2.2.2.1 s.2.2.2.2.2.2) (fun n s hI hk => hs n s.1 s.2.1 s.2.2.1 s.2.2.2.1 s.2.2.2.2.1 s.2.2.2.2.2.1 s.2.2.2.2.2.2 hI (fun b1 b2 b3 b4 b5 b6 b7 h9 hm => hk (b1, b2, b3, b4, b5, b6, b7) h9 hm)) (a1, a2, a3, a4, a5, a6, a7) h
theorem lp8 {A1 A2 A3 A4 A5 A6 A7 A8 : Type} (W : Nat → A1 → A2 → A3 → A4 → A5 → A6 → A7 → A8 → Prop) (I : A1 → A2 → A3 → A4 → A5 → A6 → A7 → A8 → Prop) (μ : A1 → A2 → A3 → A4 → A5 → A6 → A7 → A8 → Nat) (hs : ∀ (n : Nat) (a1 : A1) (a2 : A2) (a3 : A3) (a4 : A4) (a5 : A5) (a6 : A6) (a7 : A7) (a8 : A8), I a1 a2 a3 a4 a5 a6 a7 a8 → (∀ (b1 : A1) (b2 : A2) (b3 : A3) (b4 : A4) (b5 : A5) (b6 : A6) (b7 : A7) (b8 : A8), I b1 b2 b3 b4 b5 b6 b7 b8 → μ b1 b2 b3 b4 b5 b6 b7 b8 < μ a1 a2 a3 a4 a5 a6 a7 a8 → W n b1 b2 b3 b4 b5 b6 b7 b8) → W (n + 1) a1 a2 a3 a4 a5 a6 a7 a8) (a1 : A1) (a2 : A2) (a3 : A3) (a4 : A4) (a5 : A5) (a6 : A6) (a7 : A7) (a8 : A8) (h : I a1 a2 a3 a4 a5 a6 a7 a8) : ∃ n, W n a1 a2 a3 a4 a5 a6 a7 a8 :=
  loop_m (σ := A1 × A2 × A3 × A4 × A5 × A6 × A7 × A8) (fun n s => W n s.1 s.2.1 s.2.2.1 s.2.2.2.1 s.2.2.2.2.1 s.2.2.2.2.2.1 s.2.2.2.2.2.2.1 s.2.2.2.2.2.2.2) (fun s => I s.1 s.2.1 s.2.2.1 s.2.2.2.1 s.2.2.2.2.1 s.2.2.2.2.2.1 s.2.2.2.2.2.2.1 s.2.2.2.2.2.2.2) (fun s => μ s.1 s.2.1 s.2.2.1 s.2.2.2.1 s.2.2.2.2.1 s.2.2.2.2.2.1 s.2.2.2.2.2.2.1 s.2.2.2.2.2.2.2) (fun n s hI hk => hs n s.1 s.2.1 s.2.2.1 s.2.2.2.1 s.2.2.2.2.1 s.2.2.2.2.2.1 s.2.2.2.2.2.2.1 s.2.2.2.2.2.2.2 hI (fun b1 b2 b3 b4 b5 b6 b7 b8 h9 hm => hk (b1, b2, b3, b4, b5, b6, b7, b8) h9 hm)) (a1, a2, a3, a4, a5, a6, a7, a8) h
theorem lp9 {A1 A2 A3 A4 A5 A6 A7 A8 A9 : Type} (W : Nat → A1 → A2 → A3 → A4 → A5 → A6 → A7 → A8 → A9 → Prop) (I : A1 → A2 → A3 → A4 → A5 → A6 → A7 → A8 → A9 → Prop) (μ : A1 → A2 → A3 → A4 → A5 → A6 → A7 → A8 → A9 → Nat) (hs : ∀ (n : Nat) (a1 : A1) (a2 : A2) (a3 : A3) (a4 : A4) (a5 : A5) (a6 : A6) (a7 : A7) (a8 : A8) (a9 : A9), I a1 a2 a3 a4 a5 a6 a7 a8 a9 → (∀ (b1 : A1) (b2 : A2) (b3 : A3) (b4 : A4) (b5 : A5) (b6 : A6) (b7 : A7) (b8 : A8) (b9 : A9), I b1 b2 b3 b4 b5 b6 b7 b8 b9 → μ b1 b2 b3 b4 b5 b6 b7 b8 b9 < μ a1 a2 a3 a4 a5 a6 a7 a8 a9 → W n b1 b2 b3 b4 b5 b6 b7 b8 b9) → W (n + 1) a1 a2 a3 a4 a5 a6 a7 a8 a9) (a1 : A1) (a2 : A2) (a3 : A3) (a4 : A4) (a5 : A5) (a6 : A6) (a7 : A7) (a8 : A8) (a9 : A9) (h : I a1 a2 a3 a4 a5 a6 a7 a8 a9) : ∃ n, W n a1 a2 a3 a4 a5 a6 a7 a8 a9 :=
  loop_m (σ := A1 × A2 × A3 × A4 × A5 × A6 × A7 × A8 × A9) (fun n s => W n s.1 s.2.1 s.2.2.1 s.2.2.2.1 s.2.2.2.2.1 s.2.2.2.2.2.1 s.2.2.2.2.2.2.1 s.2.2.2.2.2.2.2.1 s.2.2.2.2.2.2.2.2) (fun s => I s.1 s.2.1 s.2.2.1 s.2.2.2.1 s.2.2.2.2.1 s.2.2.2.2.2.1 s.2.2.2.2.2.2.1 s.2.2.2.2.2.2.2.1 s.2.2.2.2.2.2.2.2) (fun s => μ s.1 s.2.1 s.2.2.1 s.2.2.2.1 s.2.2.2.2.1 s.2.2.2.2.2.1 s.2.2.2.2.2.2.1 s.2.2.2.2.2.2.2.1 s.2.2.2.2.2.2.2.2) (fun n s hI hk => hs n s.1 s.2.1 s.2.2.1 s.2.2.2.1 s.2.2.2.2.1 s.2.2.2.2.2.1 s.2.2.2.2.2.2.1 s.2.2.2.2.2.2.2.1 s.2.2.2.2.2.2.2.2 hI (fun b1 b2 b3 b4 b5 b6 b7 b8 b9 h9 hm => hk (b1, b2, b3, b4, b5, b6, b7, b8, b9) h9 hm)) (a1, a2, a3, a4, a5, a6, a7, a8, a9) h
theorem lp10 {A1 A2 A3 A4 A5 A6 A7 A8 A9 A10 : Type} (W : Nat → A1 → A2 → A3 → A4 → A5 → A6 → A7 → A8 → A9 → A10 → Prop) (I : A1 → A2 → A3 → A4 → A5 → A6 → A7 → A8 → A9 → A10 → Prop) (μ : A1 → A2 → A3 → A4 → A5 → A6 → A7 → A8 → A9 → A10 → Nat) (hs : ∀ (n : Nat) (a1 : A1) (a2 : A2) (a3 : A3) (a4 : A4) (a5 : A5) (a6 : A6) (a7 : A7) (a8 : A8) (a9 : A9) (a10 : A10), I a1 a2 a3 a4 a5 a6 a7 a8 a9 a10 → (∀ (b1 : A1) (b2 : A2) (b3 : A3) (b4 : A4) (b5 : A5) (b6 : A6) (b7 : A7) (b8 : A8) (b9 : A9) (b10 : A10), I b1 b2 b3 b4 b5 b6 b7 b8 b9 b10 → μ b1 b2 b3 b4 b5 b6 b7 b8 b9 b10 < μ a1 a2 a3 a4 a5 a6 a7 a8 a9 a10 → W n b1 b2 b3 b4 b5 b6 b7 b8 b9 b10) → W (n + 1) a1 a2 a3 a4 a5 a6 a7 a8 a9 a10) (a1 : A1) (a2 : A2) (a3 : A3) (a4 : A4) (a5 : A5) (a6 : A6) (a7 : A7) (a8 : A8) (a9 : A9) (a10 : A10) (h : I a1 a2 a3 a4 a5 a6 a7 a8 a9 a10) : ∃ n, W n a1 a2 a3 a4 a5 a6 a7 a8 a9 a10 :=
  loop_m (σ := A1 × A2 × A3 × A4 × A5 × A6 × A7 × A8 × A9 × A10) (fun n s => W n s.1 s.2.1 s.2.2.1 s.2.2.2.1 s.2.2.2.2.1 s.2.2.2.2.2.1 s.2.2.2.2.2.2.1 s.2.2.2.2.2.2.2.1 s.2.2.2.2.2.2.2.2.1 s.2.2.2.2.2.2.2.2.2) (fun s => I s.1 s.2.1 s.2.2.1 s.2.2.2.1 s.2.2.2.2.1 s.2.2.2.2.2.1 s.2.2.2.2.2.2.1 s.2.2.2.2.2.2.2.1 s.2.2.2.2.2.2.2.2.1 s.2.2.2.2.2.2.2.2.2) (fun s => μ s.1 s.2.1 s.2.2.1 s.2.2.2.1 s.2.2.2.2.1 s.2.2.2.2.2.1 s.2.2.2.2.2.2.1 s.2.2.2.2.2.2.2.1 s.2.2.2.2.2.2.2.2.1 s.2.2.2.2.2.2.2.2.2) (fun n s hI hk => hs n s.1 s.2.1 s.2.2.1 s.2.2.2.1 s.2.2.2.2.1 s.2.2.2.2.2.1 s.2.2.2.2.2.2.1 s.2.2.2.2.2.2.2.1 s.2.2.2.2.2.2.2.2.1 s.2.2.2.2.2.2.2.2.2 hI (fun b1 b2 b3 b4 b5 b6 b7 b8 b9 b10 h9 hm => hk (b1, b2, b3, b4, b5, b6, b7, b8, b9, b10) h9 hm)) (a1, a2, a3, a4, a5, a6, a7, a8, a9, a10) h
theorem lp11 {A1 A2 A3 A4 A5 A6 A7 A8 A9 A10 A11 : Type} (W : Nat → A1 → A2 → A3 → A4 → A5 → A6 → A7 → A8 → A9 → A10 → A11 → Prop) (I : A1 → A2 → A3 → A4 → A5 → A6 → A7 → A8 → A9 → A10 → A11 → Prop) (μ : A1 → A2 → A3 → A4 → A5 → A6 → A7 → A8 → A9 → A10 → A11 → Nat) (hs : ∀ (n : Nat) (a1 : A1) (a2 : A2) (a3 : A3) (a4 : A4) (a5 : A5) (a6 : A6) (a7 : A7) (a8 : A8) (a9 : A9) (a10 : A10) (a11 : A11), I a1 a2 a3 a4 a5 a6 a7 a8 a9 a10 a11 → (∀ (b1 : A1) (b2 : A2) (b3 : A3) (b4 : A4) (b5 : A5) (b6 : A6) (b7 : A7) (b8 : A8) (b9 : A9) (b10 : A10) (b11 : A11), I b1 b2 b3 b4 b5 b6 b7 b8 b9 b10 b11 → μ b1 b2 b3 b4 b5 b6 b7 b8 b9 b10 b11 < μ a1 a2 a3 a4 a5 a6 a7 a8 a9 a10 a11 → W n b1 b2 b3 b4 b5 b6 b7 b8 b9 b10 b11) → W (n + 1) a1 a2 a3 a4 a5 a6 a7 a8 a9 a10 a11) (a1 : A1) (a2 : A2) (a3 : A3) (a4 : A4) (a5 : A5) (a6 : A6) (a7 : A7) (a8 : A8) (a9 : A9) (a10 : A10) (a11 : A11) (h : I a1 a2 a3 a4 a5 a6 a7 a8 a9 a10 a11) : ∃ n, W n a1 a2 a3 a4 a5 a6 a7 a8 a9 a10 a11 :=
  loop_m (σ := A1 × A2 × A3 × A4 × A5 × A6 × A7 × A8 × A9 × A10 × A11) (fun n s => W n s.1 s.2.1 s.2.2.1 s.2.2.2.1 s.2.2.2.2.1 s.2.2.2.2.2.1 s.2.2.2.2.2.2.1 s.2.2.2.2.2.2.2.1 s.2.2.2.2.2.2.2.2.1 s.2.2.2.2.2.2.2.2.2.1 s.2.2.2.2.2.2.2.2.2.2) (fun s => I s.1 s.2.1 s.2.2.1 s.2.2.2.1 s.2.2.2.2.1 s.2.2.2.2.2.1 s.2.2.2.2.2.2.1 s.2.2.2.2.2.2.2.1 s.2.2.2.2.2.2.2.2.1 s.2.2.2.2.2.2.2.2.2.1 s.2.2.2.2.2.2.2.2.2.2) (fun s => μ s.1 s.2.1 s.2.2.1 s.2.2.2.1 s.2.2.2.2.1 s.2.2.2.2.2.1 s.2.2.2.2.2.2.1 s.2.2.2.2.2.2.2.1 s.2.2.2.2.2.2.2.2.1 s.2.2.2.2.2.2.2.2.2.1 s.2.2.2.2.2.2.2.2.2.2) (fun n s hI hk => hs n s.1 s.2.1 s.2.2.1 s.2.2.2.1 s.2.2.2.2.1 s.2.2.2.2.2.1 s.2.2.2.2.2.2.1 s.2.2.2.2.2.2.2.1 s.2.2.2.2.2.2.2.2.1 s.2.2.2.2.2.2.2.2.2.1 s.2.2.2.2.2.2.2.2.2.2 hI (fun b1 b2 b3 b4 b5 b6 b7 b8 b9 b10 b11 h9 hm => hk (b1, b2, b3, b4, b5, b6, b7, b8, b9, b10, b11) h9 hm)) (a1, a2, a3, a4, a5, a6, a7, a8, a9, a10, a11) h
theorem lp12 {A1 A2 A3 A4 A5 A6 A7 A8 A9 A10 A11 A12 : Type} (W : Nat → A1 → A2 → A3 → A4 → A5 → A6 → A7 → A8 → A9 → A10 → A11 → A12 → Prop) (I : A1 → A2 → A3 → A4 → A5 → A6 → A7 → A8 → A9 → A10 → A11 → A12 → Prop) (μ : A1 → A2 → A3 → A4 → A5 → A6 → A7 → A8 → A9 → A10 → A11 → A12 → Nat) (hs : ∀ (n : Nat) (a1 : A1) (a2 : A2) (a3 : A3) (a4 : A4) (a5 : A5) (a6 : A6) (a7 : A7) (a8 : A8) (a9 : A9) (a10 : A10) (a11 : A11) (a12 : A12), I a1 a2 a3 a4 a5 a6 a7 a8 a9 a10 a11 a12 → (∀ (b1 : A1) (b2 : A2) (b3 : A3) (b4 : A4) (b5 : A5) (b6 : A6) (b7 : A7) (b8 : A8) (b9 : A9) (b10 : A10) (b11 : A11) (b12 : A12), I b1 b2 b3 b4 b5 b6 b7 b8 b9 b10 b11 b12 → μ b1 b2 b3 b4 b5 b6 b7 b8 b9 b10 b11 b12 < μ a1 a2 a3 a4 a5 a6 a7 a8 a9 a10 a11 a12 → W n b1 b2 b3 b4 b5 b6 b7 b8 b9 b10 b11 b12) → W (n + 1) a1 a2 a3 a4 a5 a6 a7 a8 a9 a10 a11 a12) (a1 : A1) (a2 : A2) (a3 : A3) (a4 : A4) (a5 : A5) (a6 : A6) (a7 : A7) (a8 : A8) (a9 : A9) (a10 : A10) (a11 : A11) (a12 : A12) (h : I a1 a2 a3 a4 a5 a6 a7 a8 a9 a10 a11 a12) : ∃ n, W n a1 a2 a3 a4 a5 a6 a7 a8 a9 a10 a11 a12 :=
  loop_m (σ := A1 × A2 × A3 × A4 × A5 × A6 × A7 × A8 × A9 × A10 × A11 × A12) (fun n s => W n s.1 s.2.1 s.2.2.1 s.2.2.2.1 s.2.2.2.2.1 s.2.2.2.2.2.1 s.2.2.2.2.2.2.1 s.2.2.2.2.2.2.2.1 s.2.2.2.2.2.2.2.2.1 s.2.2.2.2.2.2.2.2.2.1 s.2.2.2.2.2.2.2.2.2.2.1 s.2.2.2.2.2.2.2.2.2.2.2) (fun s => I s.1 s.2.1 s.2.2.1 s.2.2.2.1 s.2.2.2.2.1 s.2.2.2.2.2.1 s.2.2.2.2.2.2.1 s.2.2.2.2.2.2.2.1 s.2.2.2.2.2.2.2.2.1 s.2.2.2.2.2.2.2.2.2.1 s.2.2.2.2.2.2.2.2.2.2.1 s.2.2.2.2.2.2.2.2.2.2.2) (fun s => μ s.1 s.2.1 s.2.2.1 s.2.2.2.1 s.2.2.2.2.1 s.2.2.2.2.2.1 s.2.2.2.2.2.2.1 s.2.2.2.2.2.2.2.1 s.2.2.2.2.2.2.2.2.1 s.2.2.2.2.2.2.2.2.2.1 s.2.2.2.2.2.2.2.2.2.2.1 s.2.2.2.2.2.2.2.2.2.2.2) (fun n s hI hk => hs n s.1 s.2.1 s.2.2.1 s.2.2.2.1 s.2.2.2.2.1 s.2.2.2.2.2.1 s.2.2.2.2.2.2.1 s.2.2.2.2.2.2.2.1 s.2.2.2.2.2.2.2.2.1 s.2.2.2.2.2.2.2.2.2.1 s.2.2.2.2.2.2.2.2.2.2.1 s.2.2.2.2.2.2.2.2.2.2.2 hI (fun b1 b2 b3 b4 b5 b6 b7 b8 b9 b10 b11 b12 h9 hm => hk (b1, b2, b3, b4, b5, b6, b7, b8, b9, b10, b11, b12) h9 hm)) (a1, a2, a3, a4, a5, a6, a7, a8, a9, a10, a11, a12) h
theorem lp13 {A1 A2 A3 A4 A5 A6 A7 A8 A9 A10 A11 A12 A13 : Type} (W : Nat → A1 → A2 → A3 → A4 → A5 → A6 → A7 → A8 → A9 → A10 → A11 → A12 → A13 → Prop) (I : A1 → A2 → A3 → A4 → A5 → A6 → A7 → A8 → A9 → A10 → A11 → A12 → A13 → Prop) (μ : A1 → A2 → A3 → A4 → A5 → A6 → A7 → A8 → A9 → A10 → A11 → A12 → A13 → Nat) (hs : ∀ (n : Nat) (a1 : A1) (a2 : A2) (a3 : A3) (a4 : A4) (a5 : A5) (a6 : A6) (a7 : A7) (a8 : A8) (a9 : A9) (a10 : A10) (a11 : A11) (a12 : A12) (a13 : A13), I a1 a2 a3 a4 a5 a6 a7 a8 a9 a10 a11 a12 a13 → (∀ (b1 : A1) (b2 : A2) (b3 : A3) (b4 : A4) (b5 : A5) (b6 : A6) (b7 : A7) (b8 : A8) (b9 : A9) (b10 : A10) (b11 : A11) (b12 : A12) (b13 : A13), I b1 b2 b3 b4 b5 b6 b7 b8 b9 b10 b11 b12 b13 → μ b1 b2 b3 b4 b5 b6 b7 b8 b9 b10 b11 b12 b13 < μ a1 a2 a3 a4 a5 a6 a7 a8 a9 a10 a11 a12 a13 → W n b1 b2 b3 b4 b5 b6 b7 b8 b9 b10 b11 b12 b13) → W (n + 1) a1 a2 a3 a4 a5 a6 a7 a8 a9 a10 a11 a12 a13) (a1 : A1) (a2 : A2) (a3 : A3) (a4 : A4) (a5 : A5) (a6 : A6) (a7 : A7) (a8 : A8) (a9 : A9) (a10 : A10) (a11 : A11) (a12 : A12) (a13 : A13) (h : I a1 a2 a3 a4 a5 a6 a7 a8 a9 a10 a11 a12 a13) : ∃ n, W n a1 a2 a3 a4 a5 a6 a7 a8 a9 a10 a11 a12 a13 :=
  loop_m (σ := A1 × A2 × A3 × A4 × A5 × A6 × A7 × A8 × A9 × A10 × A11 × A12 × A13) (fun n s => W n s.1 s.2.1 s.2.2.1 s.2.2.2.1 s.2.2.2.2.1 s.2.2.2.2.2.1 s.2.2.2.2.2.2.1 s.2.2.2.2.2.2.2.1 s.2.2.2.2.2.2.2.2.1 s.2.2.2.2.2.2.2.2.2.1 s.2.2.2.2.2.2.2.2.2.2.1 s.2.2.2.2.2.2.2.2.2.2.2.1 s.2.2.2.2.2.2.2.2.2.2.2.2) (fun s => I s.1 s.2.1 s.2.2.1 s.2.2.2.1 s.2.2.2.2.1 s.2.2.2.2.2.1 s.2.2.2.2.2.2.1 s.2.2.2.2.2.2.2.1 s.2.2.2.2.2.2.2.2.1 s.2.2.2.2.2.2.2.2.2.1 s.2.2.2.2.2.2.2.2.2.2.1 s.2.2.2.2.2.2.2.2.2.2.2.1 s.2.2.2.2.2.2.2.2.2.2.2.2) (fun s => μ s.1 s.2.1 s.2.2.1 s.2.2.2.1 s.2.2.2.2.1 s.2.2.2.2.2.1 s.2.2.2.2.2.2.1 s.2.2.2.2.2.2.2.1 s.2.2.2.2.2.2.2.2.1 s.2.2.2.2.2.2.2.2.2.1 s.2.2.2.2.2.2.2.2.2.2.1 s.2.2.2.2.2.2.2.2.2.2.2.1 s.2.2.2.2.2.2.2.2.2.2.2.2) (fun n s hI hk => hs n s.1 s.2.1 s.2.2.1 s.2.2.2.1 s.2.2.2.2.1 s.2.2.2.2.2.1 s.2.2.2.2.2.2.1 s.2.2.2.2.2.2.2.1 s.2.2.2.2.2.2.2.2.1 s.2.2.2.2.2.2.2.2.2.1 s.2.2.2.2.2.2.2.2.2.2.1 s.2.2.2.2.2.2.2.2.2.2.2.1 s.2.2.2.2.2.2.2.2.2.2.2.2 hI (fun b1 b2 b3 b4 b5 b6 b7 b8 b9 b10 b11 b12 b13 h9 hm => hk (b1, b2, b3, b4, b5, b6, b7, b8, b9, b10, b11, b12, b13) h9 hm)) (a1, a2, a3, a4, a5, a6, a7, a8, a9, a10, a11, a12, a13) h
theorem lp14 {A1 A2 A3 A4 A5 A6 A7 A8 A9 A10 A11 A12 A13 A14 : Type} (W : Nat → A1 → A2 → A3 → A4 → A5 → A6 → A7 → A8 → A9 → A10 → A11 → A12 → A13 → A14 → Prop) (I : A1 → A2 → A3 → A4 → A5 → A6 → A7 → A8 → A9 → A10 → A11 → A12 → A13 → A14 → Prop) (μ : A1 → A2 → A3 → A4 → A5 → A6 → A7 → A8 → A9 → A10 → A11 → A12 → A13 → A14 → Nat) (hs : ∀ (n : Nat) (a1 : A1) (a2 : A2) (a3 : A3) (a4 : A4) (a5 : A5) (a6 : A6) (a7 : A7) (a8 : A8) (a9 : A9) (a10 : A10) (a11 : A11) (a12 : A12) (a13 : A13) (a14 : A14), I a1 a2 a3 a4 a5 a6 a7 a8 a9 a10 a11 a12 a13 a14 → (∀ (b1 : A1) (b2 : A2) (b3 : A3) (b4 : A4) (b5 : A5) (b6 : A6) (b7 : A7) (b8 : A8) (b9 : A9) (b10 : A10) (b11 : A11) (b12 : A12) (b13 : A13) (b14 : A14), I b1 b2 b3 b4 b5 b6 b7 b8 b9 b10 b11 b12 b13 b14 → μ b1 b2 b3 b4 b5 b6 b7 b8 b9 b10 b11 b12 b13 b14 < μ a1 a2 a3 a4 a5 a6 a7 a8 a9 a10 a11 a12 a13 a14 → W n b1 b2 b3 b4 b5 b6 b7 b8 b9 b10 b11 b12 b13 b14) → W (n + 1) a1 a2 a3 a4 a5 a6 a7 a8 a9 a10 a11 a12 a13 a14) (a1 : A1) (a2 : A2) (a3 : A3) (a4 : A4) (a5 : A5) (a6 : A6) (a7 : A7) (a8 : A8) (a9 : A9) (a10 : A10) (a11 : A11) (a12 : A12) (a13 : A13) (a14 : A14) (h : I a1 a2 a3 a4 a5 a6 a7 a8 a9 a10 a11 a12 a13 a14) : ∃ n, W n a1 a2 a3 a4 a5 a6 a7 a8 a9 a10 a11 a12 a13 a14 :=
  loop_m (σ := A1 × A2 × A3 × A4 × A5 × A6 × A7 × A8 × A9 × A10 × A11 × A12 × A13 × A14) (fun n s => W n s.1 s.2.1 s.2.2.1 s.2.2.2.1 s.2.2.2.2.1 s.2.2.2.2.2.1 s.2.2.2.2.2.2.1 s.2.2.2.2.2.2.2.1 s.2.2.2.2.2.2.2.2.1 s.2.2.2.2.2.2.2.2.2.1 s.2.2.2.2.2.2.2.2.2.2.1 s.2.2.2.2.2.2.2.2.2.2.2.1 s.2.2.2.2.2.2.2.2.2.2.2.2.1 s.2.2.2.2.2.2.2.2.2.2.2.2.2) (fun s => I s.1 s.2.1 s.2.2.1 s.2.2.2.1 s.2.2.2.2.1 s.2.2.2.2.2.1 s.2.2.2.2.2.2.1 s.2.2.2.2.2.2.2.1 s.2.2.2.2.2.2.2.2.1 s.2.2.2.2.2.2.2.2.2.1 s.2.2.2.2.2.2.2.2.2.2.1 s.2.2.2.2.2.2.2.2.2.2.2.1 s.2.2.2.2.2.2.2.2.2.2.2.2.1 s.2.2.2.2.2.2.2.2.2.2.2.2.2) (fun s => μ s.1 s.2.1 s.2.2.1 s.2.2.2.1 s.2.2.2.2.1 s.2.2.2.2.2.1 s.2.2.2.2.2.2.1 s.2.2.2.2.2.2.2.1 s.2.2.2.2.2.2.2.2.1 s.2.2.2.2.2.2.2.2.2.1 s.2.2.2.2.2.2.2.2.2.2.1 s.2.2.2.2.2.2.2.2.2.2.2.1 s.2.2.2.2.2.2.2.2.2.2.2.2.1 s.2.2.2.2.2.2.2.2.2.2.2.2.2) (fun n s hI hk => hs n s.1 s.2.1 s.2.2.1 s.2.2.2.1 s.2.2.2.2.1 s.2.2.2.2.2.1 s.2.2.2.2.2.2.1 s.2.2.2.2.2.2.2.1 s.2.2.2.2.2.2.2.2.1 s.2.2.2.2.2.2.2.2.2.1 s.2.2.2.2.2.2.2.2.2.2.1 s.2.2.2.2.2.2.2.2.2.2.2.1 s.2.2.2.2.2.2.2.2.2.2.2.2.1 s.2.2.2.2.2.2.2.2.2.2.2.2.2 hI (fun b1 b2 b3 b4 b5 b6 b7 b8 b9 b10 b11 b12 b13 b14 h9 hm => hk (b1, b2, b3, b4, b5, b6, b7, b8, b9, b10, b11, b12, b13, b14) h9 hm)) (a1, a2, a3, a4, a5, a6, a7, a8, a9, a10, a11, a12, a13, a14) h
theorem lp15 {A1 A2 A3 A4 A5 A6 A7 A8 A9 A10 A11 A12 A13 A14 A15 : Type} (W : Nat → A1 → A2 → A3 → A4 → A5 → A6 → A7 → A8 → A9 → A10 → A11 → A12 → A13 → A14 → A15 → Prop) (I : A1 → A2 → A3 → A4 → A5 → A6 → A7 → A8 → A9 → A10 → A11 → A12 → A13 → A14 → A15 → Prop) (μ : A1 → A2 → A3 → A4 → A5 → A6 → A7 → A8 → A9 → A10 → A11 → A12 → A13 → A14 → A15 → Nat) (hs : ∀ (n : Nat) (a1 : A1) (a2 : A2) (a3 : A3) (a4 : A4) (a5 : A5) (a6 : A6) (a7 : A7) (a8 : A8) (a9 : A9) (a10 : A10) (a11 : A11) (a12 : A12) (a13 : A13) (a14 : A14) (a15 : A15), I a1 a2 a3 a4 a5 a6 a7 a8 a9 a10 a11 a12 a13 a14 a15 → (∀ (b1 : A1) (b2 : A2) (b3 : A3) (b4 : A4) (b5 : A5) (b6 : A6) (b7 : A7) (b8 : A8) (b9 : A9) (b10 : A10) (b11 : A11) (b12 : A12) (b13 : A13) (b14 : A14) (b15 : A15), I b1 b2 b3 b4 b5 b6 b7 b8 b9 b10 b11 b12 b13 b14 b15 → μ b1 b2 b3 b4 b5 b6 b7 b8 b9 b10 b11 b12 b13 b14 b15 < μ a1 a2 a3 a4 a5 a6 a7 a8 a9 a10 a11 a12 a13 a14 a15 → W n b1 b2 b3 b4 b5 b6 b7 b8 b9 b10 b11 b12 b13 b14 b15) → W (n + 1) a1 a2 a3 a4 a5 a6 a7 a8 a9 a10 a11 a12 a13 a14 a15) (a1 : A1) (a2 : A2) (a3 : A3) (a4 : A4) (a5 : A5) (a6 : A6) (a7 : A7) (a8 : A8) (a9 : A9) (a10 : A10) (a11 : A11) (a12 : A12) (a13 : A13) (a14 : A14) (a15 : A15) (h : I a1 a2 a3 a4 a5 a6 a7 a8 a9 a10 a11 a12 a13 a14 a15) : ∃ n, W n a1 a2 a3 a4 a5 a6 a7 a8 a9 a10 a11 a12 a13 a14 a15 :=
  loop_m (σ := A1 × A2 × A3 × A4 × A5 × A6 × A7 × A8 × A9 × A10 × A11 × A12 × A13 × A14 × A15) (fun n s => W n s.1 s.2.1 s.2.2.1 s.2.2.2.1 s.2.2.2.2.1 s.2.2.2.2.2.1 s.2.2.2.2.2.2.1 s.2.2.2.2.2.2.2.1 s.2.2.2.2.2.2.2.2.1 s.2.2.2.2.2.2.2.2.2.1 s.2.2.2.2.2.2.2.2.2.2.1 s.2.2.2.2.2.2.2.2.2.2.2.1 s.2.2.2.2.2.2.2.2.2.2.2.2.1 s.2.2.2.2.2.2.2.2.2.2.2.2.2.1 s.2.2.2.2.2.2.2.2.2.2.2.2.2.2) (fun s => I s.1 s.2.1 s.2.2.1 s.2.2.2.1 s.2.2.2.2.1 s.2.2.2.2.2.1 s.2.2.2.2.2.2.1 s.2.2.2.2.2.2.2.1 s.2.2.2.2.2.2.2.2.1 s.2.2.2.2.2.2.2.2.2.1 s.2.2.2.2.2.2.2.2.2.2.1 s.2.2.2.2.2.2.2.2.2.2.2.1 s.2.2.2.2.2.2.2.2.2.2.2.2.1 s.2.2.2.2.2.2.2.2.2.2.2.2.2.1 s.2.2.2.2.2.2.2.2.2.2.2.2.2.2) (fun s => μ s.1 s.2.1 s.2.2.1 s.2.2.2.1 s.2.2.2.2.1 s.2.2.2.2.2.1 s.2.2.2.2.2.2.1 s.2.2.2.2.2.2.2.1 s.2.2.2.2.2.2.2.2.1 s.2.2.2.2.2.2.2.2.2.1 s.2.2.2.2.2.2.2.2.2.2.1 s.2.2.2.2.2.2.2.2.2.2.2.1 s.2.2.2.2.2.2.2.2.2.2.2.2.1 s.2.2.2.2.2.2.2.2.2.2.2.2.2.1 s.2.2.2.2.2.2.2.2.2.2.2.2.2.2) (fun n s hI hk => hs n s.1 s.2.1 s.2.2.1 s.2.2.2.1 s.2.2.2.2.1 s.2.2.2.2.2.1 s.2.2.2.2.2.2.1 s.2.2.2.2.2.2.2.1 s.2.2.2.2.2.2.2.2.1 s.2.2.2.2.2.2.2.2.2.1 s.2.2.2.2.2.2.2.2.2.2.1 s.2.2.2.2.2.2.2.2.2.2.2.1 s.2.2.2.2.2.2.2.2.2.2.2.2.1 s.2.2.2.2.2.2.2.2.2.2.2.2.2.1 s.2.2.2.2.2.2.2.2.2.2.2.2.2.2 hI (fun b1 b2 b3 b4 b5 b6 b7 b8 b9 b10 b11 b12 b13 b14 b15 h9 hm => hk (b1, b2, b3, b4, b5, b6, b7, b8, b9, b10, b11, b12, b13, b14, b15) h9 hm)) (a1, a2, a3, a4, a5, a6, a7, a8, a9, a10, a11, a12, a13, a14, a15) h
theorem lp16 {A1 A2 A3 A4 A5 A6 A7 A8 A9 A10 A11 A12 A13 A14 A15 A16 : Type} (W : Nat → A1 → A2 → A3 → A4 → A5 → A6 → A7 → A8 → A9 → A10 → A11 → A12 → A13 → A14 → A15 → A16 → Prop) (I : A1 → A2 → A3 → A4 → A5 → A6 → A7 → A8 → A9 → A10 → A11 → A12 → A13 → A14 → A15 → A16 → Prop) (μ : A1 → A2 → A3 → A4 → A5 → A6 → A7 → A8 → A9 → A10 → A11 → A12 → A13 → A14 → A15 → A16 → Nat) (hs : ∀ (n : Nat) (a1 : A1) (a2 : A2) (a3 : A3) (a4 : A4) (a5 : A5) (a6 : A6) (a7 : A7) (a8 : A8) (a9 : A9) (a10 : A10) (a11 : A11) (a12 : A12) (a13 : A13) (a14 : A14) (a15 : A15) (a16 : A16), I a1 a2 a3 a4 a5 a6 a7 a8 a9 a10 a11 a12 a13 a14 a15 a16 → (∀ (b1 : A1) (b2 : A2) (b3 : A3) (b4 : A4) (b5 : A5) (b6 : A6) (b7 : A7) (b8 : A8) (b9 : A9) (b10 : A10) (b11 : A11) (b12 : A12) (b13 : A13) (b14 : A14) (b15 : A15) (b16 : A16), I b1 b2 b3 b4 b5 b6 b7 b8 b9 b10 b11 b12 b13 b14 b15 b16 → μ b1 b2 b3 b4 b5 b6 b7 b8 b9 b10 b11 b12 b13 b14 b15 b16 < μ a1 a2 a3 a4 a5 a6 a7 a8 a9 a10 a11 a12 a13 a14 a15 a16 → W n b1 b2 b3 b4 b5 b6 b7 b8 b9 b10 b11 b12 b13 b14 b15 b16) → W (n + 1) a1 a2 a3 a4 a5 a6 a7 a8 a9 a10 a11 a12 a13 a14 a15 a16) (a1 : A1) (a2 : A2) (a3 : A3) (a4 : A4) (a5 : A5) (a6 : A6) (a7 : A7) (a8 : A8) (a9 : A9) (a10 : A10) (a11 : A11) (a12 : A12) (a13 : A13) (a14 : A14) (a15 : A15) (a16 : A16) (h : I a1 a2 a3 a4 a5 a6 a7 a8 a9 a10 a11 a12 a13 a14 a15 a16) : ∃ n, W n a1 a2 a3 a4 a5 a6 a7 a8 a9 a10 a11 a12 a13 a14 a15 a16 :=
  loop_m (σ := A1 × A2 × A3 × A4 × A5 × A6 × A7 × A8 × A9 × A10 × A11 × A12 × A13 × A14 × A15 × A16) (fun n s => W n s.1 s.2.1 s.2.2.1 s.2.2.2.1 s.2.2.2.2.1 s.2.2.2.2.2.1 s.2.2.2.2.2.2.1 s.2.2.2.2.2.2.2.1 s.2.2.2.2.2.2.2.2.1 s.2.2.2.2.2.2.2.2.2.1 s.2.2.2.2.2.2.2.2.2.2.1 s.2.2.2.2.2.2.2.2.2.2.2.1 s.2.2.2.2.2.2.2.2.2.2.2.2.1 s.2.2.2.2.2.2.2.2.2.2.2.2.2.1 s.2.2.2.2.2.2.2.2.2.2.2.2.2.2.1 s.2.2.2.2.2.2.2.2.2.2.2.2.2.2.2) (fun s => I s.1 s.2.1 s.2.2.1 s.2.2.2.1 s.2.2.2.2.1 s.2.2.2.2.2.1 s.2.2.2.2.2.2.1 s.2.2.2.2.2.2.2.1 s.2.2.2.2.2.2.2.2.1 s.2.2.2.2.2.2.2.2.2.1 s.2.2.2.2.2.2.2.2.2.2.1 s.2.2.2.2.2.2.2.2.2.2.2.1 s.2.2.2.2.2.2.2.2.2.2.2.2.1 s.2.2.2.2.2.2.2.2.2.2.2.2.2.1 s.2.2.2.2.2.2.2.2.2.2.2.2.2.2.1 s.2.2.2.2.2.2.2.2.2.2.2.2.2.2.2) (fun s => μ s.1 s.2.1 s.2.2.1 s.2.2.2.1 s.2.2.2.2.1 s.2.2.2.2.2.1 s.2.2.2.2.2.2.1 s.2.2.2.2.2.2.2.1 s.2.2.2.2.2.2.2.2.1 s.2.2.2.2.2.2.2.2.2.1 s.2.2.2.2.2.2.2.2.2.2.1 s.2.2.2.2.2.2.2.2.2.2.2.1 s.2.2.2.2.2.2.2.2.2.2.2.2.1 s.2.2.2.2.2.2.2.2.2.2.2.2.2.1 s.2.2.2.2.2.2.2.2.2.2.2.2.2.2.1 s.2.2.2.2.2.2.2.2.2.2.2.2.2.2.2) (fun n s hI hk => hs n s.1 s.2.1 s.2.2.1 s.2.2.2.1 s.2.2.2.2.1 s.2.2.2.2.2.1 s.2.2.2.2.2.2.1 s.2.2.2.2.2.2.2.1 s.2.2.2.2.2.2.2.2.1 s.2.2.2.2.2.2.2.2.2.1 s.2.2.2.2.2.2.2.2.2.2.1 s.2.2.2.2.2.2.2.2.2.2.2.1 s.2.2.2.2.2.2.2.2.2.2.2.2.1 s.2.2.2.2.2.2.2.2.2.2.2.2.2.1 s.2.2.2.2.2.2.2.2.2.2.2.2.2.2.1 s.2.2.2.2.2.2.2.2.2.2.2.2.2.2.2 hI (fun b1 b2 b3 b4 b5 b6 b7 b8 b9 b10 b11 b12 b13 b14 b15 b16 h9 hm => hk (b1, b2, b3, b4, b5, b6, b7, b8, b9, b10, b11, b12, b13, b14, b15, b16) h9 hm)) (a1, a2, a3, a4, a5, a6, a7, a8, a9, a10, a11, a12, a13, a14, a15, a16) h
theorem pk_least (P : Nat → Prop) (h : ∃ k, P k) : ∃ k, P k ∧ ∀ j, j < k → ¬ P j := by
  obtain ⟨k, hk⟩ := h
  induction k using Nat.strongRecOn with
  | ind k ih =>
    by_cases e : ∃ j, j < k ∧ P j
    · obtain ⟨j, hj, pj⟩ := e
      exact ih j hj pj
    · exact ⟨k, hk, fun j hj pj => e ⟨j, hj, pj⟩⟩
theorem rp1 {ρ A1 : Type} (W : Nat → (ρ → Prop) → A1 → Prop) (ok : A1 → Prop) (μ : A1 → Nat) (val : A1 → ρ)
    (hs : ∀ (d : Nat) (post : ρ → Prop) (a1 : A1), ok a1 → post (val a1) → (∀ (post' : ρ → Prop) (b1 : A1), ok b1 → μ b1 < μ a1 → post' (val b1) → W d post' b1) → W (d + 1) post a1) :
    ∀ (d : Nat) (post : ρ → Prop) (a1 : A1), ok a1 → μ a1 < d → post (val a1) → W d post a1 := by
  intro d
  induction d with
  | zero => intro post a1 _ h; omega
  | succ d ih =>
    intro post a1 ho hm hp
    exact hs d post a1 ho hp (fun post' b1 ho' hm' hp' => ih post' b1 ho' (by omega) hp')
theorem rp2 {ρ A1 A2 : Type} (W : Nat → (ρ → Prop) → A1 → A2 → Prop) (ok : A1 → A2 → Prop) (μ : A1 → A2 → Nat) (val : A1 → A2 → ρ)
    (hs : ∀ (d : Nat) (post : ρ → Prop) (a1 : A1) (a2 : A2), ok a1 a2 → post (val a1 a2) → (∀ (post' : ρ → Prop) (b1 : A1) (b2 : A2), ok b1 b2 → μ b1 b2 < μ a1 a2 → post' (val b1 b2) → W d post' b1 b2) → W (d + 1) post a1 a2) :
    ∀ (d : Nat) (post : ρ → Prop) (a1 : A1) (a2 : A2), ok a1 a2 → μ a1 a2 < d → post (val a1 a2) → W d post a1 a2 := by
  intro d
  induction d with
  | zero => intro post a1 a2 _ h; omega
  | succ d ih =>
    intro post a1 a2 ho hm hp
    exact hs d post a1 a2 ho hp (fun post' b1 b2 ho' hm' hp' => ih post' b1 b2 ho' (by omega) hp')
theorem rp3 {ρ A1 A2 A3 : Type} (W : Nat → (ρ → Prop) → A1 → A2 → A3 → Prop) (ok : A1 → A2 → A3 → Prop) (μ : A1 → A2 → A3 → Nat) (val : A1 → A2 → A3 → ρ)
    (hs : ∀ (d : Nat) (post : ρ → Prop) (a1 : A1) (a2 : A2) (a3 : A3), ok a1 a2 a3 → post (val a1 a2 a3) → (∀ (post' : ρ → Prop) (b1 : A1) (b2 : A2) (b3 : A3), ok b1 b2 b3 → μ b1 b2 b3 < μ a1 a2 a3 → post' (val b1 b2 b3) → W d post' b1 b2 b3) → W (d + 1) post a1 a2 a3) :
    ∀ (d : Nat) (post : ρ → Prop) (a1 : A1) (a2 : A2) (a3 : A3), ok a1 a2 a3 → μ a1 a2 a3 < d → post (val a1 a2 a3) → W d post a1 a2 a3 := by
  intro d
  induction d with
  | zero => intro post a1 a2 a3 _ h; omega
  | succ d ih =>
    intro post a1 a2 a3 ho hm hp
    exact hs d post a1 a2 a3 ho hp (fun post' b1 b2 b3 ho' hm' hp' => ih post' b1 b2 b3 ho' (by omega) hp')
theorem rp4 {ρ A1 A2 A3 A4 : Type} (W : Nat → (ρ → Prop) → A1 → A2 → A3 → A4 → Prop) (ok : A1 → A2 → A3 → A4 → Prop) (μ : A1 → A2 → A3 → A4 → Nat) (val : A1 → A2 → A3 → A4 → ρ)
    (hs : ∀ (d : Nat) (post : ρ → Prop) (a1 : A1) (a2 : A2) (a3 : A3) (a4 : A4), ok a1 a2 a3 a4 → post (val a1 a2 a3 a4) → (∀ (post' : ρ → Prop) (b1 : A1) (b2 : A2) (b3 : A3) (b4 : A4), ok b1 b2 b3 b4 → μ b1 b2 b3 b4 < μ a1 a2 a3 a4 → post' (val b1 b2 b3 b4) → W d post' b1 b2 b3 b4) → W (d + 1) post a1 a2 a3 a4) :
    ∀ (d : Nat) (post : ρ → Prop) (a1 : A1) (a2 : A2) (a3 : A3) (a4 : A4), ok a1 a2 a3 a4 → μ a1 a2 a3 a4 < d → post (val a1 a2 a3 a4) → W d post a1 a2 a3 a4 := by
  intro d
  induction d with
  | zero => intro post a1 a2 a3 a4 _ h; omega
  | succ d ih =>
    intro post a1 a2 a3 a4 ho hm hp
    exact hs d post a1 a2 a3 a4 ho hp (fun post' b1 b2 b3 b4 ho' hm' hp' => ih post' b1 b2 b3 b4 ho' (by omega) hp')
theorem rp5 {ρ A1 A2 A3 A4 A5 : Type} (W : Nat → (ρ → Prop) → A1 → A2 → A3 → A4 → A5 → Prop) (ok : A1 → A2 → A3 → A4 → A5 → Prop) (μ : A1 → A2 → A3 → A4 → A5 → Nat) (val : A1 → A2 → A3 → A4 → A5 → ρ)
    (hs : ∀ (d : Nat) (post : ρ → Prop) (a1 : A1) (a2 : A2) (a3 : A3) (a4 : A4) (a5 : A5), ok a1 a2 a3 a4 a5 → post (val a1 a2 a3 a4 a5) → (∀ (post' : ρ → Prop) (b1 : A1) (b2 : A2) (b3 : A3) (b4 : A4) (b5 : A5), ok b1 b2 b3 b4 b5 → μ b1 b2 b3 b4 b5 < μ a1 a2 a3 a4 a5 → post' (val b1 b2 b3 b4 b5) → W d post' b1 b2 b3 b4 b5) → W (d + 1) post a1 a2 a3 a4 a5) :
    ∀ (d : Nat) (post : ρ → Prop) (a1 : A1) (a2 : A2) (a3 : A3) (a4 : A4) (a5 : A5), ok a1 a2 a3 a4 a5 → μ a1 a2 a3 a4 a5 < d → post (val a1 a2 a3 a4 a5) → W d post a1 a2 a3 a4 a5 := by
  intro d
  induction d with
  | zero => intro post a1 a2 a3 a4 a5 _ h; omega
  | succ d ih =>
    intro post a1 a2 a3 a4 a5 ho hm hp
    exact hs d post a1 a2 a3 a4 a5 ho hp (fun post' b1 b2 b3 b4 b5 ho' hm' hp' => ih post' b1 b2 b3 b4 b5 ho' (by omega) hp')
theorem rp6 {ρ A1 A2 A3 A4 A5 A6 : Type} (W : Nat → (ρ → Prop) → A1 → A2 → A3 → A4 → A5 → A6 → Prop) (ok : A1 → A2 → A3 → A4 → A5 → A6 → Prop) (μ : A1 → A2 → A3 → A4 → A5 → A6 → Nat) (val : A1 → A2 → A3 → A4 → A5 → A6 → ρ)
    (hs : ∀ (d : Nat) (post : ρ → Prop) (a1 : A1) (a2 : A2) (a3 : A3) (a4 : A4) (a5 : A5) (a6 : A6), ok a1 a2 a3 a4 a5 a6 → post (val a1 a2 a3 a4 a5 a6) → (∀ (post' : ρ → Prop) (b1 : A1) (b2 : A2) (b3 : A3) (b4 : A4) (b5 : A5) (b6 : A6), ok b1 b2 b3 b4 b5 b6 → μ b1 b2 b3 b4 b5 b6 < μ a1 a2 a3 a4 a5 a6 → post' (val b1 b2 b3 b4 b5 b6) → W d post' b1 b2 b3 b4 b5 b6) → W (d + 1) post a1 a2 a3 a4 a5 a6) :
    ∀ (d : Nat) (post : ρ → Prop) (a1 : A1) (a2 : A2) (a3 : A3) (a4 : A4) (a5 : A5) (a6 : A6), ok a1 a2 a3 a4 a5 a6 → μ a1 a2 a3 a4 a5 a6 < d → post (val a1 a2 a3 a4 a5 a6) → W d post a1 a2 a3 a4 a5 a6 := by
  intro d
  induction d with
  | zero => intro post a1 a2 a3 a4 a5 a6 _ h; omega
  | succ d ih =>
    intro post a1 a2 a3 a4 a5 a6 ho hm hp
    exact hs d post a1 a2 a3 a4 a5 a6 ho hp (fun post' b1 b2 b3 b4 b5 b6 ho' hm' hp' => ih post' b1 b2 b3 b4 b5 b6 ho' (by omega) hp')
theorem rec_p {σ ρ : Type} (W : Nat → (ρ → Prop) → σ → Prop) (ok : σ → Prop) (μ : σ → Nat) (val : σ → ρ)
    (hs : ∀ d s post, ok s → post (val s) → (∀ s' post', ok s' → μ s' < μ s → post' (val s') → W d post' s') → W (d + 1) post s) :
    ∀ d s post, ok s → μ s < d → post (val s) → W d post s := by
  intro d
  induction d with
  | zero => intro s post _ h; omega
  | succ d ih =>
    intro s post ho hm hp
    exact hs d s post ho hp (fun s' post' ho' hm' hp' => ih s' post' ho' (by omega) hp')
theorem rec_q {σ ρ : Type} (W : Nat → (ρ → Prop) → σ → Prop) (ok : σ → Prop) (μ : σ → Nat) (Q : σ → ρ → Prop)
    (hs : ∀ d s post, ok s → (∀ r, Q s r → post r) → (∀ s' post', ok s' → μ s' < μ s → (∀ r, Q s' r → post' r) → W d post' s') → W (d + 1) post s) :
    ∀ d s post, ok s → μ s < d → (∀ r, Q s r → post r) → W d post s := by
  intro d
  induction d with
  | zero => intro s post _ h; omega
  | succ d ih =>
    intro s post ho hm hp
    exact hs d s post ho hp (fun s' post' ho' hm' hp' => ih s' post' ho' (by omega) hp')
def bx_sum (f : Nat → Int32) : Nat → Int32
  | 0 => 0
  | n + 1 => bx_sum f n + f n
theorem ek_u {A : Prop} {B : Nat → Prop} {k N : Nat} (hk : k < N) (h : B k) : (some k = none → A) ∧ (∀ y : Nat, some k = some y → (y < N ∧ B y)) :=
  ⟨fun z => absurd z (Option.some_ne_none k), fun _ e => (by cases e; exact ⟨hk, h⟩)⟩
theorem ek_nu {A : Prop} {B : Nat → Prop} (h : A) : ((none : Option Nat) = none → A) ∧ (∀ y : Nat, (none : Option Nat) = some y → B y) :=
  ⟨fun _ => h, fun _ e => (by cases e)⟩
theorem ek_if {c d A B : Prop} (e : c ↔ d) (f : d → A) (g : ¬ d → B) : (c → A) ∧ (¬ c → B) :=
  ⟨fun z => f (e.mp z), fun z => g (fun y => z (e.mpr y))⟩
theorem ek_v {α : Sort _} {P : α → Prop} {a b : α} (e : a = b) (h : P b) : P a := e ▸ h
theorem co_some {x : Option Nat} {A : Prop} {B : Nat → Prop} (i : Nat) (h : B i) (hx : x = some i := by rfl) : (x = none → A) ∧ (∀ y : Nat, x = some y → B y) := by
  subst hx
  exact ⟨fun e => (nomatch e), fun y e => Option.some.inj e ▸ h⟩
theorem co_none {x : Option Nat} {A : Prop} {B : Nat → Prop} (h : A) (hx : x = none := by rfl) : (x = none → A) ∧ (∀ y : Nat, x = some y → B y) := by
  subst hx
  exact ⟨fun _ => h, fun y e => (nomatch e)⟩
theorem co_any {x : Option Nat} {A : Prop} {B : Nat → Prop} (hn : x = none → A) (hs : ∀ i : Nat, x = some i → B i) : (x = none → A) ∧ (∀ y : Nat, x = some y → B y) := ⟨hn, hs⟩
theorem co_2 {P : Nat → Prop} (h0 : P 0) (h1 : P 1) {i : Nat} (hi : i < 2) : P i :=
  match i, hi with
  | 0, _ => h0
  | 1, _ => h1
theorem co_3 {P : Nat → Prop} (h0 : P 0) (h1 : P 1) (h2 : P 2) {i : Nat} (hi : i < 3) : P i :=
  match i, hi with
  | 0, _ => h0
  | 1, _ => h1
  | 2, _ => h2
theorem co_4 {P : Nat → Prop} (h0 : P 0) (h1 : P 1) (h2 : P 2) (h3 : P 3) {i : Nat} (hi : i < 4) : P i :=
  match i, hi with
  | 0, _ => h0
  | 1, _ => h1
  | 2, _ => h2
  | 3, _ => h3
theorem co_dec {N : Nat} {P : Nat → Prop} [DecidablePred P] (h : (List.range N).all (fun i => decide (P i)) = true) {i : Nat} (hi : i < N) : P i := by
  have := List.all_eq_true.mp h i (List.mem_range.mpr hi)
  exact of_decide_eq_true this
theorem co_tab {α : Type} {l : List α} {d : α} {P : α → Prop} (h : ∀ a, a ∈ l → P a) {i : Nat} (hi : i < l.length) : P (l.getD i d) := by
  rw [List.getD_eq_getElem?_getD, List.getElem?_eq_getElem hi]
  exact h _ (List.getElem_mem hi)
theorem pk_mu {x : Int32} {L : Nat} (h0 : ¬ x < 0) (h : ¬ nI L ≤ x) (hL : L < 2 ^ 31) : ∃ j : Nat, j < L ∧ x = nI j ∧ x + 1 = nI (j + 1) ∧ x.toNatClampNeg = j ∧ L - (x + 1).toNatClampNeg < L - x.toNatClampNeg := by
  obtain ⟨j, hj, rfl⟩ := nI_of h0
  have hl : j < L := Nat.not_le.mp fun q => h (nI_le q hj)
  refine ⟨j, hl, rfl, nI_1 j, nI_clamp hj, ?_⟩
  rw [nI_1, nI_clamp (by omega), nI_clamp hj]
  omega
theorem op_s {α : Type} {r : Option α} {A : Prop} {B : α → Prop} {y : α} (h : r = some y) (b : B y) : (r = none → A) ∧ ∀ z, r = some z → B z :=
  ⟨fun e => (by rw [h] at e; cases e), fun z e => (by rw [h] at e; cases e; exact b)⟩
def l_holds {α : Type} (a : Nat → Option Nat) (LP : List Nat) (p : Nat → α) (c : Nat) (b : Nat → α) : Prop :=
  ∀ j, j < c → ∃ y, a j = some y ∧ y ∈ LP ∧ p y = b j
theorem l_holds_0 {α : Type} {a : Nat → Option Nat} {LP : List Nat} {p b : Nat → α} : l_holds a LP p 0 b := fun j h => absurd h (Nat.not_lt_zero j)
theorem l_in_new (LP : List Nat) (q : Nat) : q ∈ LP ++ [q] := List.mem_append.mpr (Or.inr (List.mem_singleton.mpr rfl))
def l_sum (b : Nat → Int32) : Nat → Int32
  | 0 => 0
  | k + 1 => l_sum b k + b k
theorem sb_shr0 (x : Int32) : x >>> ((0 : Int32) &&& 31) = x := by
  rw [show ((0 : Int32) &&& 31) = 0 by decide]
  simp
theorem sb_shl0 (x : Int32) : x <<< ((0 : Int32) &&& 31) = x := by
  rw [show ((0 : Int32) &&& 31) = 0 by decide]
  simp
theorem sb_cl0 : (0 : Int32).toNatClampNeg = 0 := by decide
theorem sb_m1 {p : Nat} (h : 0 < p) : nI p + (-1) = nI (p - 1) := by
  obtain ⟨q, rfl⟩ : ∃ q, p = q + 1 := ⟨p - 1, by omega⟩
  exact pk_m1 q
def sb_b (c : Nat) : Int32 := (nI c).toInt8.toInt32
theorem sb_byte : ∀ c, c < 256 → sb_b c &&& 255 = nI c ∧ ((nI c).toUInt32 % 65536).toInt32 = nI c ∧ nI c ≤ 255 := by decide +kernel
def sb_Fit (a : Nat → Int32) : Prop := ∀ j, fits .byte (.int (a j)) = true
def sb_Lat (t : Nat → Nat) (n : Nat) (a : Nat → Int32) : Prop := ∀ j, j < n → t j < 256 ∧ a j = sb_b (t j)
theorem sb_fitB (c : Nat) : fits .byte (.int (sb_b c)) = true := pk_fb _
theorem sb_fit0 : sb_Fit (fun _ => 0) := fun _ => by
  show fits .byte (.int 0) = true
  decide
theorem sb_fitU {a : Nat → Int32} {k : Nat} {x : Int32} (h : sb_Fit a) (hx : fits .byte (.int x) = true) : sb_Fit (upd a k x) := by
  intro j
  by_cases e : j = k
  · subst e
    rw [pk_us]
    exact hx
  · rw [pk_un e]
    exact h j
def sb_cat (t : Nat → Nat) (n : Nat) (s : Nat → Nat) : Nat → Nat := fun j => if j < n then t j else s (j - n)
theorem sb_cat_lo {t s : Nat → Nat} {n j : Nat} (h : j < n) : sb_cat t n s j = t j := if_pos h
theorem sb_cat_hi {t s : Nat → Nat} {n j : Nat} : sb_cat t n s (n + j) = s j := by
  show (if n + j < n then t (n + j) else s (n + j - n)) = s j
  rw [if_neg (by omega), Nat.add_sub_cancel_left]
theorem sb_latPut {t s : Nat → Nat} {n w : Nat} {a a' : Nat → Int32} (h : sb_Lat t n a) (hk : ∀ j, j < n → a' j = a j) (hs : ∀ i, i < w → s i < 256 ∧ a' (n + i) = sb_b (s i)) : sb_Lat (sb_cat t n s) (n + w) a' := by
  intro j hj
  by_cases e : j < n
  · rw [sb_cat_lo e, hk j e]
    exact h j e
  · obtain ⟨i, rfl⟩ : ∃ i, j = n + i := ⟨j - n, by omega⟩
    rw [sb_cat_hi]
    exact hs i (by omega)
theorem sb_latKeep {t : Nat → Nat} {n : Nat} {a a' : Nat → Int32} (h : sb_Lat t n a) (hk : ∀ j, j < n → a' j = a j) : sb_Lat t n a' := fun j hj => by
  rw [hk j hj]
  exact h j hj
def sb_cap (q m : Nat) : Nat := if q ≤ m then m else if 2 * m + 2 < q then q else 2 * m + 2
def sb_Room (q m mc ms : Nat) : Prop := q ≤ m ∨ (1 ≤ mc ∧ sb_cap q m ≤ ms ∧ sb_cap q m ≤ 65536)
theorem sb_cap_ge (q m : Nat) : q ≤ sb_cap q m := by
  unfold sb_cap
  split
  · omega
  · split <;> omega
theorem sb_cap_gem (q m : Nat) : m ≤ sb_cap q m := by
  unfold sb_cap
  split
  · omega
  · split <;> omega
theorem sb_cap_le {q m mc ms : Nat} (hm : m ≤ 65536) (hr : sb_Room q m mc ms) : sb_cap q m ≤ 65536 := by
  rcases hr with h | h
  · rw [sb_cap, if_pos h]
    exact hm
  · exact h.2.2
theorem sb_at {P : Int32 → Prop} {x y : Int32} (e : x = y) (h : P y) : P x := e ▸ h
def sb_dg (w : Nat) : Nat := if w < 10 then 1 else if w < 100 then 2 else if w < 1000 then 3 else if w < 10000 then 4 else if w < 100000 then 5 else if w < 1000000 then 6 else if w < 10000000 then 7 else if w < 100000000 then 8 else if w < 1000000000 then 9 else 10
def sb_dec (v : Nat) : Nat → Nat := fun i => 48 + v / 10 ^ (sb_dg v - 1 - i) % 10
theorem sb_dg_in (w : Nat) : 1 ≤ sb_dg w ∧ sb_dg w ≤ 10 := by
  unfold sb_dg
  constructor <;> (repeat' split) <;> omega
theorem sb_dg100 {w : Nat} (h : 100 ≤ w) (hw : w < 2 ^ 31) : sb_dg w = sb_dg (w / 100) + 2 := by
  rw [sb_dg, sb_dg, if_neg (show ¬ w < 10 by omega), if_neg (show ¬ w < 100 by omega)]
  by_cases h3 : w < 1000
  · rw [if_pos h3, if_pos (show w / 100 < 10 by omega)]
  rw [if_neg h3, if_neg (show ¬ w / 100 < 10 by omega)]
  by_cases h4 : w < 10000
  · rw [if_pos h4, if_pos (show w / 100 < 100 by omega)]
  rw [if_neg h4, if_neg (show ¬ w / 100 < 100 by omega)]
  by_cases h5 : w < 100000
  · rw [if_pos h5, if_pos (show w / 100 < 1000 by omega)]
  rw [if_neg h5, if_neg (show ¬ w / 100 < 1000 by omega)]
  by_cases h6 : w < 1000000
  · rw [if_pos h6, if_pos (show w / 100 < 10000 by omega)]
  rw [if_neg h6, if_neg (show ¬ w / 100 < 10000 by omega)]
  by_cases h7 : w < 10000000
  · rw [if_pos h7, if_pos (show w / 100 < 100000 by omega)]
  rw [if_neg h7, if_neg (show ¬ w / 100 < 100000 by omega)]
  by_cases h8 : w < 100000000
  · rw [if_pos h8, if_pos (show w / 100 < 1000000 by omega)]
  rw [if_neg h8, if_neg (show ¬ w / 100 < 1000000 by omega)]
  by_cases h9 : w < 1000000000
  · rw [if_pos h9, if_pos (show w / 100 < 10000000 by omega)]
  rw [if_neg h9, if_neg (show ¬ w / 100 < 10000000 by omega)]
  rw [if_pos (show w / 100 < 100000000 by omega)]
theorem sb_negT {w : Nat} (h : w < 2 ^ 31) : (-nI w).toInt = -(w : Int) := by
  rw [Int32.toInt_neg, nI_toInt h]
  exact Int.bmod_eq_of_le (by omega) (by omega)
theorem sb_nle {a b : Nat} (ha : a < 2 ^ 31) (hb : b < 2 ^ 31) : -nI a ≤ -nI b ↔ b ≤ a := by
  rw [Int32.le_iff_toInt_le, sb_negT ha, sb_negT hb]
  omega
theorem sb_nlt {a b : Nat} (ha : a < 2 ^ 31) (hb : b < 2 ^ 31) : -nI a < -nI b ↔ b < a := by
  rw [Int32.lt_iff_toInt_lt, sb_negT ha, sb_negT hb]
  omega
theorem sb_cmp {A B : Prop} {x : Int32} (v c : Nat) (f : c ≤ v → A) (g : v < c → B) (hv : v < 2 ^ 31) (hx : x = -nI c := by rfl) (hc : c < 2 ^ 31 := by omega) : (-nI v ≤ x → A) ∧ (¬ -nI v ≤ x → B) := by
  subst hx
  rw [sb_nle hv hc]
  exact ⟨f, fun z => g (by omega)⟩
theorem sb_ndiv {w : Nat} (hw : w < 2 ^ 31) : (-nI w) / 100 = -nI (w / 100) := by
  apply Int32.toInt_inj.mp
  have h100 : (100 : Int32).toInt = 100 := by decide
  rw [Int32.toInt_div, sb_negT hw, h100, sb_negT (by omega), Int.neg_tdiv, Int.tdiv_eq_ediv_of_nonneg (by omega), Int.bmod_eq_of_le (by omega) (by omega)]
  omega
theorem sb_nrem {w : Nat} (hw : w < 2 ^ 31) : (-nI (w / 100)) * 100 - (-nI w) = nI (w % 100) := by
  have h := pk_rem (a := w) (d := 100) hw (by decide) (by decide)
  rw [pk_div hw (by decide) (by decide)] at h
  rw [← h]
  show (-nI (w / 100)) * nI 100 - (-nI w) = nI w - nI (w / 100) * nI 100
  rw [Int32.neg_mul, Int32.sub_neg, Int32.add_comm, ← Int32.sub_eq_add_neg]
/-! rows on bits, shifts and unsigned numbers, to paste: each family out of a closed proof of our own, whole with what it rests on; each by itself clean at Lean in its own claim (generation 39, form 5). Take a family whole -/
/-! ===== Int32 by its bits: bt x i ===== -/
def bt (x : Int32) (i : Nat) : Bool := x.toBitVec.getLsbD i
theorem b_ext {x y : Int32} (h : ∀ i, i < 32 → bt x i = bt y i) : x = y := Int32.toBitVec_inj.mp (BitVec.eq_of_getLsbD_eq (fun i hi => h i hi))
theorem b_or (x y : Int32) (i : Nat) : bt (x ||| y) i = (bt x i || bt y i) := by unfold bt; rw [Int32.toBitVec_or, BitVec.getLsbD_or]
theorem b_and (x y : Int32) (i : Nat) : bt (x &&& y) i = (bt x i && bt y i) := by unfold bt; rw [Int32.toBitVec_and, BitVec.getLsbD_and]
theorem b_xor (x y : Int32) (i : Nat) : bt (x ^^^ y) i = (bt x i ^^ bt y i) := by unfold bt; rw [Int32.toBitVec_xor, BitVec.getLsbD_xor]
theorem b_big {x : Int32} {i : Nat} (h : 32 ≤ i) : bt x i = false := BitVec.getLsbD_of_ge _ _ h
theorem b_255 (i : Nat) : bt 255 i = decide (i < 8) := by
  rcases Nat.lt_or_ge i 32 with h | h
  · exact (by decide +kernel : ∀ i, i < 32 → bt 255 i = decide (i < 8)) i h
  · rw [b_big h, decide_eq_false (by omega)]
theorem b_65535 (i : Nat) : bt 65535 i = decide (i < 16) := by
  rcases Nat.lt_or_ge i 32 with h | h
  · exact (by decide +kernel : ∀ i, i < 32 → bt 65535 i = decide (i < 16)) i h
  · rw [b_big h, decide_eq_false (by omega)]
theorem b_m1 : ∀ i, i < 32 → bt (-1) i = true := by decide +kernel
theorem b_0 (i : Nat) : bt 0 i = false := BitVec.getLsbD_zero
theorem s_l : ∀ n, n < 32 → ((nI n &&& 31).toBitVec.smod 32).toNat = n := by decide +kernel
theorem s_u : ∀ n, n < 32 → (((nI n).toUInt32 &&& Int32.toUInt32 31).toBitVec % 32).toNat = n := by decide +kernel
theorem b_shl (n : Nat) (hn : n < 32) (x : Int32) {i : Nat} (hi : i < 32) : bt (x <<< (nI n &&& 31)) i = (decide (n ≤ i) && bt x (i - n)) := by
  unfold bt
  rw [Int32.toBitVec_shiftLeft]
  show (x.toBitVec <<< ((nI n &&& 31).toBitVec.smod 32).toNat).getLsbD i = _
  rw [s_l n hn, BitVec.getLsbD_shiftLeft]
  rcases Nat.lt_or_ge i n with h | h
  · simp [h, Nat.not_le.mpr h]
  · simp [hi, h, Nat.not_lt.mpr h]
theorem b_ushr (n : Nat) (hn : n < 32) (x : Int32) (i : Nat) : bt ((x.toUInt32 >>> ((nI n).toUInt32 &&& Int32.toUInt32 31)).toInt32) i = bt x (n + i) := by
  show (x.toUInt32 >>> ((nI n).toUInt32 &&& Int32.toUInt32 31)).toBitVec.getLsbD i = x.toUInt32.toBitVec.getLsbD (n + i)
  rw [UInt32.toBitVec_shiftRight]
  show (x.toUInt32.toBitVec >>> (((nI n).toUInt32 &&& Int32.toUInt32 31).toBitVec % 32).toNat).getLsbD i = _
  rw [s_u n hn, BitVec.getLsbD_ushiftRight]
theorem b_sshr (n : Nat) (hn : n < 32) (x : Int32) {i : Nat} (hi : i < 32) : bt (x >>> (nI n &&& 31)) i = if n + i < 32 then bt x (n + i) else bt x 31 := by
  unfold bt
  rw [Int32.toBitVec_shiftRight]
  show (x.toBitVec.sshiftRight ((nI n &&& 31).toBitVec.smod 32).toNat).getLsbD i = _
  rw [s_l n hn, BitVec.getLsbD_sshiftRight, BitVec.msb_eq_getLsbD_last]
  simp [hi]
theorem b_shl8 (x : Int32) {i : Nat} (hi : i < 32) : bt (x <<< ((8 : Int32) &&& 31)) i = (decide (8 ≤ i) && bt x (i - 8)) := b_shl 8 (by omega) x hi
theorem b_shl16 (x : Int32) {i : Nat} (hi : i < 32) : bt (x <<< ((16 : Int32) &&& 31)) i = (decide (16 ≤ i) && bt x (i - 16)) := b_shl 16 (by omega) x hi
theorem b_shl24 (x : Int32) {i : Nat} (hi : i < 32) : bt (x <<< ((24 : Int32) &&& 31)) i = (decide (24 ≤ i) && bt x (i - 24)) := b_shl 24 (by omega) x hi
theorem b_sshr8 (x : Int32) {i : Nat} (hi : i < 32) : bt (x >>> ((8 : Int32) &&& 31)) i = if 8 + i < 32 then bt x (8 + i) else bt x 31 := b_sshr 8 (by omega) x hi
/-! ===== nI under and, xor, >>>, one bit, 65535 ===== -/
theorem nx_and (a b : Nat) : nI a &&& nI b = nI (a &&& b) := by
  apply Int32.toBitVec_inj.1
  show BitVec.ofNat 32 a &&& BitVec.ofNat 32 b = BitVec.ofNat 32 (a &&& b)
  apply BitVec.eq_of_getLsbD_eq
  intro i hi
  simp [hi]
theorem nx_xor (a b : Nat) : nI a ^^^ nI b = nI (a ^^^ b) := by
  apply Int32.toBitVec_inj.1
  show BitVec.ofNat 32 a ^^^ BitVec.ofNat 32 b = BitVec.ofNat 32 (a ^^^ b)
  apply BitVec.eq_of_getLsbD_eq
  intro i hi
  simp [hi]
theorem nx_cnt : ∀ j : Fin 32, (UInt32.ofNat j.val &&& Int32.toUInt32 31).toNat % 32 = j.val := by decide +kernel
theorem nx_ush {k j : Nat} (hk : k < 65536) (hj : j < 32) : ((nI k).toUInt32 >>> ((nI j).toUInt32 &&& Int32.toUInt32 31)).toInt32 = nI (k >>> j) := by
  have hs : k >>> j ≤ k := by
    rw [Nat.shiftRight_eq_div_pow]
    exact Nat.div_le_self _ _
  have e2 : UInt32.ofNat k >>> (UInt32.ofNat j &&& Int32.toUInt32 31) = UInt32.ofNat (k >>> j) := by
    apply UInt32.toNat_inj.1
    have h1 : (UInt32.ofNat k).toNat = k := Nat.mod_eq_of_lt (by omega)
    have h2 : (UInt32.ofNat (k >>> j)).toNat = k >>> j := Nat.mod_eq_of_lt (by omega)
    rw [UInt32.toNat_shiftRight, nx_cnt ⟨j, hj⟩, h1, h2]
  show (UInt32.ofNat k >>> (UInt32.ofNat j &&& Int32.toUInt32 31)).toInt32 = _
  rw [e2]
  rfl
theorem nx_bit {k j : Nat} (hk : k < 65536) (hj : j < 16) : (((nI k).toUInt32 >>> ((nI j).toUInt32 &&& Int32.toUInt32 31)).toInt32 &&& 1) = 0 ↔ k.testBit j = false := by
  rw [nx_ush hk (by omega)]
  show nI (k >>> j) &&& nI 1 = 0 ↔ _
  rw [nx_and, Nat.and_one_is_mod, ← nI_0, nI_eq (by omega) (by omega), Nat.testBit_eq_decide_div_mod_eq, Nat.shiftRight_eq_div_pow, decide_eq_false_iff_not]
  generalize k / 2 ^ j = z
  omega
theorem nx_mod (k : Nat) : nI k &&& 65535 = nI (k % 65536) := by
  show nI k &&& nI 65535 = _
  rw [nx_and, show (65535 : Nat) = 2 ^ 16 - 1 from rfl, Nat.and_two_pow_sub_one_eq_mod]
theorem nx_m16 {k : Nat} (h : k < 65536) : nI k &&& 65535 = nI k := by rw [nx_mod, Nat.mod_eq_of_lt h]
theorem nx_mask (x : Int32) : ∃ k, k < 65536 ∧ x &&& 65535 = nI k := by
  have e : x = nI x.toBitVec.toNat := by
    apply Int32.toBitVec_inj.1
    show x.toBitVec = BitVec.ofNat 32 x.toBitVec.toNat
    simp
  refine ⟨x.toBitVec.toNat % 65536, Nat.mod_lt _ (by omega), ?_⟩
  rw [← nx_mod, ← e]
/-! ===== Int32 as a set of bits: test, set ===== -/
def nf_M (m : Int32) : Nat := 4294967296 - m.toBitVec.toNat
theorem nf_sh : ∀ l, l < 32 → ((1 : Int32) <<< (nI l &&& 31)).toBitVec = BitVec.twoPow 32 l := by decide +kernel
theorem nf_sl : ∀ l, l < 32 → (((nI l).toUInt32 &&& Int32.toUInt32 31).toBitVec % 32).toNat = l := by decide +kernel
theorem nf_tp : ∀ l, l < 32 → BitVec.twoPow 32 l ≠ 0#32 := by decide +kernel
theorem nf_bit (m : Int32) (l : Nat) (hl : l < 32) : ((m.toUInt32 >>> ((nI l).toUInt32 &&& Int32.toUInt32 31)).toInt32 &&& 1) = 0 ↔ (m &&& ((1 : Int32) <<< (nI l &&& 31))) = 0 := by
  have e : ((m.toUInt32 >>> ((nI l).toUInt32 &&& Int32.toUInt32 31)).toInt32).toBitVec = m.toBitVec >>> l := by
    show m.toBitVec >>> (((nI l).toUInt32 &&& Int32.toUInt32 31).toBitVec % 32) = m.toBitVec >>> l
    rw [BitVec.ushiftRight_eq', nf_sl l hl]
  rw [← Int32.toBitVec_inj, ← Int32.toBitVec_inj, Int32.toBitVec_and, Int32.toBitVec_and, nf_sh l hl, e, BitVec.and_twoPow]
  show (m.toBitVec >>> l &&& 1#32) = 0#32 ↔ _ = 0#32
  rw [BitVec.and_one_eq_setWidth_ofBool_getLsbD, BitVec.getLsbD_ushiftRight, Nat.add_zero]
  cases hb : m.toBitVec.getLsbD l
  · exact ⟨fun _ => by simp, fun _ => by decide⟩
  · exact ⟨fun z => absurd z (by decide), fun z => absurd ((if_pos rfl).symm.trans z) (nf_tp l hl)⟩
theorem nf_gr (m k : Int32) (h : m &&& k = 0) (hk : k ≠ 0) : nf_M (m ||| k) < nf_M m := by
  have hm := m.toBitVec.isLt
  have hm' := (m ||| k).toBitVec.isLt
  have h1 : m.toBitVec.toNat ≤ (m ||| k).toBitVec.toNat := by
    rw [Int32.toBitVec_or, BitVec.toNat_or]
    exact Nat.left_le_or
  have h2 : m.toBitVec.toNat ≠ (m ||| k).toBitVec.toNat := by
    intro e
    have e2 : m = m ||| k := Int32.toBitVec_inj.mp (BitVec.eq_of_toNat_eq e)
    apply hk
    apply Int32.toBitVec_inj.mp
    show k.toBitVec = 0#32
    apply BitVec.eq_of_getLsbD_eq
    intro i hi
    have a : m.toBitVec.getLsbD i = (m.toBitVec.getLsbD i || k.toBitVec.getLsbD i) := by rw [← BitVec.getLsbD_or, ← Int32.toBitVec_or, ← e2]
    have b : (m.toBitVec.getLsbD i && k.toBitVec.getLsbD i) = false := by
      rw [← BitVec.getLsbD_and, ← Int32.toBitVec_and, h]
      exact BitVec.getLsbD_zero
    rw [BitVec.getLsbD_zero]
    revert a b
    cases m.toBitVec.getLsbD i <;> cases k.toBitVec.getLsbD i <;> simp
  unfold nf_M
  omega
/-! ===== a byte read unsigned ===== -/
theorem bp_b (x : Int32) : x.toInt8.toInt32 &&& 255 = x &&& 255 := by
  apply Int32.toBitVec_inj.mp
  rw [Int32.toBitVec_and, Int32.toBitVec_and, Int8.toBitVec_toInt32, Int32.toBitVec_toInt8]
  apply BitVec.eq_of_getLsbD_eq
  intro i hi
  rw [BitVec.getLsbD_and, BitVec.getLsbD_and]
  have hm : ∀ i < 32, 8 ≤ i → (255 : Int32).toBitVec.getLsbD i = false := by decide
  rcases Nat.lt_or_ge i 8 with z | z
  · rw [BitVec.getLsbD_signExtend, BitVec.getLsbD_signExtend, if_pos z, if_pos hi]
    simp only [z, hi, decide_true, Bool.true_and]
  · rw [hm i hi z]; simp
/-! ===== the char cast and 65535 ===== -/
theorem em_w (v : Int32) : ∃ w : Nat, w < 65536 ∧ (v.toUInt32 % 65536).toInt32 = nI w ∧ v &&& 65535 = nI w := by
  have hr := lw_u16_r v
  have h0 : (0 : Int32).toInt = 0 := by decide
  obtain ⟨w, h1, h2⟩ := nI_of (x := lw_u16 v) (by rw [Int32.lt_iff_toInt_lt]; omega)
  have h3 : (v.toUInt32 % 65536).toInt32 = nI w := h2
  rw [h2, nI_toInt h1] at hr
  exact ⟨w, by omega, h3, by rw [← lg_i2c_mask, ← lg_i2c_nf, h3]⟩
/-! ===== Int64 as a set of bits: test, set, clear ===== -/
theorem ts_nf {x : Bool} (h : ¬ x = false) : x = true := by cases x <;> first | rfl | exact absurd rfl h
theorem ts_nt {x : Bool} (h : ¬ x = true) : x = false := by cases x <;> first | rfl | exact absurd rfl h
theorem ts_bit {w : Int64} {s : UInt64} {j : Nat} (hj : j < 64) (hs : s.toNat = j) : ((w.toUInt64 >>> s).toInt64 &&& 1) = 0 ↔ w.toBitVec.getLsbD j = false := by
  have e : (w.toUInt64 >>> s).toInt64.toBitVec = w.toBitVec >>> j := by
    apply BitVec.eq_of_toNat_eq
    show (w.toUInt64 >>> s).toNat = _
    rw [UInt64.toNat_shiftRight, hs, Nat.mod_eq_of_lt hj, BitVec.toNat_ushiftRight]
    rfl
  rw [← Int64.toBitVec_inj, Int64.toBitVec_and, e]
  show w.toBitVec >>> j &&& 1#64 = 0#64 ↔ _
  constructor
  · intro h
    have t := congrArg (fun x => x.getLsbD 0) h
    simpa using t
  · intro h
    apply BitVec.eq_of_getLsbD_eq
    intro i hi
    cases i with
    | zero => simp [h]
    | succ i => simp
theorem ts_or {w m : Int64} {j : Nat} (hj : j < 64) (hm : m.toBitVec = BitVec.twoPow 64 j) : (w ||| m) = w ↔ w.toBitVec.getLsbD j = true := by
  rw [← Int64.toBitVec_inj, Int64.toBitVec_or, hm]
  constructor
  · intro h
    have t := congrArg (fun x => x.getLsbD j) h
    simp only [BitVec.getLsbD_or, BitVec.getLsbD_twoPow] at t
    simpa [hj] using t.symm
  · intro h
    apply BitVec.eq_of_getLsbD_eq
    intro i hi
    rw [BitVec.getLsbD_or, BitVec.getLsbD_twoPow]
    by_cases e : j = i
    · subst e; rw [h, Bool.true_or]
    · simp [e]
theorem ts_and {w m : Int64} {j : Nat} (hj : j < 64) (hm : m.toBitVec = BitVec.twoPow 64 j) : (w &&& (m ^^^ (-1))) = w ↔ w.toBitVec.getLsbD j = false := by
  have ha : (-1 : Int64).toBitVec = BitVec.allOnes 64 := by decide
  rw [← Int64.toBitVec_inj, Int64.toBitVec_and, Int64.toBitVec_xor, hm, ha]
  constructor
  · intro h
    have t := congrArg (fun x => x.getLsbD j) h
    simp only [BitVec.getLsbD_and, BitVec.getLsbD_xor, BitVec.getLsbD_twoPow, BitVec.getLsbD_allOnes] at t
    simpa [hj] using t.symm
  · intro h
    apply BitVec.eq_of_getLsbD_eq
    intro i hi
    rw [BitVec.getLsbD_and, BitVec.getLsbD_xor, BitVec.getLsbD_twoPow, BitVec.getLsbD_allOnes]
    by_cases e : j = i
    · subst e; rw [h, Bool.false_and]
    · simp [e, hi]
/-! ===== lN n to 2^64: shifts, and, or, masks, one bit ===== -/
theorem wb_tb (n : Nat) : (lN n).toBitVec = BitVec.ofNat 64 n := rfl
theorem wb_inj {a b : Int64} (h : a.toBitVec = b.toBitVec) : a = b := Int64.toBitVec_inj.mp h
theorem wb_tn {n : Nat} (h : n < 2 ^ 64) : (lN n).toBitVec.toNat = n := by rw [wb_tb, BitVec.toNat_ofNat, Nat.mod_eq_of_lt h]
theorem wb_of (x : Int64) : ∃ n, n < 2 ^ 64 ∧ x = lN n := ⟨x.toBitVec.toNat, x.toBitVec.isLt, wb_inj (by rw [wb_tb]; simp)⟩
theorem wb_of32 (x : Int32) : ∃ n, n < 2 ^ 32 ∧ x = nI n := ⟨x.toBitVec.toNat, x.toBitVec.isLt, Int32.toBitVec_inj.mp (by show _ = BitVec.ofNat 32 _; simp)⟩
theorem wb_c : ∀ k, k < 64 → ((nI k).toInt64 &&& 63) = lN k := by decide +kernel
theorem wb_cu : ∀ k, k < 64 → ((nI k).toInt64.toUInt64 &&& Int64.toUInt64 63) = UInt64.ofNat k := by decide +kernel
theorem wb_sm : ∀ k, k < 64 → (BitVec.ofNat 64 k).smod 64 = BitVec.ofNat 64 k := by decide +kernel
theorem wb_pw {a b : Nat} (h : a ≤ b) : 2 ^ b = 2 ^ a * 2 ^ (b - a) := by rw [← Nat.pow_add]; congr 1; omega
theorem wb_lt2 {a b : Nat} (h : a < b) : 2 ^ a < 2 ^ b := Nat.pow_lt_pow_right (by decide) h
theorem wb_mod (n : Nat) : lN n = lN (n % 2 ^ 64) := wb_inj (by rw [wb_tb, wb_tb]; apply BitVec.eq_of_toNat_eq; rw [BitVec.toNat_ofNat, BitVec.toNat_ofNat, Nat.mod_mod])
theorem wb_shr {n k : Nat} (hn : n < 2 ^ 64) (hk : k < 64) : ((lN n).toUInt64 >>> ((nI k).toInt64.toUInt64 &&& Int64.toUInt64 63)).toInt64 = lN (n / 2 ^ k) := by
  rw [wb_cu k hk]
  apply wb_inj
  apply BitVec.eq_of_toNat_eq
  show ((lN n).toUInt64 >>> UInt64.ofNat k).toNat = (BitVec.ofNat 64 _).toNat
  have h1 : (UInt64.ofNat k).toNat = k := by
    show (BitVec.ofNat 64 k).toNat = k
    rw [BitVec.toNat_ofNat, Nat.mod_eq_of_lt (by omega)]
  have h2 : (lN n).toUInt64.toNat = n := wb_tn hn
  rw [UInt64.toNat_shiftRight, h1, h2, Nat.mod_eq_of_lt hk, Nat.shiftRight_eq_div_pow, BitVec.toNat_ofNat, Nat.mod_eq_of_lt (Nat.lt_of_le_of_lt (Nat.div_le_self _ _) hn)]
theorem wb_shl (n : Nat) {k : Nat} (hk : k < 64) : lN n <<< ((nI k).toInt64 &&& 63) = lN (n * 2 ^ k) := by
  rw [wb_c k hk]
  apply wb_inj
  rw [Int64.toBitVec_shiftLeft, wb_tb, wb_tb, wb_tb, wb_sm k hk]
  apply BitVec.eq_of_toNat_eq
  rw [BitVec.shiftLeft_eq', BitVec.toNat_shiftLeft, BitVec.toNat_ofNat, BitVec.toNat_ofNat, BitVec.toNat_ofNat, Nat.mod_eq_of_lt (show k < 2 ^ 64 by omega), Nat.shiftLeft_eq, Nat.mul_mod, Nat.mod_mod, ← Nat.mul_mod]
theorem wb_and {a b : Nat} (ha : a < 2 ^ 64) (hb : b < 2 ^ 64) : lN a &&& lN b = lN (a &&& b) := by
  apply wb_inj
  rw [Int64.toBitVec_and, wb_tb, wb_tb, wb_tb]
  apply BitVec.eq_of_toNat_eq
  rw [BitVec.toNat_and, BitVec.toNat_ofNat, BitVec.toNat_ofNat, BitVec.toNat_ofNat, Nat.mod_eq_of_lt ha, Nat.mod_eq_of_lt hb, Nat.mod_eq_of_lt (Nat.and_lt_two_pow _ hb)]
theorem wb_or {a b : Nat} (ha : a < 2 ^ 64) (hb : b < 2 ^ 64) : lN a ||| lN b = lN (a ||| b) := by
  apply wb_inj
  rw [Int64.toBitVec_or, wb_tb, wb_tb, wb_tb]
  apply BitVec.eq_of_toNat_eq
  rw [BitVec.toNat_or, BitVec.toNat_ofNat, BitVec.toNat_ofNat, BitVec.toNat_ofNat, Nat.mod_eq_of_lt ha, Nat.mod_eq_of_lt hb, Nat.mod_eq_of_lt (Nat.or_lt_two_pow ha hb)]
theorem wb_mask {n k : Nat} (hn : n < 2 ^ 64) (hk : k < 64) : lN n &&& lN (2 ^ k - 1) = lN (n % 2 ^ k) := by
  rw [wb_and hn (by have := wb_lt2 hk; omega), Nat.and_two_pow_sub_one_eq_mod]
theorem wb_a1 {n : Nat} (hn : n < 2 ^ 64) : lN n &&& 1 = lN (n % 2) := wb_mask (k := 1) hn (by decide)
theorem wb_bit {n k : Nat} (hn : n < 2 ^ 64) (hk : k < 64) : ((lN n).toUInt64 >>> ((nI k).toInt64.toUInt64 &&& Int64.toUInt64 63)).toInt64 &&& 1 = lN (n / 2 ^ k % 2) := by
  rw [wb_shr hn hk, wb_a1 (Nat.lt_of_le_of_lt (Nat.div_le_self _ _) hn)]
theorem wb_xor {q k : Nat} (hk : k < 63) (h : 2 ^ k ≤ q) (h2 : q < 2 ^ (k + 1)) : lN q ^^^ lN (2 ^ k) = lN (q - 2 ^ k) := by
  obtain ⟨r, rfl⟩ : ∃ r, q = 2 ^ k + r := ⟨q - 2 ^ k, by omega⟩
  have hr : r < 2 ^ k := by rw [Nat.pow_succ] at h2; omega
  have hx : (2 ^ k + r) ^^^ 2 ^ k = r := by
    apply Nat.eq_of_testBit_eq
    intro i
    rw [Nat.testBit_xor, Nat.testBit_two_pow]
    rcases Nat.lt_trichotomy i k with h | h | h
    · rw [Nat.testBit_two_pow_add_gt h]
      simp [show ¬ k = i by omega]
    · subst h
      rw [Nat.testBit_two_pow_add_eq]
      simp
    · have a1 : 2 ^ (k + 1) ≤ 2 ^ i := Nat.pow_le_pow_right (by decide) h
      rw [Nat.testBit_lt_two_pow (show 2 ^ k + r < 2 ^ i by omega), Nat.testBit_lt_two_pow (show r < 2 ^ i by omega)]
      simp [show ¬ k = i by omega]
  have b1 := wb_lt2 (show k + 1 < 64 by omega)
  have b2 := wb_lt2 (show k < 64 by omega)
  apply wb_inj
  rw [Int64.toBitVec_xor, wb_tb, wb_tb, wb_tb]
  apply BitVec.eq_of_toNat_eq
  rw [BitVec.toNat_xor, BitVec.toNat_ofNat, BitVec.toNat_ofNat, BitVec.toNat_ofNat, Nat.mod_eq_of_lt (by omega : 2 ^ k + r < 2 ^ 64), Nat.mod_eq_of_lt b2, hx, Nat.add_sub_cancel_left, Nat.mod_eq_of_lt (by omega)]
/-! ===== lN: masks, 'or' of parts that don't overlap is a sum ===== -/
theorem u_tn {n : Nat} (h : n < 2 ^ 64) : (UInt64.ofNat n).toNat = n := Nat.mod_eq_of_lt h
theorem g_and {a b c : Nat} (ha : a < 2 ^ 64) (hb : b < 2 ^ 64) (hc : a &&& b = c) : lN a &&& lN b = lN c := by
  subst hc
  have h : UInt64.ofNat a &&& UInt64.ofNat b = UInt64.ofNat (a &&& b) := UInt64.toNat_inj.mp (by rw [UInt64.toNat_and, u_tn ha, u_tn hb, u_tn (Nat.and_lt_two_pow a hb)])
  have h2 := congrArg UInt64.toInt64 h
  exact h2
theorem g_and1 {a : Nat} (ha : a < 2 ^ 64) : lN a &&& 1 = lN (a % 2) := g_and (b := 1) ha (by decide) (Nat.and_two_pow_sub_one_eq_mod a 1)
theorem g_mask {a s p : Nat} (hp : 2 ^ s = p) (hs : s < 64) (ha : a < 2 ^ 64) : lN a &&& lN (p - 1) = lN (a % p) := by
  subst hp
  have := Nat.pow_lt_pow_right (show 1 < 2 by decide) hs
  exact g_and ha (by omega) (Nat.and_two_pow_sub_one_eq_mod a s)
theorem g_or {k p a b : Nat} (hp : 2 ^ k = p) (ha : a < p) (h : b * p + a < 2 ^ 64) : lN (b * p) ||| lN a = lN (b * p + a) := by
  subst hp
  have h1 : b * 2 ^ k ||| a = b * 2 ^ k + a := by rw [← Nat.shiftLeft_eq, Nat.shiftLeft_add_eq_or_of_lt ha]
  have h3 : UInt64.ofNat (b * 2 ^ k) ||| UInt64.ofNat a = UInt64.ofNat (b * 2 ^ k + a) := UInt64.toNat_inj.mp (by rw [UInt64.toNat_or, u_tn (by omega), u_tn (by omega), u_tn h, h1])
  have h2 := congrArg UInt64.toInt64 h3
  exact h2
theorem g_or' {k p a b : Nat} (hp : 2 ^ k = p) (ha : a < p) (h : a + b * p < 2 ^ 64) : lN a ||| lN (b * p) = lN (a + b * p) := by
  rw [Int64.or_comm, g_or hp ha (by omega), Nat.add_comm]
theorem g_ushr {a k p : Nat} {y : UInt64} (hy : y = UInt64.ofNat k) (hk : k < 64) (hp : 2 ^ k = p) (ha : a < 2 ^ 64) : ((lN a).toUInt64 >>> y).toInt64 = lN (a / p) := by
  subst hy hp
  have h : UInt64.ofNat a >>> UInt64.ofNat k = UInt64.ofNat (a / 2 ^ k) := UInt64.toNat_inj.mp (by rw [UInt64.toNat_shiftRight, u_tn ha, u_tn (by omega), u_tn (Nat.lt_of_le_of_lt (Nat.div_le_self _ _) ha), Nat.mod_eq_of_lt hk, Nat.shiftRight_eq_div_pow])
  have h2 := congrArg UInt64.toInt64 h
  exact h2
theorem g_shl {a k p : Nat} {y : Int64} (hy : y.toBitVec.smod 64 = BitVec.ofNat 64 k) (hk : k < 64) (hp : 2 ^ k = p) (ha : a < 2 ^ 64) : lN a <<< y = lN (a * p) := by
  subst hp
  apply Int64.toBitVec_inj.mp
  rw [Int64.toBitVec_shiftLeft, hy]
  apply BitVec.eq_of_toNat_eq
  have hb : (lN a).toBitVec.toNat = a := Nat.mod_eq_of_lt ha
  have hk' : (BitVec.ofNat 64 k).toNat = k := Nat.mod_eq_of_lt (by omega)
  have h : ((lN a).toBitVec <<< BitVec.ofNat 64 k).toNat = (a * 2 ^ k) % 2 ^ 64 := by simp only [BitVec.shiftLeft_eq', BitVec.toNat_shiftLeft, hb, hk', Nat.shiftLeft_eq]
  exact h
/-! ===== lN to 2^62 under >> and >>> ===== -/
theorem pf_lI {a : Nat} (h : a < 2 ^ 63) : (lN a).toInt = (a : Int) := lg_ofNat_toInt h
theorem pf_shr {a d : Nat} {D : Int64} (hD : (D.toBitVec.smod 64).toNat = d) (h : a < 2 ^ 62) : lN a >>> D = lN (a / 2 ^ d) := by
  have hd : a / 2 ^ d ≤ a := Nat.div_le_self _ _
  apply Int64.toInt_inj.mp
  have e : (lN a >>> D).toInt = (lN a).toInt >>> d := by
    rw [← hD]
    exact BitVec.toInt_sshiftRight ..
  rw [e, Int.shiftRight_eq_div_pow, pf_lI (by omega), pf_lI (by omega)]
  rfl
theorem pf_ushr {a d : Nat} {D : UInt64} (hD : D.toNat % 64 = d) (h : a < 2 ^ 62) : ((lN a).toUInt64 >>> D).toInt64 = lN (a / 2 ^ d) := by
  have hd : a / 2 ^ d ≤ a := Nat.div_le_self _ _
  have e : (lN a).toUInt64 >>> D = UInt64.ofNat (a / 2 ^ d) := UInt64.toNat_inj.mp (by
    rw [UInt64.toNat_shiftRight, hD, Nat.shiftRight_eq_div_pow, UInt64.toNat_ofNat']
    show (UInt64.ofNat a).toNat / 2 ^ d = _
    rw [UInt64.toNat_ofNat', Nat.mod_eq_of_lt (by omega), Nat.mod_eq_of_lt (by omega)])
  rw [e]
  rfl
theorem pf_andw (x : Int64) : ∃ m, m < 2 ^ 32 ∧ x &&& 4294967295 = lN m := ⟨x.toBitVec.toNat % 2 ^ 32, Nat.mod_lt _ (by decide), Int64.toBitVec_inj.mp (BitVec.eq_of_toNat_eq (by
  show (x.toBitVec &&& 4294967295#64).toNat = (BitVec.ofNat 64 (x.toBitVec.toNat % 2 ^ 32)).toNat
  rw [BitVec.toNat_and, show (4294967295#64).toNat = 2 ^ 32 - 1 from by decide, Nat.and_two_pow_sub_one_eq_mod, BitVec.toNat_ofNat]
  omega))⟩
/-! ===== Int64 as an unsigned number: uN x ===== -/
def uN (x : Int64) : Nat := x.toUInt64.toNat
theorem uN_lt (x : Int64) : uN x < 18446744073709551616 := x.toUInt64.toNat_lt
theorem uN_inj {x y : Int64} (h : uN x = uN y) : x = y := congrArg UInt64.toInt64 (UInt64.toNat_inj.mp h)
theorem uN_add (x y : Int64) : uN (x + y) = (uN x + uN y) % 18446744073709551616 := by
  show (x.toUInt64 + y.toUInt64).toNat = _
  exact UInt64.toNat_add _ _
theorem uN_mul (x y : Int64) : uN (x * y) = (uN x * uN y) % 18446744073709551616 := by
  show (x.toUInt64 * y.toUInt64).toNat = _
  exact UInt64.toNat_mul _ _
theorem uN_shl (x : Int64) : uN (x <<< ((1 : Int32).toInt64 &&& 63)) = (2 * uN x) % 18446744073709551616 := by
  have h : (((1 : Int32).toInt64 &&& 63).toBitVec.smod 64).toNat = 1 := by decide
  show (x.toBitVec <<< (((1 : Int32).toInt64 &&& 63).toBitVec.smod 64).toNat).toNat = _
  rw [h, BitVec.toNat_shiftLeft, Nat.shiftLeft_eq, Nat.mul_comm]
  rfl
theorem uN_shr (x : Int64) (s : UInt64) : uN (x.toUInt64 >>> s).toInt64 = uN x / 2 ^ (s.toNat % 64) := by
  show (x.toUInt64 >>> s).toNat = _
  rw [UInt64.toNat_shiftRight, Nat.shiftRight_eq_div_pow]
  rfl
theorem uN_s32 (x : Int64) : uN (x.toUInt64 >>> ((32 : Int32).toInt64.toUInt64 &&& Int64.toUInt64 63)).toInt64 = uN x / 4294967296 := by
  have h : ((32 : Int32).toInt64.toUInt64 &&& Int64.toUInt64 63).toNat % 64 = 32 := by decide
  rw [uN_shr, h]
theorem uN_s63 (x : Int64) : uN (x.toUInt64 >>> ((63 : Int32).toInt64.toUInt64 &&& Int64.toUInt64 63)).toInt64 = uN x / 9223372036854775808 := by
  have h : ((63 : Int32).toInt64.toUInt64 &&& Int64.toUInt64 63).toNat % 64 = 63 := by decide
  rw [uN_shr, h]
theorem uN_lo (x : Int64) : uN (x &&& 4294967295) = uN x % 4294967296 := by
  show (x.toUInt64 &&& Int64.toUInt64 4294967295).toNat = _
  rw [UInt64.toNat_and]
  exact Nat.and_two_pow_sub_one_eq_mod _ 32
theorem uN_bit (x : Int64) : (x &&& 1) = 0 ↔ uN x % 2 = 0 := by
  have h : uN (x &&& 1) = uN x % 2 := by
    show (x.toUInt64 &&& Int64.toUInt64 1).toNat = _
    rw [UInt64.toNat_and]
    exact Nat.and_two_pow_sub_one_eq_mod _ 1
  rw [← h]
  exact ⟨fun z => by rw [z]; rfl, fun z => uN_inj (z.trans rfl)⟩
theorem uN_or {x y : Int64} (hy : uN y < 2) : uN ((x <<< ((1 : Int32).toInt64 &&& 63)) ||| y) = (2 * uN x) % 18446744073709551616 + uN y := by
  have h1 : uN ((x <<< ((1 : Int32).toInt64 &&& 63)) ||| y) = uN (x <<< ((1 : Int32).toInt64 &&& 63)) ||| uN y := UInt64.toNat_or _ _
  have h2 : (2 * uN x) % 18446744073709551616 = 2 ^ 1 * (uN x % 9223372036854775808) := by omega
  rw [h1, uN_shl, h2]
  exact (Nat.two_pow_add_eq_or_of_lt (i := 1) hy _).symm
theorem nat_xor {a : Nat} (h : a < 18446744073709551616) : a ^^^ 2 ^ 63 = (a + 9223372036854775808) % 18446744073709551616 := by
  have h1 : (a ^^^ 2 ^ 63) % 2 ^ 63 = a % 2 ^ 63 := by rw [Nat.xor_mod_two_pow, Nat.mod_self, Nat.xor_zero]
  have h2 : (a ^^^ 2 ^ 63) / 2 ^ 63 = (a / 2 ^ 63) ^^^ 1 := by rw [Nat.xor_div_two_pow, Nat.div_self (Nat.two_pow_pos 63)]
  have h3 : a / 2 ^ 63 = 0 ∨ a / 2 ^ 63 = 1 := by omega
  generalize a ^^^ 2 ^ 63 = t at h1 h2
  rcases h3 with h3 | h3
  · rw [h3] at h2
    have h2 : t / 2 ^ 63 = 1 := h2
    omega
  · rw [h3] at h2
    have h2 : t / 2 ^ 63 = 0 := h2
    omega
theorem uN_xor (x : Int64) : uN (x ^^^ (-9223372036854775808)) = (uN x + 9223372036854775808) % 18446744073709551616 := by
  rw [← nat_xor (uN_lt x)]
  exact UInt64.toNat_xor _ _
theorem uN_int (x : Int64) : x.toInt = if 2 * uN x < 18446744073709551616 then (uN x : Int) else (uN x : Int) - 18446744073709551616 := BitVec.toInt_eq_toNat_cond _
theorem uN_le (x y : Int64) : (x ^^^ (-9223372036854775808)) ≤ (y ^^^ (-9223372036854775808)) ↔ uN x ≤ uN y := by
  have hx := uN_lt x
  have hy := uN_lt y
  rw [Int64.le_iff_toInt_le, uN_int, uN_int, uN_xor, uN_xor]
  omega
theorem uN_sk (x : Int64) {k : Nat} (hk : k < 64) : uN (x.toUInt64 >>> ((nI k).toInt64.toUInt64 &&& Int64.toUInt64 63)).toInt64 = uN x / 2 ^ k := by
  have h : ((nI k).toInt64.toUInt64 &&& Int64.toUInt64 63).toNat % 64 = k := by
    rw [nI_l (by omega), UInt64.toNat_and]
    have e : (lN k).toUInt64.toNat = k % 2 ^ 64 := rfl
    have e2 : (Int64.toUInt64 63).toNat = 2 ^ 6 - 1 := by decide
    rw [e, e2, Nat.and_two_pow_sub_one_eq_mod]
    omega
  rw [uN_shr, h]
/-! ===== unsigned comparison by xor with the least ===== -/
theorem lN_bv (n : Nat) : (lN n).toBitVec = BitVec.ofNat 64 n := rfl
theorem lN_nat {n : Nat} (h : n < 2 ^ 64) : (lN n).toBitVec.toNat = n := by rw [lN_bv, BitVec.toNat_ofNat]; exact Nat.mod_eq_of_lt h
theorem lN_xor (a b : Nat) : lN a ^^^ lN b = lN (a ^^^ b) := by
  apply Int64.toBitVec_inj.mp; rw [Int64.toBitVec_xor, lN_bv, lN_bv, lN_bv]; apply BitVec.eq_of_getLsbD_eq; intro i hi; simp [BitVec.getLsbD_ofNat, Nat.testBit_xor, hi]
theorem lN_ti {m : Nat} (h : m < 2 ^ 64) : (lN m).toInt = if m < 2 ^ 63 then (m : Int) else (m : Int) - 2 ^ 64 := by
  have c := BitVec.toInt_eq_toNat_cond (lN m).toBitVec
  rw [lN_nat h] at c
  show (lN m).toBitVec.toInt = _
  rw [c]
  split <;> split <;> omega
theorem xor63 {x : Nat} (h : x < 2 ^ 63) : x ^^^ 2 ^ 63 = 2 ^ 63 + x := by
  apply Nat.eq_of_testBit_eq
  intro i
  rw [Nat.testBit_xor, Nat.testBit_two_pow]
  rcases Nat.lt_trichotomy i 63 with z | z | z
  · rw [Nat.testBit_two_pow_add_gt z, decide_eq_false (by omega)]; simp
  · subst z; rw [Nat.testBit_two_pow_add_eq]; simp
  · have hp : 2 ^ 64 ≤ 2 ^ i := Nat.pow_le_pow_right (by decide) z
    rw [Nat.testBit_lt_two_pow (show x < 2 ^ i by omega), Nat.testBit_lt_two_pow (show 2 ^ 63 + x < 2 ^ i by omega), decide_eq_false (by omega)]; rfl
theorem xorS {a : Nat} (h : a < 2 ^ 64) : (lN a ^^^ (-9223372036854775808)).toInt = (a : Int) - 2 ^ 63 := by
  rw [show (-9223372036854775808 : Int64) = lN (2 ^ 63) from by decide +kernel, lN_xor]
  rcases Nat.lt_or_ge a (2 ^ 63) with z | z
  · rw [xor63 z, lN_ti (by omega), if_neg (by omega)]; omega
  · obtain ⟨x, rfl⟩ : ∃ x, a = 2 ^ 63 + x := ⟨a - 2 ^ 63, by omega⟩
    rw [← xor63 (by omega), Nat.xor_assoc, Nat.xor_self, Nat.xor_zero, lN_ti (by omega), if_pos (by omega), xor63 (by omega)]; omega
theorem ultL {a b : Nat} (ha : a < 2 ^ 64) (hb : b < 2 ^ 64) : ((lN b ^^^ (-9223372036854775808)) ≤ (lN a ^^^ (-9223372036854775808))) ↔ b ≤ a := by
  rw [Int64.le_iff_toInt_le, xorS ha, xorS hb]; omega
/-! ===== Int64 masks of n low bits ===== -/
theorem cr_bits (W U M : BitVec 64) : ((W &&& U) &&& (U &&& (M ^^^ BitVec.allOnes 64))) = 0#64 ↔ (W &&& U) &&& M = W &&& U := by
  constructor
  · intro h
    apply BitVec.eq_of_getLsbD_eq
    intro i hi
    have e := congrArg (fun x => BitVec.getLsbD x i) h
    simp only [BitVec.getLsbD_and, BitVec.getLsbD_xor, BitVec.getLsbD_allOnes, BitVec.getLsbD_zero, hi, decide_true] at e ⊢
    revert e
    cases W.getLsbD i <;> cases U.getLsbD i <;> cases M.getLsbD i <;> decide
  · intro h
    apply BitVec.eq_of_getLsbD_eq
    intro i hi
    have e := congrArg (fun x => BitVec.getLsbD x i) h
    simp only [BitVec.getLsbD_and, BitVec.getLsbD_xor, BitVec.getLsbD_allOnes, BitVec.getLsbD_zero, hi, decide_true] at e ⊢
    revert e
    cases W.getLsbD i <;> cases U.getLsbD i <;> cases M.getLsbD i <;> decide
theorem cr_mask (w U m : Int64) (n : Nat) (hm : m.toBitVec.toNat = 2 ^ n - 1) : ((w &&& U) &&& (U &&& (m ^^^ (-1)))) = 0 ↔ (w &&& U).toBitVec.toNat < 2 ^ n := by
  have e0 : (-1 : Int64).toBitVec = BitVec.allOnes 64 := by decide
  have z0 : (0 : Int64).toBitVec = 0#64 := by decide
  rw [← Int64.toBitVec_inj, z0, Int64.toBitVec_and, Int64.toBitVec_and, Int64.toBitVec_and, Int64.toBitVec_xor, e0, cr_bits]
  generalize w.toBitVec &&& U.toBitVec = T
  rw [← BitVec.toNat_inj, BitVec.toNat_and, hm, Nat.and_two_pow_sub_one_eq_mod]
  constructor
  · intro h
    have t := Nat.mod_lt T.toNat (Nat.two_pow_pos n)
    rw [h] at t
    exact t
  · exact Nat.mod_eq_of_lt
theorem cr_shr (t : Int64) (x : UInt64) (n : Nat) (hx : x.toNat % 64 = n) : (t.toUInt64 >>> x).toInt64 = 0 ↔ t.toBitVec.toNat < 2 ^ n := by
  rw [← Int64.toBitVec_inj, ← BitVec.toNat_inj]
  show (t.toUInt64 >>> x).toNat = 0 ↔ t.toUInt64.toNat < 2 ^ n
  rw [UInt64.toNat_shiftRight, hx, Nat.shiftRight_eq_div_pow]
  constructor
  · intro h
    have d : t.toUInt64.toNat / 2 ^ n < 1 := by
      rw [h]
      decide
    have e := (Nat.div_lt_iff_lt_mul (Nat.two_pow_pos n)).mp d
    rw [Nat.one_mul] at e
    exact e
  · exact Nat.div_eq_of_lt
theorem cr_amt (s : Int64) : ∃ n, n < 64 ∧ s &&& 63 = lN n ∧ (s.toUInt64 &&& Int64.toUInt64 63).toNat % 64 = n := by
  have e : (s.toUInt64 &&& Int64.toUInt64 63).toNat = s.toUInt64.toNat % 2 ^ 6 := by
    rw [UInt64.toNat_and, show (Int64.toUInt64 63).toNat = 2 ^ 6 - 1 from by decide, Nat.and_two_pow_sub_one_eq_mod]
  refine ⟨s.toUInt64.toNat % 2 ^ 6, by omega, ?_, by omega⟩
  rw [← Int64.toBitVec_inj, ← BitVec.toNat_inj]
  show (s.toUInt64 &&& Int64.toUInt64 63).toNat = (BitVec.ofNat 64 (s.toUInt64.toNat % 2 ^ 6)).toNat
  rw [e, BitVec.toNat_ofNat]
  omega
end
section
/-! plane geometry over pairs of Int: turns, dots, affine functions, next corner -/
def ge_cr (a b c : Int × Int) : Int := (b.1 - a.1) * (c.2 - a.2) - (b.2 - a.2) * (c.1 - a.1)
def ge_dt (a b c : Int × Int) : Int := (b.1 - a.1) * (c.1 - a.1) + (b.2 - a.2) * (c.2 - a.2)
def ge_sq (a b : Int × Int) : Int := (a.1 - b.1) * (a.1 - b.1) + (a.2 - b.2) * (a.2 - b.2)
def ge_af (f : Int × Int → Int) : Prop := ∃ A B C : Int, ∀ p, f p = A + B * p.1 + C * p.2
def ge_D (w u v : Int) (b c : Int × Int) : Int := w * (b.1 * c.2 - b.2 * c.1) - u * (c.2 - b.2) + v * (c.1 - b.1)

theorem ge_rot (a b c : Int × Int) : ge_cr a b c = ge_cr b c a := by unfold ge_cr; grind
theorem ge_sw (a b c : Int × Int) : ge_cr b a c = - ge_cr a b c := by unfold ge_cr; grind
theorem ge_sw2 (a b c : Int × Int) : ge_cr a c b = - ge_cr a b c := by unfold ge_cr; grind
theorem ge_cr1 (a b : Int × Int) : ge_cr a b a = 0 := by unfold ge_cr; grind
theorem ge_cr2 (a b : Int × Int) : ge_cr a b b = 0 := by unfold ge_cr; grind
theorem ge_cr0 (a b : Int × Int) : ge_cr a a b = 0 := by unfold ge_cr; grind
theorem ge_dts (a b c : Int × Int) : ge_dt a c b = ge_dt a b c := by unfold ge_dt; grind
theorem ge_dt1 (a b : Int × Int) : ge_dt a b a = 0 := by unfold ge_dt; grind
theorem ge_dt2 (a b : Int × Int) : ge_dt a b b = ge_sq a b := by unfold ge_dt ge_sq; grind
theorem ge_dtr (a b c : Int × Int) : ge_dt b a c = ge_sq a b - ge_dt a b c := by unfold ge_dt ge_sq; grind
theorem ge_sqs (a b : Int × Int) : ge_sq b a = ge_sq a b := by unfold ge_sq; grind
theorem ge_sqd (a b c : Int × Int) : ge_sq b c = ge_sq a b + ge_sq a c - 2 * ge_dt a b c := by unfold ge_sq ge_dt; grind
theorem ge_sq0 (a : Int × Int) : ge_sq a a = 0 := by unfold ge_sq; grind
theorem ge_lag (a b c : Int × Int) : ge_sq a b * ge_sq a c = ge_dt a b c * ge_dt a b c + ge_cr a b c * ge_cr a b c := by
  unfold ge_sq ge_dt ge_cr; grind
theorem ge_lag2 (a b p r : Int × Int) : ge_sq a b * ge_dt a p r = ge_dt a b p * ge_dt a b r + ge_cr a b p * ge_cr a b r := by
  unfold ge_sq ge_dt ge_cr; grind
theorem ge_mm (x : Int) : 0 ≤ x * x := by
  rcases Int.le_total 0 x with h | h
  · exact Int.mul_nonneg h h
  · exact Int.mul_nonneg_of_nonpos_of_nonpos h h
theorem ge_mm0 {x : Int} (h : x * x = 0) : x = 0 := by
  rcases Int.mul_eq_zero.mp h with h | h <;> exact h
theorem ge_sqn (a b : Int × Int) : 0 ≤ ge_sq a b := by
  have h1 := ge_mm (a.1 - b.1)
  have h2 := ge_mm (a.2 - b.2)
  unfold ge_sq; omega
theorem ge_sqz {a b : Int × Int} (h : ge_sq a b = 0) : a = b := by
  have h1 := ge_mm (a.1 - b.1)
  have h2 := ge_mm (a.2 - b.2)
  unfold ge_sq at h
  have e1 := ge_mm0 (x := a.1 - b.1) (by omega)
  have e2 := ge_mm0 (x := a.2 - b.2) (by omega)
  exact Prod.ext (by omega) (by omega)
theorem ge_sqp {a b : Int × Int} (h : a ≠ b) : 0 < ge_sq a b := by
  have h1 := ge_sqn a b
  have h2 : ge_sq a b ≠ 0 := fun z => h (ge_sqz z)
  omega
theorem ge_pos {g c X : Int} (hg : 0 < g) (e : g * c = X) (h : 0 < X) : 0 < c :=
  Int.pos_of_mul_pos_right (e ▸ h) hg
theorem ge_nn {g c X : Int} (hg : 0 < g) (e : g * c = X) (h : 0 ≤ X) : 0 ≤ c :=
  Int.nonneg_of_mul_nonneg_right (e ▸ h) hg
theorem ge_np {g c X : Int} (hg : 0 < g) (e : g * c = X) (h : X ≤ 0) : c ≤ 0 :=
  Int.nonpos_of_mul_nonpos_right (e ▸ h) hg
theorem ge_z {g c : Int} (hg : 0 < g) (e : g * c = 0) : c = 0 := by
  rcases Int.mul_eq_zero.mp e with h | h
  · omega
  · exact h
/-- weights s and E - s, both not below 0, over values that are above 0 -/
theorem ge_wp {E s u v : Int} (hE : 0 < E) (h0 : 0 ≤ s) (h1 : s ≤ E) (hu : 0 < u) (hv : 0 < v) : 0 < (E - s) * u + s * v := by
  rcases Int.lt_or_eq_of_le h0 with h | h
  · have a := Int.mul_pos h hv
    have b := Int.mul_nonneg (show 0 ≤ E - s by omega) (Int.le_of_lt hu)
    omega
  · subst h
    have a := Int.mul_pos hE hu
    simpa using a

theorem ge_af_cr (a b : Int × Int) : ge_af (ge_cr a b) :=
  ⟨-(b.1 - a.1) * a.2 + (b.2 - a.2) * a.1, -(b.2 - a.2), b.1 - a.1, fun p => by unfold ge_cr; grind⟩
theorem ge_af_dt (a b : Int × Int) : ge_af (ge_dt a b) :=
  ⟨-(b.1 - a.1) * a.1 - (b.2 - a.2) * a.2, b.1 - a.1, b.2 - a.2, fun p => by unfold ge_dt; grind⟩
theorem ge_af_x : ge_af (fun p => p.1) := ⟨0, 1, 0, fun p => by dsimp only; omega⟩
theorem ge_af_y : ge_af (fun p => p.2) := ⟨0, 0, 1, fun p => by dsimp only; omega⟩
theorem ge_af_neg {f : Int × Int → Int} (h : ge_af f) : ge_af (fun p => - f p) := by
  obtain ⟨A, B, C, h⟩ := h
  exact ⟨-A, -B, -C, fun p => by dsimp only; rw [h]; grind⟩
theorem ge_af_add {f g : Int × Int → Int} (h : ge_af f) (k : ge_af g) : ge_af (fun p => f p + g p) := by
  obtain ⟨A, B, C, h⟩ := h
  obtain ⟨A', B', C', k⟩ := k
  exact ⟨A + A', B + B', C + C', fun p => by dsimp only; rw [h, k]; grind⟩
theorem ge_af_mul (c : Int) {f : Int × Int → Int} (h : ge_af f) : ge_af (fun p => c * f p) := by
  obtain ⟨A, B, C, h⟩ := h
  exact ⟨c * A, c * B, c * C, fun p => by dsimp only; rw [h]; grind⟩
theorem ge_af_sub (c : Int) {f : Int × Int → Int} (h : ge_af f) : ge_af (fun p => f p - c) := by
  obtain ⟨A, B, C, h⟩ := h
  exact ⟨A - c, B, C, fun p => by dsimp only; rw [h]; omega⟩

/-- weights of a triangle -/
theorem ge_bary {f : Int × Int → Int} (hf : ge_af f) (a b c p : Int × Int) : ge_cr a b c * f p = ge_cr b c p * f a + ge_cr c a p * f b + ge_cr a b p * f c := by
  obtain ⟨A, B, C, hf⟩ := hf
  simp only [hf, ge_cr]; grind
theorem ge_sum (a b c p : Int × Int) : ge_cr b c p + ge_cr c a p + ge_cr a b p = ge_cr a b c := by
  simp only [ge_cr]; grind
/-- seen from a corner q between a and b -/
theorem ge_cone {f : Int × Int → Int} (hf : ge_af f) (a q b r : Int × Int) : ge_cr a q b * (f r - f q) = ge_cr a q r * (f b - f q) + ge_cr q b r * (f a - f q) := by
  obtain ⟨A, B, C, hf⟩ := hf
  simp only [hf, ge_cr]; grind
/-- weights on a line -/
theorem ge_seg {f : Int × Int → Int} (hf : ge_af f) (a b r : Int × Int) (h : ge_cr a b r = 0) : ge_sq a b * f r = (ge_sq a b - ge_dt a b r) * f a + ge_dt a b r * f b := by
  obtain ⟨A, B, C, hf⟩ := hf
  have e : ge_sq a b * (A + B * r.1 + C * r.2) = (ge_sq a b - ge_dt a b r) * (A + B * a.1 + C * a.2) + ge_dt a b r * (A + B * b.1 + C * b.2) + (C * (b.1 - a.1) - B * (b.2 - a.2)) * ge_cr a b r := by
    simp only [ge_sq, ge_dt, ge_cr]; grind
  rw [h] at e
  simp only [hf]
  omega

theorem ge_gp1 (w u v : Int) (a b c d : Int × Int) : ge_cr a b d * ge_D w u v b c = ge_cr a b c * ge_D w u v b d + ge_D w u v a b * ge_cr b c d := by
  simp only [ge_cr, ge_D]; grind
theorem ge_gp2 (w u v : Int) (a b c d : Int × Int) : ge_cr a c d * ge_D w u v b c = ge_cr a b c * ge_D w u v c d + ge_D w u v a c * ge_cr b c d := by
  simp only [ge_cr, ge_D]; grind
theorem ge_gp3 (w u v A B C : Int) (a b c : Int × Int) : (A + B * b.1 + C * b.2) * ge_D w u v a c = (A + B * a.1 + C * a.2) * ge_D w u v b c + (A + B * c.1 + C * c.2) * ge_D w u v a b - ge_cr a b c * (A * w + B * u + C * v) := by
  simp only [ge_cr, ge_D]; grind
theorem ge_Dcr (o b c : Int × Int) : ge_D 1 o.1 o.2 b c = ge_cr o b c := by simp only [ge_cr, ge_D]; grind

/-- q and q' on one ray from p, each not beyond the other -/
theorem ge_same {p q q' : Int × Int} (h : p ≠ q) (h' : p ≠ q') (hc : ge_cr p q q' = 0) (h0 : 0 ≤ ge_dt p q q') (h1 : ge_dt p q q' ≤ ge_sq p q) (h2 : ge_dt p q q' ≤ ge_sq p q') : q = q' := by
  have L := ge_lag p q q'
  rw [hc] at L
  have D := ge_sqp h
  have D' := ge_sqp h'
  have e := ge_sqd p q q'
  generalize ge_dt p q q' = s at *
  generalize ge_sq p q = x at *
  generalize ge_sq p q' = y at *
  have a := Int.mul_nonneg (show 0 ≤ x - s by omega) (show 0 ≤ y by omega)
  have b := Int.mul_nonneg h0 (show 0 ≤ y - s by omega)
  have k : (x - s) * y + s * (y - s) = x * y - s * s := by grind
  have z : (x - s) * y = 0 := by omega
  have xs : x = s := by
    rcases Int.mul_eq_zero.mp z with t | t <;> omega
  have z2 : s * (y - s) = 0 := by omega
  have ys : y = s := by
    rcases Int.mul_eq_zero.mp z2 with t | t <;> omega
  exact ge_sqz (by omega)

def ge_nx (S : Int × Int → Prop) (p q : Int × Int) : Prop :=
  S p ∧ S q ∧ p ≠ q ∧ ∀ r, S r → 0 < ge_cr p q r ∨ (ge_cr p q r = 0 ∧ 0 ≤ ge_dt p q r ∧ ge_dt p q r ≤ ge_sq p q)
def ge_bd (S : Int × Int → Prop) : Prop := ∀ r, S r → 0 ≤ r.1 ∧ r.1 ≤ 63 ∧ 0 ≤ r.2 ∧ r.2 ≤ 63
def ge_ex (S : Int × Int → Prop) (q : Int × Int) : Prop := ∃ f, ge_af f ∧ f q = 0 ∧ ∀ r, S r → r ≠ q → 0 < f r

theorem ge_nx_ge {S : Int × Int → Prop} {p q r : Int × Int} (h : ge_nx S p q) (hr : S r) : 0 ≤ ge_cr p q r := by
  rcases h.2.2.2 r hr with h | h <;> omega

theorem ge_nxu {S : Int × Int → Prop} {p q q' : Int × Int} (h : ge_nx S p q) (h' : ge_nx S p q') : q = q' := by
  have a := ge_nx_ge h h'.2.1
  have b := ge_nx_ge h' h.2.1
  have c := ge_sw2 p q q'
  have A := h.2.2.2 q' h'.2.1
  have B := h'.2.2.2 q h.2.1
  have d := ge_dts p q q'
  exact ge_same h.2.2.1 h'.2.2.1 (by omega) (by omega) (by omega) (by omega)

theorem ge_nxp {S : Int × Int → Prop} {p p' q : Int × Int} (h : ge_nx S p q) (h' : ge_nx S p' q) : p = p' := by
  have a := ge_nx_ge h h'.1
  have b := ge_nx_ge h' h.1
  have c : ge_cr p' q p = - ge_cr p q p' := by unfold ge_cr; grind
  have c2 : ge_cr q p p' = - ge_cr p q p' := ge_sw p q p'
  have A := h.2.2.2 p' h'.1
  have B := h'.2.2.2 p h.1
  have d := ge_dtr p q p'
  have d' := ge_dtr p' q p
  have d2 := ge_dts q p p'
  have s1 := ge_sqs p q
  have s2 := ge_sqs p' q
  exact ge_same (p := q) (fun z => h.2.2.1 z.symm) (fun z => h'.2.2.1 z.symm) (by omega) (by omega) (by omega) (by omega)

theorem ge_mb {a b : Int} (h1 : -63 ≤ a) (h2 : a ≤ 63) (h3 : -63 ≤ b) (h4 : b ≤ 63) : -3969 ≤ a * b ∧ a * b ≤ 3969 := by
  have x1 := Int.mul_nonneg (show 0 ≤ 63 - a by omega) (show 0 ≤ 63 + b by omega)
  have x2 := Int.mul_nonneg (show 0 ≤ 63 + a by omega) (show 0 ≤ 63 - b by omega)
  have x3 := Int.mul_nonneg (show 0 ≤ 63 - a by omega) (show 0 ≤ 63 - b by omega)
  have x4 := Int.mul_nonneg (show 0 ≤ 63 + a by omega) (show 0 ≤ 63 + b by omega)
  have e1 : (63 - a) * (63 + b) = 3969 + 63 * b - 63 * a - a * b := by grind
  have e2 : (63 + a) * (63 - b) = 3969 - 63 * b + 63 * a - a * b := by grind
  have e3 : (63 - a) * (63 - b) = 3969 - 63 * b - 63 * a + a * b := by grind
  have e4 : (63 + a) * (63 + b) = 3969 + 63 * b + 63 * a + a * b := by grind
  omega
theorem ge_dtb {S : Int × Int → Prop} (hb : ge_bd S) {p q r : Int × Int} (hp : S p) (hq : S q) (hr : S r) : -7938 ≤ ge_dt p q r ∧ ge_dt p q r ≤ 7938 := by
  have a := hb p hp
  have b := hb q hq
  have c := hb r hr
  have x := ge_mb (a := q.1 - p.1) (b := r.1 - p.1) (by omega) (by omega) (by omega) (by omega)
  have y := ge_mb (a := q.2 - p.2) (b := r.2 - p.2) (by omega) (by omega) (by omega) (by omega)
  unfold ge_dt; omega
theorem ge_crb {S : Int × Int → Prop} (hb : ge_bd S) {p q r : Int × Int} (hp : S p) (hq : S q) (hr : S r) : -7938 ≤ ge_cr p q r ∧ ge_cr p q r ≤ 7938 := by
  have a := hb p hp
  have b := hb q hq
  have c := hb r hr
  have x := ge_mb (a := q.1 - p.1) (b := r.2 - p.2) (by omega) (by omega) (by omega) (by omega)
  have y := ge_mb (a := q.2 - p.2) (b := r.1 - p.1) (by omega) (by omega) (by omega) (by omega)
  unfold ge_cr; omega
theorem ge_sqb {S : Int × Int → Prop} (hb : ge_bd S) {p q : Int × Int} (hp : S p) (hq : S q) : 0 ≤ ge_sq p q ∧ ge_sq p q ≤ 7938 := by
  have a := ge_dtb hb hp hq hq
  rw [ge_dt2] at a
  have := ge_sqn p q
  omega

/-- no turn and no way along: the same place -/
theorem ge_eq0 {p q r : Int × Int} (h : p ≠ q) (hc : ge_cr p q r = 0) (hd : ge_dt p q r = 0) : r = p := by
  have L := ge_lag p q r
  rw [hc, hd] at L
  exact (ge_sqz (ge_z (ge_sqp h) (by omega))).symm

theorem ge_exp {S : Int × Int → Prop} (hb : ge_bd S) {p q : Int × Int} (h : ge_nx S p q) : ge_ex S p := by
  refine ⟨fun r => 100000 * ge_cr p q r + ge_dt p q r, ge_af_add (ge_af_mul _ (ge_af_cr p q)) (ge_af_dt p q), ?_, fun r hr hn => ?_⟩
  · have := ge_cr1 p q
    have := ge_dt1 p q
    dsimp only; omega
  · have B := ge_dtb hb h.1 h.2.1 hr
    dsimp only
    rcases h.2.2.2 r hr with c | ⟨c, d, _⟩
    · omega
    · have : ge_dt p q r ≠ 0 := fun z => hn (ge_eq0 h.2.2.1 c z)
      omega
theorem ge_exq {S : Int × Int → Prop} (hb : ge_bd S) {p q : Int × Int} (h : ge_nx S p q) : ge_ex S q := by
  refine ⟨fun r => 100000 * ge_cr p q r + ge_dt q p r, ge_af_add (ge_af_mul _ (ge_af_cr p q)) (ge_af_dt q p), ?_, fun r hr hn => ?_⟩
  · have := ge_cr2 p q
    have := ge_dt1 q p
    dsimp only; omega
  · have B := ge_dtb hb h.2.1 h.1 hr
    have E := ge_dtr p q r
    dsimp only
    rcases h.2.2.2 r hr with c | ⟨c, d, d2⟩
    · omega
    · have : ge_dt q p r ≠ 0 := fun z => hn (ge_eq0 (fun y => h.2.2.1 y.symm) (by rw [ge_sw, c]; rfl) z)
      omega
end
section
/-! cyclic hulls: h goes round and round, m corners a round -/
def ge_CH (S : Int × Int → Prop) (m : Nat) (h : Nat → Int × Int) : Prop :=
  2 ≤ m ∧ (∀ k, h (k + m) = h k) ∧ (∀ k, ge_nx S (h k) (h (k + 1))) ∧ (∀ i j, i < j → j < i + m → h i ≠ h j)

theorem ge_ch_sh {S : Int × Int → Prop} {m : Nat} {h : Nat → Int × Int} (H : ge_CH S m h) (s : Nat) : ge_CH S m (fun k => h (k + s)) := by
  obtain ⟨h2, hp, hn, hi⟩ := H
  refine ⟨h2, fun k => ?_, fun k => ?_, fun i j a b => hi _ _ (by omega) (by omega)⟩
  · show h (k + m + s) = h (k + s)
    rw [show k + m + s = k + s + m by omega]; exact hp _
  · show ge_nx S (h (k + s)) (h (k + 1 + s))
    rw [show k + 1 + s = k + s + 1 by omega]; exact hn _
theorem ge_ch_S {S : Int × Int → Prop} {m : Nat} {h : Nat → Int × Int} (H : ge_CH S m h) (k : Nat) : S (h k) := (H.2.2.1 k).1

theorem ge_mod1 {m : Nat} (hm : 0 < m) (k : Nat) : (k % m + 1 < m ∧ (k + 1) % m = k % m + 1) ∨ (k % m = m - 1 ∧ (k + 1) % m = 0) := by
  have e := Nat.mod_add_mod k m 1
  have l := Nat.mod_lt k hm
  by_cases c : k % m + 1 < m
  · exact Or.inl ⟨c, by rw [← e, Nat.mod_eq_of_lt c]⟩
  · have z : k % m + 1 = m := by omega
    exact Or.inr ⟨by omega, by rw [← e, z, Nat.mod_self]⟩
theorem ge_modne {m i j : Nat} (ha : i < j) (b : j < i + m) : i % m ≠ j % m := by
  have e : (i % m + (j - i)) % m = j % m := by rw [Nat.mod_add_mod]; congr 1; omega
  have l := Nat.mod_lt i (show 0 < m by omega)
  rw [← e]
  clear e
  generalize i % m = a at *
  by_cases c : a + (j - i) < m
  · rw [Nat.mod_eq_of_lt c]; omega
  · rw [Nat.mod_eq_sub_mod (by omega), Nat.mod_eq_of_lt (by omega)]; omega

theorem ge_mk {S : Int × Int → Prop} {m : Nat} (g : Nat → Int × Int) (h2 : 2 ≤ m) (hn : ∀ k, k + 1 < m → ge_nx S (g k) (g (k + 1))) (hl : ge_nx S (g (m - 1)) (g 0)) (hi : ∀ i j, i < j → j < m → g i ≠ g j) : ge_CH S m (fun k => g (k % m)) := by
  refine ⟨h2, fun k => ?_, fun k => ?_, fun i j a b => ?_⟩
  · show g ((k + m) % m) = g (k % m)
    rw [Nat.add_mod_right]
  · show ge_nx S (g (k % m)) (g ((k + 1) % m))
    rcases ge_mod1 (show 0 < m by omega) k with ⟨c, e⟩ | ⟨c, e⟩
    · rw [e]; exact hn _ c
    · rw [e, c]; exact hl
  · show g (i % m) ≠ g (j % m)
    have n := ge_modne a b
    have l1 := Nat.mod_lt i (show 0 < m by omega)
    have l2 := Nat.mod_lt j (show 0 < m by omega)
    rcases Nat.lt_or_gt_of_ne n with c | c
    · exact hi _ _ c l2
    · exact fun z => hi _ _ c l1 z.symm

theorem ge_perq {m : Nat} {h : Nat → Int × Int} (hp : ∀ k, h (k + m) = h k) (k : Nat) : ∀ q, h (k + m * q) = h k
  | 0 => by rw [Nat.mul_zero, Nat.add_zero]
  | q + 1 => by rw [Nat.mul_succ, ← Nat.add_assoc, hp, ge_perq hp k q]
theorem ge_per {S : Int × Int → Prop} {m : Nat} {h : Nat → Int × Int} (H : ge_CH S m h) (k : Nat) : h k = h (k % m) := by
  have e := ge_perq H.2.1 (k % m) (k / m)
  rw [Nat.mod_add_div] at e
  exact e

theorem ge_str {S : Int × Int → Prop} {m : Nat} {h : Nat → Int × Int} (H : ge_CH S m h) (hb : ge_bd S) {i j : Nat} (a : i + 1 < j) (b : j < i + m) : 0 < ge_cr (h i) (h (i + 1)) (h j) := by
  have N := H.2.2.1 i
  rcases N.2.2.2 (h j) (ge_ch_S H j) with c | ⟨c, d, d2⟩
  · exact c
  · obtain ⟨f, fa, f0, fp⟩ := ge_exp hb (H.2.2.1 j)
    have e := ge_seg fa (h i) (h (i + 1)) (h j) c
    have n1 : h i ≠ h j := H.2.2.2 i j (by omega) b
    have n2 : h (i + 1) ≠ h j := H.2.2.2 (i + 1) j a (by omega)
    have p1 := fp (h i) (ge_ch_S H i) n1
    have p2 := fp (h (i + 1)) (ge_ch_S H (i + 1)) n2
    have w := ge_wp (ge_sqp N.2.2.1) d d2 p1 p2
    rw [f0, Int.mul_zero] at e
    omega

theorem ge_tri0 {S : Int × Int → Prop} {m : Nat} {h : Nat → Int × Int} (H : ge_CH S m h) (hb : ge_bd S) {i : Nat} (hi : 0 < i) : ∀ d, i + 1 + d < m → 0 < ge_cr (h 0) (h i) (h (i + 1 + d)) := by
  obtain ⟨f, fa, f0, fp⟩ := ge_exp hb (H.2.2.1 0)
  have pos : ∀ k, 0 < k → k < m → 0 < f (h k) := fun k a b => fp _ (ge_ch_S H k) (fun z => H.2.2.2 0 k a (by omega) z.symm)
  have con : ∀ k, 0 < k → k + 1 < m → 0 < ge_cr (h 0) (h k) (h (k + 1)) := fun k a b => by
    have s := ge_str H hb (i := k) (j := m) b (by omega)
    have e : h m = h 0 := by have := H.2.1 0; rwa [Nat.zero_add] at this
    rw [e] at s
    rw [ge_rot]; exact s
  intro d
  induction d with
  | zero => intro a; exact con i hi a
  | succ d ih =>
    intro a
    have x := ih (by omega)
    have y := con (i + 1 + d) (by omega) (by omega)
    have e := ge_bary fa (h i) (h (i + 1 + d)) (h (i + 1 + d + 1)) (h 0)
    rw [f0, ← ge_rot (h 0) (h i), ← ge_rot (h 0) (h (i + 1 + d)), ← ge_rot (h 0) (h (i + 1 + d + 1)) (h i), ge_sw2 (h 0) (h i) (h (i + 1 + d + 1))] at e
    have p1 := Int.mul_pos y (pos i hi (by omega))
    have p2 := Int.mul_pos x (pos (i + 1 + d + 1) (by omega) (by omega))
    refine ge_pos (pos (i + 1 + d) (by omega) (by omega)) (X := ge_cr (h 0) (h (i + 1 + d)) (h (i + 1 + d + 1)) * f (h i) + ge_cr (h 0) (h i) (h (i + 1 + d)) * f (h (i + 1 + d + 1))) ?_ (by omega)
    show f (h (i + 1 + d)) * ge_cr (h 0) (h i) (h (i + 1 + d + 1)) = _
    grind

theorem ge_tri {S : Int × Int → Prop} {m : Nat} {h : Nat → Int × Int} (H : ge_CH S m h) (hb : ge_bd S) {i j k : Nat} (a : i < j) (b : j < k) (c : k < i + m) : 0 < ge_cr (h i) (h j) (h k) := by
  have x := ge_tri0 (ge_ch_sh H i) hb (i := j - i) (by omega) (k - j - 1) (by omega)
  rw [Nat.zero_add, show j - i + i = j by omega, show j - i + 1 + (k - j - 1) + i = k by omega] at x
  exact x

theorem ge_lm3 {S : Int × Int → Prop} {m : Nat} {h : Nat → Int × Int} (H : ge_CH S m h) (hb : ge_bd S) (h3 : 3 ≤ m) {f : Int × Int → Int} (hf : ge_af f) {k : Nat} {r : Int × Int} (a : f (h k) ≤ f (h (k + 1))) (b : f (h (k + 2)) ≤ f (h (k + 1))) (ra : 0 ≤ ge_cr (h k) (h (k + 1)) r) (rb : 0 ≤ ge_cr (h (k + 1)) (h (k + 2)) r) : f r ≤ f (h (k + 1)) := by
  have D := ge_str H hb (i := k) (j := k + 2) (by omega) (by omega)
  have e := ge_cone hf (h k) (h (k + 1)) (h (k + 2)) r
  have x := Int.mul_nonneg ra (show 0 ≤ f (h (k + 1)) - f (h (k + 2)) by omega)
  have y := Int.mul_nonneg rb (show 0 ≤ f (h (k + 1)) - f (h k) by omega)
  have z : ge_cr (h k) (h (k + 1)) (h (k + 2)) * (f (h (k + 1)) - f r) = ge_cr (h k) (h (k + 1)) r * (f (h (k + 1)) - f (h (k + 2))) + ge_cr (h (k + 1)) (h (k + 2)) r * (f (h (k + 1)) - f (h k)) := by grind
  have := ge_nn D z (by omega)
  omega

theorem ge_lm {S : Int × Int → Prop} {m : Nat} {h : Nat → Int × Int} (H : ge_CH S m h) (hb : ge_bd S) {f : Int × Int → Int} (hf : ge_af f) {k : Nat} {r : Int × Int} (hr : S r) (a : f (h k) ≤ f (h (k + 1))) (b : f (h (k + 2)) ≤ f (h (k + 1))) : f r ≤ f (h (k + 1)) := by
  have n1 := H.2.2.1 k
  have n2 := H.2.2.1 (k + 1)
  have g1 := ge_nx_ge n1 hr
  have g2 := ge_nx_ge n2 hr
  by_cases h3 : 3 ≤ m
  · exact ge_lm3 H hb h3 hf a b g1 g2
  · have hm : m = 2 := by have := H.1; omega
    subst hm
    have p : h (k + 1 + 1) = h k := H.2.1 k
    rw [p] at n2 g2
    have s := ge_sw (h k) (h (k + 1)) r
    have N := n2.2.2.2 r hr
    have e := ge_seg hf (h (k + 1)) (h k) r (by omega)
    have w := ge_sqp n2.2.2.1
    have z : ge_sq (h (k + 1)) (h k) * (f (h (k + 1)) - f r) = ge_dt (h (k + 1)) (h k) r * (f (h (k + 1)) - f (h k)) := by grind
    have y := Int.mul_nonneg (show 0 ≤ ge_dt (h (k + 1)) (h k) r by omega) (show 0 ≤ f (h (k + 1)) - f (h k) by omega)
    have := ge_nn w z y
    omega

theorem ge_amax (g : Nat → Int) : ∀ m, 0 < m → ∃ k, k < m ∧ ∀ j, j < m → g j ≤ g k
  | 0, h => absurd h (by omega)
  | 1, _ => ⟨0, by omega, fun j hj => by rw [show j = 0 by omega]; exact Int.le_refl _⟩
  | m + 2, _ => by
    obtain ⟨k, hk, h⟩ := ge_amax g (m + 1) (by omega)
    by_cases c : g k ≤ g (m + 1)
    · refine ⟨m + 1, by omega, fun j hj => ?_⟩
      by_cases e : j = m + 1
      · rw [e]; exact Int.le_refl _
      · exact Int.le_trans (h j (by omega)) c
    · refine ⟨k, by omega, fun j hj => ?_⟩
      by_cases e : j = m + 1
      · rw [e]; omega
      · exact h j (by omega)

theorem ge_max {S : Int × Int → Prop} {m : Nat} {h : Nat → Int × Int} (H : ge_CH S m h) (hb : ge_bd S) {f : Int × Int → Int} (hf : ge_af f) : ∃ k, k < m ∧ ∀ r, S r → f r ≤ f (h k) := by
  have h2 := H.1
  obtain ⟨k, hk, a⟩ := ge_amax (fun k => f (h k)) m (by omega)
  have A : ∀ j, f (h j) ≤ f (h k) := fun j => by
    rw [ge_per H j]; exact a _ (Nat.mod_lt _ (by omega))
  refine ⟨k, hk, fun r hr => ?_⟩
  have e : h (k + m - 1 + 1) = h k := by rw [show k + m - 1 + 1 = k + m by omega]; exact H.2.1 k
  have x := ge_lm H hb hf (k := k + m - 1) hr (by rw [e]; exact A _) (by rw [e]; exact A _)
  rw [e] at x
  exact x

theorem ge_isv {S : Int × Int → Prop} {m : Nat} {h : Nat → Int × Int} (H : ge_CH S m h) (hb : ge_bd S) {p : Int × Int} (hp : S p) (he : ge_ex S p) : ∃ k, k < m ∧ h k = p := by
  obtain ⟨f, fa, f0, fp⟩ := he
  obtain ⟨k, hk, a⟩ := ge_max H hb (ge_af_neg fa)
  refine ⟨k, hk, ?_⟩
  by_cases c : h k = p
  · exact c
  · have x := fp _ (ge_ch_S H k) c
    have y := a p hp
    omega

theorem ge_uniq {S : Int × Int → Prop} {m m' : Nat} {h h' : Nat → Int × Int} (H : ge_CH S m h) (H' : ge_CH S m' h') (e : h 0 = h' 0) : m = m' ∧ ∀ k, h k = h' k := by
  have A : ∀ k, h k = h' k := fun k => by
    induction k with
    | zero => exact e
    | succ k ih => exact ge_nxu (H.2.2.1 k) (ih ▸ H'.2.2.1 k)
  refine ⟨?_, A⟩
  have p : h m = h 0 := by have := H.2.1 0; rwa [Nat.zero_add] at this
  have p' : h' m' = h' 0 := by have := H'.2.1 0; rwa [Nat.zero_add] at this
  have a := H.1
  have a' := H'.1
  rcases Nat.lt_trichotomy m m' with c | c | c
  · exact absurd (by rw [← A, ← A, p]) (H'.2.2.2 0 m (by omega) (by omega))
  · exact c
  · exact absurd (by rw [A, A, p']) (H.2.2.2 0 m' (by omega) (by omega))
end
section
/-! one more point: engine 5's step; from it that a hull exists -/
def ge_in (S : Int × Int → Prop) (p : Int × Int) : Int × Int → Prop := fun r => S r ∨ r = p

theorem ge_ray {q b p r : Int × Int} (hq : q ≠ b) (hp : ge_cr q b p = 0) (h0 : 0 ≤ ge_dt q b r) (h1 : ge_dt q b r ≤ ge_sq q b) (h2 : ge_sq q b < ge_dt q b p) : 0 ≤ ge_dt q p r ∧ ge_dt q p r ≤ ge_sq q p := by
  have E := ge_sqp hq
  have l := ge_lag2 q b p r
  have l2 := ge_lag q b p
  rw [hp] at l l2
  generalize ge_dt q b r = t at *
  generalize ge_dt q b p = s at *
  generalize ge_sq q b = e at *
  generalize ge_dt q p r = X at *
  generalize ge_sq q p = Y at *
  have a := Int.mul_nonneg (show 0 ≤ s by omega) h0
  have b := Int.mul_nonneg (show 0 ≤ s by omega) (show 0 ≤ s - t by omega)
  have x := ge_nn E (c := X) (X := s * t) (by omega) a
  have y := ge_nn E (c := Y - X) (X := s * (s - t)) (by grind) b
  omega

/-- p on the line of an edge q b, on b's side of q, but with some edge that sees it from outside: beyond b -/
theorem ge_beyond {S : Int × Int → Prop} {m : Nat} {h : Nat → Int × Int} (H : ge_CH S m h) {q b p : Int × Int} (hn : q ≠ b) (hq : S q) (hb : S b) (hc : ge_cr q b p = 0) (hd : 0 ≤ ge_dt q b p) (ho : ∃ j, ge_cr (h j) (h (j + 1)) p < 0) : ge_sq q b < ge_dt q b p := by
  obtain ⟨j, hj⟩ := ho
  apply Int.lt_of_not_ge
  intro z
  have e := ge_seg (ge_af_cr (h j) (h (j + 1))) q b p hc
  have x := Int.mul_nonneg (show 0 ≤ ge_sq q b - ge_dt q b p by omega) (ge_nx_ge (H.2.2.1 j) hq)
  have y := Int.mul_nonneg hd (ge_nx_ge (H.2.2.1 j) hb)
  have := ge_nn (ge_sqp hn) e (by omega)
  omega

theorem ge_inf {S : Int × Int → Prop} {m : Nat} {h : Nat → Int × Int} (H : ge_CH S m h) (hb : ge_bd S) (h3 : 3 ≤ m) {p : Int × Int} (hp : ¬ S p) {k : Nat} (s0 : 0 < ge_cr (h k) (h (k + 1)) p) (s1 : ge_cr (h (k + 1)) (h (k + 2)) p ≤ 0) (ho : ∃ j, ge_cr (h j) (h (j + 1)) p < 0) : ge_nx (ge_in S p) (h (k + 1)) p := by
  have D := ge_str H hb (i := k) (j := k + 2) (by omega) (by omega)
  have Na := H.2.2.1 k
  have Nb : ge_nx S (h (k + 1)) (h (k + 2)) := H.2.2.1 (k + 1)
  have n0 : h (k + 1) ≠ p := fun z => hp (z ▸ ge_ch_S H _)
  refine ⟨Or.inl Nb.1, Or.inr rfl, n0, fun r hr => ?_⟩
  rcases hr with hr | rfl
  · have al := ge_nx_ge Na hr
    have be := ge_nx_ge Nb hr
    have Nr := Nb.2.2.2 r hr
    have nb := Nb.2.2.1
    have Sq := Nb.1
    have Sb := Nb.2.1
    have e := ge_cone (ge_af_cr (h (k + 1)) p) (h k) (h (k + 1)) (h (k + 2)) r
    rw [ge_cr1, ge_sw2 (h (k + 1)) (h (k + 2)) p, ← ge_rot (h k) (h (k + 1)) p] at e
    simp only [Int.sub_zero] at e
    have x := Int.mul_nonneg al (show 0 ≤ - ge_cr (h (k + 1)) (h (k + 2)) p by omega)
    have y := Int.mul_nonneg be (Int.le_of_lt s0)
    have nn := ge_nn D e (by omega)
    by_cases z : ge_cr (h (k + 1)) p r = 0
    · rw [z, Int.mul_zero] at e
      have be0 : ge_cr (h (k + 1)) (h (k + 2)) r = 0 := by
        rcases Int.mul_eq_zero.mp (show ge_cr (h (k + 1)) (h (k + 2)) r * ge_cr (h k) (h (k + 1)) p = 0 by omega) with t | t <;> omega
      refine Or.inr ⟨z, ?_⟩
      rcases Int.mul_eq_zero.mp (show ge_cr (h k) (h (k + 1)) r * - ge_cr (h (k + 1)) (h (k + 2)) p = 0 by omega) with al0 | sb
      · have ex := ge_cone ge_af_x (h k) (h (k + 1)) (h (k + 2)) r
        have ey := ge_cone ge_af_y (h k) (h (k + 1)) (h (k + 2)) r
        rw [al0, be0, Int.zero_mul, Int.zero_mul] at ex ey
        have zx := ge_z D ex
        have zy := ge_z D ey
        have rq : r = h (k + 1) := Prod.ext (by omega) (by omega)
        rw [rq, ge_dt1]
        exact ⟨Int.le_refl _, ge_sqn _ _⟩
      · have hs : ge_cr (h (k + 1)) (h (k + 2)) p = 0 := by omega
        have es := ge_seg (ge_af_cr (h k) (h (k + 1))) (h (k + 1)) (h (k + 2)) p hs
        rw [ge_cr2, Int.mul_zero, Int.zero_add] at es
        have pos : 0 < ge_dt (h (k + 1)) (h (k + 2)) p := by
          have w := Int.mul_pos (ge_sqp nb) s0
          refine ge_pos D (X := ge_sq (h (k + 1)) (h (k + 2)) * ge_cr (h k) (h (k + 1)) p) ?_ w
          rw [es, Int.mul_comm]
        have out := ge_beyond H nb Sq Sb hs (by omega) ho
        exact ge_ray nb hs (by omega) (by omega) out
    · exact Or.inl (by omega)
  · exact Or.inr ⟨ge_cr2 _ _, by rw [ge_dt2]; exact ge_sqn _ _, by rw [ge_dt2]; exact Int.le_refl _⟩

theorem ge_inl {S : Int × Int → Prop} {m : Nat} {h : Nat → Int × Int} (H : ge_CH S m h) (hb : ge_bd S) (h3 : 3 ≤ m) {p : Int × Int} (hp : ¬ S p) {k : Nat} (s0 : ge_cr (h k) (h (k + 1)) p ≤ 0) (s1 : 0 < ge_cr (h (k + 1)) (h (k + 2)) p) (ho : ∃ j, ge_cr (h j) (h (j + 1)) p < 0) : ge_nx (ge_in S p) p (h (k + 1)) := by
  have D := ge_str H hb (i := k) (j := k + 2) (by omega) (by omega)
  have Na := H.2.2.1 k
  have Nb : ge_nx S (h (k + 1)) (h (k + 2)) := H.2.2.1 (k + 1)
  have n0 : p ≠ h (k + 1) := fun z => hp (z ▸ ge_ch_S H _)
  refine ⟨Or.inr rfl, Or.inl Nb.1, n0, fun r hr => ?_⟩
  rcases hr with hr | rfl
  · have al := ge_nx_ge Na hr
    have be := ge_nx_ge Nb hr
    have Nr := Na.2.2.2 r hr
    have na := Na.2.2.1
    have Sq := Na.2.1
    have Sa := Na.1
    have e := ge_cone (ge_af_cr p (h (k + 1))) (h k) (h (k + 1)) (h (k + 2)) r
    rw [ge_cr2, ge_rot p (h (k + 1)) (h (k + 2)), ge_rot p (h (k + 1)) (h k), ge_sw (h k) (h (k + 1)) p] at e
    simp only [Int.sub_zero] at e
    have x := Int.mul_nonneg be (show 0 ≤ - ge_cr (h k) (h (k + 1)) p by omega)
    have y := Int.mul_nonneg al (Int.le_of_lt s1)
    have nn := ge_nn D e (by omega)
    by_cases z : ge_cr p (h (k + 1)) r = 0
    · rw [z, Int.mul_zero] at e
      have al0 : ge_cr (h k) (h (k + 1)) r = 0 := by
        rcases Int.mul_eq_zero.mp (show ge_cr (h k) (h (k + 1)) r * ge_cr (h (k + 1)) (h (k + 2)) p = 0 by omega) with t | t <;> omega
      refine Or.inr ⟨z, ?_⟩
      have r1 := ge_dtr p (h (k + 1)) r
      have r2 := ge_sqs p (h (k + 1))
      rcases Int.mul_eq_zero.mp (show ge_cr (h (k + 1)) (h (k + 2)) r * - ge_cr (h k) (h (k + 1)) p = 0 by omega) with be0 | sb
      · have ex := ge_cone ge_af_x (h k) (h (k + 1)) (h (k + 2)) r
        have ey := ge_cone ge_af_y (h k) (h (k + 1)) (h (k + 2)) r
        rw [al0, be0, Int.zero_mul, Int.zero_mul] at ex ey
        have zx := ge_z D ex
        have zy := ge_z D ey
        have rq : r = h (k + 1) := Prod.ext (by omega) (by omega)
        rw [rq, ge_dt2]
        exact ⟨ge_sqn _ _, Int.le_refl _⟩
      · have hs : ge_cr (h (k + 1)) (h k) p = 0 := by rw [ge_sw]; omega
        have es := ge_seg (ge_af_cr (h (k + 1)) (h (k + 2))) (h (k + 1)) (h k) p hs
        rw [ge_cr1, Int.mul_zero, Int.zero_add, ← ge_rot (h k) (h (k + 1)) (h (k + 2))] at es
        have nb : h (k + 1) ≠ h k := fun z => na z.symm
        have pos : 0 < ge_dt (h (k + 1)) (h k) p := by
          have w := Int.mul_pos (ge_sqp nb) s1
          refine ge_pos D (X := ge_sq (h (k + 1)) (h k) * ge_cr (h (k + 1)) (h (k + 2)) p) ?_ w
          rw [es, Int.mul_comm]
        have out := ge_beyond H nb Sq Sa hs (by omega) ho
        have d1 := ge_dtr (h k) (h (k + 1)) r
        have d2 := ge_sqs (h k) (h (k + 1))
        have R := ge_ray nb hs (r := r) (by omega) (by omega) out
        omega
    · exact Or.inl (by omega)
  · exact Or.inr ⟨ge_cr1 _ _, by rw [ge_dt1]; exact Int.le_refl _, by rw [ge_dt1]; exact ge_sqn _ _⟩

theorem ge_inn {S : Int × Int → Prop} {m : Nat} {h : Nat → Int × Int} (H : ge_CH S m h) (hb : ge_bd S) (h3 : 3 ≤ m) {p : Int × Int} (ha : ∀ k, 0 ≤ ge_cr (h k) (h (k + 1)) p) : ge_CH (ge_in S p) m h := by
  have key : ∀ k, ge_nx (ge_in S p) (h (k + 1)) (h (k + 2)) := fun k => by
    have N : ge_nx S (h (k + 1)) (h (k + 2)) := H.2.2.1 (k + 1)
    refine ⟨Or.inl N.1, Or.inl N.2.1, N.2.2.1, fun r hr => hr.elim (N.2.2.2 r) fun er => ?_⟩
    subst er
    have a0 := ha k
    have a1 : 0 ≤ ge_cr (h (k + 1)) (h (k + 2)) r := ha (k + 1)
    have a2 : 0 ≤ ge_cr (h (k + 2)) (h (k + 3)) r := ha (k + 2)
    rcases Int.lt_or_eq_of_le a1 with c | c
    · exact Or.inl c
    · have D := ge_str H hb (i := k) (j := k + 2) (by omega) (by omega)
      have D2 : 0 < ge_cr (h (k + 2)) (h (k + 3)) (h (k + 1)) := by
        have := ge_str H hb (i := k + 2) (j := k + 1 + m) (by omega) (by omega)
        rwa [H.2.1 (k + 1)] at this
      have e1 := ge_seg (ge_af_cr (h k) (h (k + 1))) (h (k + 1)) (h (k + 2)) r c.symm
      have e2 := ge_seg (ge_af_cr (h (k + 2)) (h (k + 3))) (h (k + 1)) (h (k + 2)) r c.symm
      rw [ge_cr2, Int.mul_zero, Int.zero_add] at e1
      rw [ge_cr1, Int.mul_zero, Int.add_zero] at e2
      have w := Int.le_of_lt (ge_sqp N.2.2.1)
      have x := Int.mul_nonneg w a0
      have y := Int.mul_nonneg w a2
      have p1 := ge_nn D (c := ge_dt (h (k + 1)) (h (k + 2)) r) (by rw [Int.mul_comm, ← e1]) x
      have p2 := ge_nn D2 (c := ge_sq (h (k + 1)) (h (k + 2)) - ge_dt (h (k + 1)) (h (k + 2)) r) (by rw [Int.mul_comm, ← e2]) y
      exact Or.inr ⟨c.symm, p1, by omega⟩
  refine ⟨H.1, H.2.1, fun k => ?_, H.2.2.2⟩
  have := key (k + m - 1)
  rw [show k + m - 1 + 1 = k + m by omega, show k + m - 1 + 2 = k + 1 + m by omega, H.2.1, H.2.1] at this
  exact this

theorem ge_nxin {S : Int × Int → Prop} {a b p : Int × Int} (N : ge_nx S a b) (h : 0 < ge_cr a b p) : ge_nx (ge_in S p) a b :=
  ⟨Or.inl N.1, Or.inl N.2.1, N.2.2.1, fun r hr => hr.elim (N.2.2.2 r) fun er => Or.inl (er ▸ h)⟩

theorem ge_insA {S : Int × Int → Prop} {m : Nat} {h : Nat → Int × Int} (H : ge_CH S m h) (hb : ge_bd S) (h3 : 3 ≤ m) {p : Int × Int} (hp : ¬ S p) {d : Nat} (d1 : 1 ≤ d) (dm : d < m) (s0 : 0 < ge_cr (h 0) (h 1) p) (s1 : ∀ j, 1 ≤ j → j ≤ d → ge_cr (h j) (h (j + 1)) p ≤ 0) (s2 : 0 < ge_cr (h (d + 1)) (h (d + 2)) p) (ho : ∃ j, ge_cr (h j) (h (j + 1)) p < 0) : ge_CH (ge_in S p) (m - d + 2) (fun k => (fun k => if k ≤ m - d then h (d + 1 + k) else p) (k % (m - d + 2))) := by
  have first := ge_inf H hb h3 hp (k := 0) s0 (s1 1 (by omega) (by omega)) ho
  rw [Nat.zero_add] at first
  have last := ge_inl H hb h3 hp (k := d) (s1 d d1 (Nat.le_refl _)) s2 ho
  have cont : ∀ e, d + 1 + e ≤ m → 0 < ge_cr (h (d + 1 + e)) (h (d + 1 + e + 1)) p := fun e => by
    induction e with
    | zero => intro _; exact s2
    | succ e ih =>
      intro le
      apply Int.lt_of_not_ge
      intro z
      have f2 := ge_inf H hb h3 hp (k := d + 1 + e) (ih (by omega)) z ho
      exact H.2.2.2 1 (d + 1 + e + 1) (by omega) (by omega) (ge_nxp first f2)
  refine ge_mk (fun k => if k ≤ m - d then h (d + 1 + k) else p) (by omega) (fun k hk => ?_) ?_ (fun i j a b => ?_)
  · rw [if_pos (show k ≤ m - d by omega)]
    by_cases c : k + 1 ≤ m - d
    · rw [if_pos c]
      exact ge_nxin (H.2.2.1 (d + 1 + k)) (cont k (by omega))
    · rw [if_neg c, show d + 1 + k = 1 + m by omega, H.2.1]
      exact first
  · rw [if_neg (show ¬ m - d + 2 - 1 ≤ m - d by omega), if_pos (Nat.zero_le _)]
    exact last
  · rw [if_pos (show i ≤ m - d by omega)]
    by_cases c : j ≤ m - d
    · rw [if_pos c]
      exact H.2.2.2 _ _ (by omega) (by omega)
    · rw [if_neg c]
      exact fun z => hp (z ▸ ge_ch_S H _)

/-- two corners: all on one line, between them -/
theorem ge_two {S : Int × Int → Prop} {a b : Int × Int} (hn : a ≠ b) (ha : S a) (hb : S b) (h : ∀ r, S r → ge_cr a b r = 0 ∧ 0 ≤ ge_dt a b r ∧ ge_dt a b r ≤ ge_sq a b) : ge_CH S 2 (fun k => (fun k => if k = 0 then a else b) (k % 2)) := by
  refine ge_mk (fun k => if k = 0 then a else b) (by omega) (fun k hk => ?_) ?_ (fun i j x y => ?_)
  · have : k = 0 := by omega
    subst this
    exact ⟨ha, hb, hn, fun r hr => Or.inr (h r hr)⟩
  · refine ⟨hb, ha, fun z => hn z.symm, fun r hr => Or.inr ?_⟩
    show ge_cr b a r = 0 ∧ 0 ≤ ge_dt b a r ∧ ge_dt b a r ≤ ge_sq b a
    have := h r hr
    have e1 := ge_sw a b r
    have e2 := ge_dtr a b r
    have e3 := ge_sqs a b
    omega
  · have i0 : i = 0 := by omega
    have j1 : j = 1 := by omega
    subst i0 j1
    exact hn
theorem ge_two' {S : Int × Int → Prop} {h : Nat → Int × Int} (H : ge_CH S 2 h) {r : Int × Int} (hr : S r) : ge_cr (h 0) (h 1) r = 0 ∧ 0 ≤ ge_dt (h 0) (h 1) r ∧ ge_dt (h 0) (h 1) r ≤ ge_sq (h 0) (h 1) := by
  have p : h 2 = h 0 := H.2.1 0
  have n0 : ge_nx S (h 0) (h 1) := H.2.2.1 0
  have n1 : ge_nx S (h 1) (h 2) := H.2.2.1 1
  rw [p] at n1
  have a := ge_nx_ge n0 hr
  have b := ge_nx_ge n1 hr
  have c := ge_sw (h 0) (h 1) r
  have d := n0.2.2.2 r hr
  omega

theorem ge_ins2 {S : Int × Int → Prop} {h : Nat → Int × Int} (H : ge_CH S 2 h) {p : Int × Int} (hp : ¬ S p) (c : 0 < ge_cr (h 0) (h 1) p) : ge_CH (ge_in S p) 3 (fun k => (fun k => if k = 0 then h 0 else if k = 1 then h 1 else p) (k % 3)) := by
  have n0 : ge_nx S (h 0) (h 1) := H.2.2.1 0
  have na : h 0 ≠ p := fun z => hp (z ▸ n0.1)
  have nb : h 1 ≠ p := fun z => hp (z ▸ n0.2.1)
  have E := ge_sqp n0.2.2.1
  refine ge_mk (fun k => if k = 0 then h 0 else if k = 1 then h 1 else p) (by omega) (fun k hk => ?_) ?_ (fun i j x y => ?_)
  · by_cases k0 : k = 0
    · subst k0
      exact ge_nxin n0 c
    · have k1 : k = 1 := by omega
      subst k1
      show ge_nx (ge_in S p) (h 1) p
      refine ⟨Or.inl n0.2.1, Or.inr rfl, nb, fun r hr => ?_⟩
      rcases hr with hr | hr
      · have T := ge_two' H hr
        have e := ge_seg (ge_af_cr (h 1) p) (h 0) (h 1) r T.1
        rw [ge_cr1, Int.mul_zero, Int.add_zero, ← ge_rot (h 0) (h 1) p] at e
        by_cases s : ge_dt (h 0) (h 1) r = ge_sq (h 0) (h 1)
        · have e2 := ge_dtr (h 0) (h 1) r
          have er : r = h 1 := ge_eq0 (fun z => n0.2.2.1 z.symm) (by rw [ge_sw, T.1]; rfl) (by omega)
          rw [er]
          exact Or.inr ⟨ge_cr1 _ _, by rw [ge_dt1]; exact Int.le_refl _, by rw [ge_dt1]; exact ge_sqn _ _⟩
        · exact Or.inl (ge_pos E e (Int.mul_pos (by omega) c))
      · rw [hr]
        exact Or.inr ⟨ge_cr2 _ _, by rw [ge_dt2]; exact ge_sqn _ _, by rw [ge_dt2]; exact Int.le_refl _⟩
  · show ge_nx (ge_in S p) p (h 0)
    refine ⟨Or.inr rfl, Or.inl n0.1, fun z => na z.symm, fun r hr => ?_⟩
    rcases hr with hr | hr
    · have T := ge_two' H hr
      have e := ge_seg (ge_af_cr p (h 0)) (h 0) (h 1) r T.1
      rw [ge_cr2, Int.mul_zero, Int.zero_add, ge_rot p (h 0) (h 1)] at e
      by_cases s : ge_dt (h 0) (h 1) r = 0
      · have er : r = h 0 := ge_eq0 n0.2.2.1 T.1 s
        rw [er]
        exact Or.inr ⟨ge_cr2 _ _, by rw [ge_dt2]; exact ge_sqn _ _, by rw [ge_dt2]; exact Int.le_refl _⟩
      · exact Or.inl (ge_pos E e (Int.mul_pos (by omega) c))
    · rw [hr]
      exact Or.inr ⟨ge_cr1 _ _, by rw [ge_dt1]; exact Int.le_refl _, by rw [ge_dt1]; exact ge_sqn _ _⟩
  · rcases (show (i = 0 ∧ j = 1) ∨ (i = 0 ∧ j = 2) ∨ (i = 1 ∧ j = 2) by omega) with ⟨rfl, rfl⟩ | ⟨rfl, rfl⟩ | ⟨rfl, rfl⟩
    · exact n0.2.2.1
    · exact na
    · exact nb

/-- in line, beyond corner 1 -/
theorem ge_ins2b {S : Int × Int → Prop} {h : Nat → Int × Int} (H : ge_CH S 2 h) {p : Int × Int} (hp : ¬ S p) (c : ge_cr (h 0) (h 1) p = 0) (o : ge_sq (h 0) (h 1) < ge_dt (h 0) (h 1) p) : ge_CH (ge_in S p) 2 (fun k => (fun k => if k = 0 then h 0 else p) (k % 2)) := by
  have n0 : ge_nx S (h 0) (h 1) := H.2.2.1 0
  have na : h 0 ≠ p := fun z => hp (z ▸ n0.1)
  refine ge_two na (Or.inl n0.1) (Or.inr rfl) fun r hr => ?_
  rcases hr with hr | hr
  · have T := ge_two' H hr
    have e := ge_seg (ge_af_cr (h 0) p) (h 0) (h 1) r T.1
    rw [ge_cr1, ge_sw2 (h 0) (h 1) p, c] at e
    have z : ge_cr (h 0) p r = 0 := ge_z (ge_sqp n0.2.2.1) (by rw [e]; simp)
    exact ⟨z, ge_ray n0.2.2.1 c T.2.1 T.2.2 o⟩
  · rw [hr]
    exact ⟨ge_cr2 _ _, by rw [ge_dt2]; exact ge_sqn _ _, by rw [ge_dt2]; exact Int.le_refl _⟩
/-- in line, beyond corner 0 -/
theorem ge_ins2a {S : Int × Int → Prop} {h : Nat → Int × Int} (H : ge_CH S 2 h) {p : Int × Int} (hp : ¬ S p) (c : ge_cr (h 0) (h 1) p = 0) (o : ge_dt (h 0) (h 1) p < 0) : ge_CH (ge_in S p) 2 (fun k => (fun k => if k = 0 then p else h 1) (k % 2)) := by
  have n0 : ge_nx S (h 0) (h 1) := H.2.2.1 0
  have nb : h 1 ≠ p := fun z => hp (z ▸ n0.2.1)
  have n1 : h 1 ≠ h 0 := fun z => n0.2.2.1 z.symm
  have c' : ge_cr (h 1) (h 0) p = 0 := by rw [ge_sw, c]; rfl
  have o' := ge_dtr (h 0) (h 1) p
  have q := ge_sqs (h 0) (h 1)
  refine ge_two (fun z => nb z.symm) (Or.inr rfl) (Or.inl n0.2.1) fun r hr => ?_
  rcases hr with hr | hr
  · have T := ge_two' H hr
    have T' := ge_dtr (h 0) (h 1) r
    have c2 : ge_cr (h 1) (h 0) r = 0 := by rw [ge_sw, T.1]; rfl
    have e := ge_seg (ge_af_cr (h 1) p) (h 1) (h 0) r c2
    rw [ge_cr1, ge_sw2 (h 1) (h 0) p, c'] at e
    have z : ge_cr (h 1) p r = 0 := ge_z (ge_sqp n1) (by rw [e]; simp)
    have R := ge_ray n1 c' (r := r) (by omega) (by omega) (by omega)
    have z2 := ge_sw (h 1) p r
    have z3 := ge_dtr (h 1) p r
    have z4 := ge_sqs (h 1) p
    exact ⟨by omega, by omega, by omega⟩
  · rw [hr]
    exact ⟨ge_cr1 _ _, by rw [ge_dt1]; exact Int.le_refl _, by rw [ge_dt1]; exact ge_sqn _ _⟩
/-- in line, between -/
theorem ge_ins2i {S : Int × Int → Prop} {h : Nat → Int × Int} (H : ge_CH S 2 h) {p : Int × Int} (c : ge_cr (h 0) (h 1) p = 0) (o : 0 ≤ ge_dt (h 0) (h 1) p) (o2 : ge_dt (h 0) (h 1) p ≤ ge_sq (h 0) (h 1)) : ge_CH (ge_in S p) 2 (fun k => (fun k => if k = 0 then h 0 else h 1) (k % 2)) := by
  have n0 : ge_nx S (h 0) (h 1) := H.2.2.1 0
  refine ge_two n0.2.2.1 (Or.inl n0.1) (Or.inl n0.2.1) fun r hr => ?_
  rcases hr with hr | hr
  · exact ge_two' H hr
  · rw [hr]; exact ⟨c, o, o2⟩

/-- some edge has p strictly on its left -/
theorem ge_left {S : Int × Int → Prop} {m : Nat} {h : Nat → Int × Int} (H : ge_CH S m h) (hb : ge_bd S) (h3 : 3 ≤ m) (p : Int × Int) : ∃ i, i < m ∧ 0 < ge_cr (h i) (h (i + 1)) p := by
  apply Classical.byContradiction
  intro no
  have le : ∀ i, ge_cr (h i) (h (i + 1)) p ≤ 0 := fun i => by
    apply Int.le_of_not_gt
    intro z
    refine no ⟨i % m, Nat.mod_lt _ (by omega), ?_⟩
    have e1 := ge_per H i
    have e2 : h (i + 1) = h (i % m + 1) := by
      rcases ge_mod1 (show 0 < m by omega) i with ⟨c, e⟩ | ⟨c, e⟩
      · rw [ge_per H (i + 1), e]
      · rw [ge_per H (i + 1), e, c, show m - 1 + 1 = 0 + m by omega, H.2.1]
    rw [← e1, ← e2]
    exact z
  obtain ⟨T, hT⟩ : ∃ T : Nat → Int, ∀ k, T k = (h k).1 * (p.2 - (h 0).2) - (h k).2 * (p.1 - (h 0).1) := ⟨_, fun _ => rfl⟩
  have step : ∀ k, T (k + 1) = T k + ge_cr (h k) (h (k + 1)) p - ge_cr (h k) (h (k + 1)) (h 0) := fun k => by
    rw [hT, hT]; unfold ge_cr; grind
  have ge0 : ∀ k, 0 ≤ ge_cr (h k) (h (k + 1)) (h 0) := fun k => ge_nx_ge (H.2.2.1 k) (ge_ch_S H 0)
  have mon : ∀ d, T (d + 2) < T 0 := fun d => by
    induction d with
    | zero =>
      have a : T 1 = T 0 + ge_cr (h 0) (h 1) p - ge_cr (h 0) (h 1) (h 0) := step 0
      have b : T 2 = T 1 + ge_cr (h 1) (h 2) p - ge_cr (h 1) (h 2) (h 0) := step 1
      have c : 0 < ge_cr (h 1) (h 2) (h 0) := by
        have := ge_str H hb (i := 1) (j := 0 + m) (by omega) (by omega)
        rwa [H.2.1] at this
      have l0 : ge_cr (h 0) (h 1) p ≤ 0 := le 0
      have l1 : ge_cr (h 1) (h 2) p ≤ 0 := le 1
      have g0 : 0 ≤ ge_cr (h 0) (h 1) (h 0) := ge0 0
      show T 2 < _
      omega
    | succ d ih =>
      have a := step (d + 2)
      have l0 := le (d + 2)
      have g0 := ge0 (d + 2)
      show T (d + 2 + 1) < _
      omega
  have z := mon (m - 2)
  rw [show m - 2 + 2 = 0 + m by omega, hT, hT, H.2.1] at z
  omega

theorem ge_sper {S : Int × Int → Prop} {m : Nat} {h : Nat → Int × Int} (H : ge_CH S m h) (p : Int × Int) (k : Nat) : ge_cr (h (k + m)) (h (k + m + 1)) p = ge_cr (h k) (h (k + 1)) p := by
  rw [show k + m + 1 = k + 1 + m by omega, H.2.1, H.2.1]

/-- the least number from i on that has P -/
theorem ge_least (P : Nat → Prop) (i : Nat) : ∀ d, P (i + d) → ∃ j, i ≤ j ∧ j ≤ i + d ∧ P j ∧ ∀ k, i ≤ k → k < j → ¬ P k := by
  intro d hd
  have : ∃ e, P (i + e) := ⟨d, hd⟩
  obtain ⟨e, he, mn⟩ := pk_least (fun e => P (i + e)) this
  refine ⟨i + e, by omega, ?_, he, fun k a b z => mn (k - i) (by omega) (by rw [show i + (k - i) = k by omega]; exact z)⟩
  apply Nat.le_of_not_lt
  intro z
  exact mn d (by omega) hd

theorem ge_insE {S : Int × Int → Prop} {m : Nat} {h : Nat → Int × Int} (H : ge_CH S m h) (hb : ge_bd S) {p : Int × Int} (hp : ¬ S p) : ∃ m' h', ge_CH (ge_in S p) m' h' := by
  by_cases h3 : 3 ≤ m
  · by_cases al : ∀ k, 0 ≤ ge_cr (h k) (h (k + 1)) p
    · exact ⟨_, _, ge_inn H hb h3 al⟩
    · have ⟨j0, hj0⟩ := Classical.not_forall.mp al
      obtain ⟨i, hi, ip⟩ := ge_left H hb h3 p
      have P : ∀ q k, ge_cr (h (k + m * q)) (h (k + m * q + 1)) p = ge_cr (h k) (h (k + 1)) p := fun q => by
        induction q with
        | zero => intro k; rfl
        | succ q ih => intro k; rw [Nat.mul_succ, ← Nat.add_assoc, ge_sper H]; exact ih k
      have big : i ≤ j0 + m * (i + 1) := by
        have := Nat.mul_le_mul (show 1 ≤ m by omega) (Nat.le_refl (i + 1)); omega
      obtain ⟨f, f1, f2, f3, f4⟩ := ge_least (fun k => ge_cr (h k) (h (k + 1)) p ≤ 0) i (j0 + m * (i + 1) - i) (by
        rw [show i + (j0 + m * (i + 1) - i) = j0 + m * (i + 1) by omega, P]; omega)
      have fi : i ≠ f := fun z => by subst z; omega
      have s0 : 0 < ge_cr (h (f - 1)) (h (f - 1 + 1)) p := by
        have := f4 (f - 1) (by omega) (by omega); omega
      have sm := ge_sper H p (f - 1)
      obtain ⟨l, l1, l2, l3, l4⟩ := ge_least (fun k => 0 < ge_cr (h k) (h (k + 1)) p) f (m - 1) (by
        rw [show f + (m - 1) = f - 1 + m by omega, sm]; exact s0)
      have lf : l ≠ f := fun z => by subst z; omega
      have R := ge_insA (ge_ch_sh H (f - 1)) hb h3 hp (d := l - f) (by omega) (by omega)
        (by show 0 < ge_cr (h (0 + (f - 1))) (h (1 + (f - 1))) p
            rw [show 0 + (f - 1) = f - 1 by omega, show 1 + (f - 1) = f - 1 + 1 by omega]; exact s0)
        (fun j a b => by
          show ge_cr (h (j + (f - 1))) (h (j + 1 + (f - 1))) p ≤ 0
          have := l4 (j + (f - 1)) (by omega) (by omega)
          rw [show j + 1 + (f - 1) = j + (f - 1) + 1 by omega]; omega)
        (by show 0 < ge_cr (h (l - f + 1 + (f - 1))) (h (l - f + 2 + (f - 1))) p
            rw [show l - f + 1 + (f - 1) = l by omega, show l - f + 2 + (f - 1) = l + 1 by omega]; exact l3)
        ⟨j0 + m * (f + 1) - (f - 1), by
          have := Nat.mul_le_mul (show 1 ≤ m by omega) (Nat.le_refl (f + 1))
          show ge_cr (h (j0 + m * (f + 1) - (f - 1) + (f - 1))) (h (j0 + m * (f + 1) - (f - 1) + 1 + (f - 1))) p < 0
          rw [show j0 + m * (f + 1) - (f - 1) + (f - 1) = j0 + m * (f + 1) by omega, show j0 + m * (f + 1) - (f - 1) + 1 + (f - 1) = j0 + m * (f + 1) + 1 by omega, P]
          omega⟩
      exact ⟨_, _, R⟩
  · have hm : m = 2 := by have := H.1; omega
    subst hm
    rcases Int.lt_trichotomy (ge_cr (h 0) (h 1) p) 0 with c | c | c
    · have H' := ge_ch_sh H 1
      have p2 : h 2 = h 0 := H.2.1 0
      refine ⟨_, _, ge_ins2 H' hp ?_⟩
      show 0 < ge_cr (h 1) (h 2) p
      rw [p2, ge_sw]; omega
    · by_cases o : ge_dt (h 0) (h 1) p < 0
      · exact ⟨_, _, ge_ins2a H hp c o⟩
      · by_cases o2 : ge_sq (h 0) (h 1) < ge_dt (h 0) (h 1) p
        · exact ⟨_, _, ge_ins2b H hp c o2⟩
        · exact ⟨_, _, ge_ins2i H c (by omega) (by omega)⟩
    · exact ⟨_, _, ge_ins2 H hp c⟩

def ge_St (P : Nat → Int × Int) (n : Nat) : Int × Int → Prop := fun r => ∃ i, i < n ∧ P i = r
theorem ge_St_s (P : Nat → Int × Int) (n : Nat) : ge_St P (n + 1) = ge_in (ge_St P n) (P n) := by
  funext r
  apply propext
  constructor
  · rintro ⟨i, hi, e⟩
    by_cases c : i = n
    · subst c; exact Or.inr e.symm
    · exact Or.inl ⟨i, by omega, e⟩
  · rintro (⟨i, hi, e⟩ | e)
    · exact ⟨i, by omega, e⟩
    · exact ⟨n, by omega, e.symm⟩
theorem ge_hull {P : Nat → Int × Int} : ∀ {n : Nat}, ge_bd (ge_St P (n + 2)) → (∀ i j, i < j → j < n + 2 → P i ≠ P j) → ∃ m h, ge_CH (ge_St P (n + 2)) m h
  | 0, hb, hi => by
    refine ⟨_, _, ge_two (hi 0 1 (by omega) (by omega)) ⟨0, by omega, rfl⟩ ⟨1, by omega, rfl⟩ fun r hr => ?_⟩
    obtain ⟨i, hi, rfl⟩ := hr
    rcases (show i = 0 ∨ i = 1 by omega) with rfl | rfl
    · exact ⟨ge_cr1 _ _, by rw [ge_dt1]; exact Int.le_refl _, by rw [ge_dt1]; exact ge_sqn _ _⟩
    · exact ⟨ge_cr2 _ _, by rw [ge_dt2]; exact ge_sqn _ _, by rw [ge_dt2]; exact Int.le_refl _⟩
  | n + 1, hb, hi => by
    have hb' : ge_bd (ge_St P (n + 2)) := fun r ⟨i, a, e⟩ => hb r ⟨i, by omega, e⟩
    obtain ⟨m, h, H⟩ := ge_hull (n := n) hb' (fun i j a b => hi i j a (by omega))
    rw [show n + 1 + 2 = n + 2 + 1 by omega, ge_St_s]
    exact ge_insE H hb' (fun ⟨i, a, e⟩ => hi i (n + 2) a (by omega) e)
end
section
/-! numbers: wk_i z is the int of z -/
def wk_i (z : Int) : Int32 := Int32.ofInt z
theorem wk_add (a b : Int) : wk_i a + wk_i b = wk_i (a + b) := (Int32.ofInt_add a b).symm
theorem wk_sub (a b : Int) : wk_i a - wk_i b = wk_i (a - b) := (Int32.ofInt_sub a b).symm
theorem wk_mul (a b : Int) : wk_i a * wk_i b = wk_i (a * b) := (Int32.ofInt_mul a b).symm
theorem wk_neg (a : Int) : -wk_i a = wk_i (-a) := (Int32.ofInt_neg a).symm
theorem wk_n (n : Nat) : nI n = wk_i n := Int32.ofInt_eq_ofNat.symm
theorem wk_toInt {z : Int} (h1 : -1000000000 ≤ z) (h2 : z ≤ 1000000000) : (wk_i z).toInt = z :=
  Int32.toInt_ofInt_of_le (by omega) (by omega)
theorem wk_lt {a b : Int} (h1 : -1000000000 ≤ a) (h2 : a ≤ 1000000000) (h3 : -1000000000 ≤ b) (h4 : b ≤ 1000000000) : wk_i a < wk_i b ↔ a < b := by
  rw [Int32.lt_iff_toInt_lt, wk_toInt h1 h2, wk_toInt h3 h4]
theorem wk_le {a b : Int} (h1 : -1000000000 ≤ a) (h2 : a ≤ 1000000000) (h3 : -1000000000 ≤ b) (h4 : b ≤ 1000000000) : wk_i a ≤ wk_i b ↔ a ≤ b := by
  rw [Int32.le_iff_toInt_le, wk_toInt h1 h2, wk_toInt h3 h4]
theorem wk_eq {a b : Int} (h1 : -1000000000 ≤ a) (h2 : a ≤ 1000000000) (h3 : -1000000000 ≤ b) (h4 : b ≤ 1000000000) : wk_i a = wk_i b ↔ a = b := by
  rw [← Int32.toInt_inj, wk_toInt h1 h2, wk_toInt h3 h4]
theorem wk_0 : wk_i 0 = 0 := rfl
theorem wk_1 : wk_i 1 = 1 := rfl
/-- branches over ints -/
theorem wk_blt {x y : Int32} {A B : Prop} (a b : Int) (f : a < b → A) (g : b ≤ a → B) (hx : x = wk_i a := by rfl) (hy : y = wk_i b := by rfl) (h1 : -1000000000 ≤ a := by omega) (h2 : a ≤ 1000000000 := by omega) (h3 : -1000000000 ≤ b := by omega) (h4 : b ≤ 1000000000 := by omega) : (x < y → A) ∧ (¬ x < y → B) := by
  subst hx hy
  rw [wk_lt h1 h2 h3 h4]
  exact ⟨f, fun z => g (by omega)⟩
theorem wk_ble {x y : Int32} {A B : Prop} (a b : Int) (f : a ≤ b → A) (g : b < a → B) (hx : x = wk_i a := by rfl) (hy : y = wk_i b := by rfl) (h1 : -1000000000 ≤ a := by omega) (h2 : a ≤ 1000000000 := by omega) (h3 : -1000000000 ≤ b := by omega) (h4 : b ≤ 1000000000 := by omega) : (x ≤ y → A) ∧ (¬ x ≤ y → B) := by
  subst hx hy
  rw [wk_le h1 h2 h3 h4]
  exact ⟨f, fun z => g (by omega)⟩
theorem wk_beq {x y : Int32} {A B : Prop} (a b : Int) (f : a = b → A) (g : a ≠ b → B) (hx : x = wk_i a := by rfl) (hy : y = wk_i b := by rfl) (h1 : -1000000000 ≤ a := by omega) (h2 : a ≤ 1000000000 := by omega) (h3 : -1000000000 ≤ b := by omega) (h4 : b ≤ 1000000000 := by omega) : (x = y → A) ∧ (¬ x = y → B) := by
  subst hx hy
  rw [wk_eq h1 h2 h3 h4]
  exact ⟨f, g⟩
/-- a byte, a short -/
theorem wk_i8 {z : Int} (h1 : -128 ≤ z) (h2 : z < 128) : (wk_i z).toInt8.toInt32 = wk_i z :=
  lg_i2b_small (by rw [wk_toInt (by omega) (by omega)]; omega) (by rw [wk_toInt (by omega) (by omega)]; omega)
theorem wk_nb {z : Int} (h1 : -128 ≤ z) (h2 : z < 128) : vp_nar .byte (wk_i z) = wk_i z := by
  rw [vp_nar_byte, wk_i8 h1 h2]
theorem wk_nb8 {z : Int} (h1 : -128 ≤ z) (h2 : z < 128) : vp_nar .byte (wk_i z).toInt8.toInt32 = wk_i z := by
  rw [wk_i8 h1 h2, wk_nb h1 h2]
theorem wk_bn {n : Nat} (h : n < 128) : vp_nar .byte (nI n).toInt8.toInt32 = nI n := by
  rw [wk_n, wk_nb8 (by omega) (by omega)]
theorem wk_bn' {n : Nat} (h : n < 128) : vp_nar .byte (nI n) = nI n := by
  rw [wk_n, wk_nb (by omega) (by omega)]
theorem wk_bm : vp_nar .byte (-1) = -1 := by rw [vp_nar_byte]; decide
theorem wk_ns {n : Nat} (h : n < 32768) : vp_nar .short (nI n).toInt16.toInt32 = nI n := by
  have e : (nI n).toInt16.toInt32 = nI n := by
    rw [wk_n]
    exact lg_i2s_small (by rw [wk_toInt (by omega) (by omega)]; omega) (by rw [wk_toInt (by omega) (by omega)]; omega)
  rw [e, vp_nar_short, e]
theorem wk_f0 : vp_nar .boolean 0 = 0 := rfl
theorem wk_f1 : vp_nar .boolean 1 = 1 := rfl
theorem wk_64 : ¬ (64 : Int32) = 0 := by decide
theorem wk_24 : ¬ (24 : Int32) = 0 := by decide
theorem wk_2 : ¬ (2 : Int32) = 0 := by decide
theorem wk_ne0 {n : Nat} (h : 0 < n) (h2 : n < 2 ^ 31) : ¬ nI n = 0 := nI_ne0 h h2
/-- a place's two numbers -/
theorem wk_d64 {v : Nat} (h : v < 2 ^ 31) : nI v / 64 = nI (v / 64) := pk_div (d := 64) h (by omega) (by omega)
theorem wk_r64 {v : Nat} (h : v < 2 ^ 31) : nI v - nI v / 64 * 64 = nI (v % 64) := pk_rem (d := 64) h (by omega) (by omega)
theorem wk_d24 {v : Nat} (h : v < 2 ^ 31) : nI v / 24 = nI (v / 24) := pk_div (d := 24) h (by omega) (by omega)
theorem wk_r24 {v : Nat} (h : v < 2 ^ 31) : nI v - nI v / 24 * 24 = nI (v % 24) := pk_rem (d := 24) h (by omega) (by omega)
def wk_pt (v : Nat) : Int × Int := (((v % 64 : Nat) : Int), ((v / 64 : Nat) : Int))
theorem wk_pt_inj {v w : Nat} (h : wk_pt v = wk_pt w) : v = w := by
  unfold wk_pt at h
  have h1 := congrArg Prod.fst h
  have h2 := congrArg Prod.snd h
  dsimp only at h1 h2
  omega
theorem wk_pt_b {v : Nat} (h : v < 4096) : 0 ≤ (wk_pt v).1 ∧ (wk_pt v).1 ≤ 63 ∧ 0 ≤ (wk_pt v).2 ∧ (wk_pt v).2 ≤ 63 := by
  unfold wk_pt; dsimp only; omega
end
section
/-! the component's small readers -/
def wk_XP (n : Nat) (P : Nat → Int × Int) (ax ay : Nat → Int32) : Prop :=
  n ≤ 24 ∧ ∀ i, i < n → ax i = wk_i (P i).1 ∧ ay i = wk_i (P i).2 ∧ 0 ≤ (P i).1 ∧ (P i).1 ≤ 63 ∧ 0 ≤ (P i).2 ∧ (P i).2 ≤ 63
theorem wk_XPb {n : Nat} {P : Nat → Int × Int} {ax ay : Nat → Int32} (X : wk_XP n P ax ay) : ge_bd (ge_St P n) := by
  rintro r ⟨i, hi, rfl⟩
  exact (X.2 i hi).2.2
/-! bits -/
theorem wk_bt1 : ∀ i, i < 32 → bt 1 i = decide (i = 0) := by decide
theorem wk_low (y : Int32) : (y &&& 1) = 0 ↔ bt y 0 = false := by
  constructor
  · intro h
    have := congrArg (fun x => bt x 0) h
    rw [b_and, b_0, wk_bt1 0 (by omega)] at this
    simpa using this
  · intro h
    apply b_ext
    intro i hi
    rw [b_and, b_0, wk_bt1 i hi]
    by_cases c : i = 0
    · subst c; rw [h]; rfl
    · simp [c]
theorem wk_bit (x : Int32) {k : Nat} (hk : k < 32) : ((x >>> (nI k &&& 31)) &&& 1) = 0 ↔ bt x k = false := by
  rw [wk_low, b_sshr k hk x (by omega), if_pos (show k + 0 < 32 by omega)]
  rfl
theorem wk_one {k : Nat} (hk : k < 32) {i : Nat} (hi : i < 32) : bt ((1 : Int32) <<< (nI k &&& 31)) i = decide (i = k) := by
  rw [b_shl k hk 1 hi, wk_bt1 _ (by omega)]
  by_cases c : k ≤ i
  · simp only [c, decide_true, Bool.true_and]
    congr 1
    apply propext
    omega
  · have : i ≠ k := by omega
    simp [c, this]
theorem wk_seto (x : Int32) {k : Nat} (hk : k < 32) {i : Nat} (hi : i < 32) : bt (x ||| ((1 : Int32) <<< (nI k &&& 31))) i = (bt x i || decide (i = k)) := by
  rw [b_or, wk_one hk hi]
theorem wk_clr (x : Int32) {k : Nat} (hk : k < 32) {i : Nat} (hi : i < 32) : bt (x &&& (((1 : Int32) <<< (nI k &&& 31)) ^^^ (-1))) i = (bt x i && !decide (i = k)) := by
  rw [b_and, b_xor, wk_one hk hi, b_m1 i hi, Bool.xor_true]
theorem wk_off (x y : Int32) {i : Nat} (hi : i < 32) : bt (x &&& (y ^^^ (-1))) i = (bt x i && !bt y i) := by
  rw [b_and, b_xor, b_m1 i hi, Bool.xor_true]
/-- a branch on a bit -/
theorem wk_bbit {x : Int32} {A B : Prop} {k : Nat} (hk : k < 32) (f : bt x k = false → A) (g : bt x k = true → B) : (((x >>> (nI k &&& 31)) &&& 1) = 0 → A) ∧ (¬ ((x >>> (nI k &&& 31)) &&& 1) = 0 → B) := by
  rw [wk_bit x hk]
  exact ⟨f, fun z => g (by simpa using z)⟩
section
variable {f_present f_count f_size f_keptSize f_waiting : Int32} {a_placeOf a_x a_y a_hull a_kept a_found a_order a_waitA a_waitB a_nextLow a_beforeLow a_nextHigh a_beforeHigh : Nat → Int32} {n : Nat} {P : Nat → Int × Int}
theorem wx_turn (X : wk_XP n P a_x a_y) {i j k : Nat} (hi : i < n) (hj : j < n) (hk : k < n) {post : Int32 → Prop} (h : post (wk_i (ge_cr (P i) (P j) (P k)))) : wpX_turn post (f_present, f_count, f_size, f_keptSize, f_waiting, a_placeOf, a_x, a_y, a_hull, a_kept, a_found, a_order, a_waitA, a_waitB, a_nextLow, a_beforeLow, a_nextHigh, a_beforeHigh) (nI i) (nI j) (nI k) := by
  have hn := X.1
  have vi := vp_in_nI (N := 24) (show i < 24 by omega) (by omega)
  have vj := vp_in_nI (N := 24) (show j < 24 by omega) (by omega)
  have vk := vp_in_nI (N := 24) (show k < 24 by omega) (by omega)
  unfold wpX_turn
  dsimp only
  refine ⟨vj, vi, vk, vi, nm_e ⟨vj, vi, vk, vi, ?_⟩⟩
  rw [nI_clamp (show i < 2 ^ 31 by omega), nI_clamp (show j < 2 ^ 31 by omega), nI_clamp (show k < 2 ^ 31 by omega), (X.2 i hi).1, (X.2 i hi).2.1, (X.2 j hj).1, (X.2 j hj).2.1, (X.2 k hk).1, (X.2 k hk).2.1]
  simp only [wk_sub, wk_mul]
  exact h
theorem wx_square (X : wk_XP n P a_x a_y) {i j : Nat} (hi : i < n) (hj : j < n) {post : Int32 → Prop} (h : post (wk_i (ge_sq (P i) (P j)))) : wpX_square post (f_present, f_count, f_size, f_keptSize, f_waiting, a_placeOf, a_x, a_y, a_hull, a_kept, a_found, a_order, a_waitA, a_waitB, a_nextLow, a_beforeLow, a_nextHigh, a_beforeHigh) (nI i) (nI j) := by
  have hn := X.1
  have vi := vp_in_nI (N := 24) (show i < 24 by omega) (by omega)
  have vj := vp_in_nI (N := 24) (show j < 24 by omega) (by omega)
  unfold wpX_square
  dsimp only
  refine ⟨vi, vj, nm_e ⟨vi, vj, nm_e ?_⟩⟩
  rw [nI_clamp (show i < 2 ^ 31 by omega), nI_clamp (show j < 2 ^ 31 by omega), (X.2 i hi).1, (X.2 i hi).2.1, (X.2 j hj).1, (X.2 j hj).2.1]
  simp only [wk_sub, wk_mul, wk_add]
  exact h
theorem wx_addCorner {s i : Nat} (hs : s < 48) (hi : i < 128) {post : SX → Prop} (h : post (f_present, f_count, nI (s + 1), f_keptSize, f_waiting, a_placeOf, a_x, a_y, upd a_hull s (nI i), a_kept, a_found, a_order, a_waitA, a_waitB, a_nextLow, a_beforeLow, a_nextHigh, a_beforeHigh)) : wpX_addCorner post (f_present, f_count, nI s, f_keptSize, f_waiting, a_placeOf, a_x, a_y, a_hull, a_kept, a_found, a_order, a_waitA, a_waitB, a_nextLow, a_beforeLow, a_nextHigh, a_beforeHigh) (nI i) := by
  unfold wpX_addCorner
  dsimp only
  refine ⟨vp_in_nI hs (by omega), nm_e (nm_e ?_)⟩
  rw [nI_clamp (by omega), wk_bn hi, nI_1]
  exact h
theorem wx_has {k : Nat} {post : Int32 → Prop} (hk : k < 24) (h0 : bt f_present k = false → post 0) (h1 : bt f_present k = true → post 1) : wpX_has post (f_present, f_count, f_size, f_keptSize, f_waiting, a_placeOf, a_x, a_y, a_hull, a_kept, a_found, a_order, a_waitA, a_waitB, a_nextLow, a_beforeLow, a_nextHigh, a_beforeHigh) (nI k) := by
  unfold wpX_has
  dsimp only
  exact br_f (nI_pos (by omega)) (br_f (nI_ge (b := 24) hk (by omega)) (wk_bbit (by omega) h0 h1))
theorem wx_hasn {x : Int32} {post : Int32 → Prop} (hx : x < 0 ∨ nI 24 ≤ x) (h0 : post 0) : wpX_has post (f_present, f_count, f_size, f_keptSize, f_waiting, a_placeOf, a_x, a_y, a_hull, a_kept, a_found, a_order, a_waitA, a_waitB, a_nextLow, a_beforeLow, a_nextHigh, a_beforeHigh) x := by
  unfold wpX_has
  dsimp only
  refine br_c (fun _ => h0) (fun c => br_t ?_ h0)
  rcases hx with hx | hx
  · exact absurd hx c
  · exact hx
end
theorem wx_isPlace {v : Nat} {post : Int32 → Prop} (h : v < 4096) (h1 : post 1) : wpX_isPlace post (nI v) :=
  br_f (nI_pos (by omega)) (br_f (nI_ge (b := 4096) h (by omega)) h1)
theorem wx_isPlacen {x : Int32} {post : Int32 → Prop} (hx : x < 0 ∨ nI 4096 ≤ x) (h0 : post 0) : wpX_isPlace post x :=
  br_c (fun _ => h0) (fun c => br_t (hx.resolve_left c) h0)
theorem wx_isEngine {v : Nat} {post : Int32 → Prop} (h : v < 6) (h1 : post 1) : wpX_isEngine post (nI v) :=
  br_f (nI_pos (by omega)) (br_f (nI_ge (b := 6) h (by omega)) h1)
theorem wx_isEnginen {x : Int32} {post : Int32 → Prop} (hx : x < 0 ∨ nI 6 ≤ x) (h0 : post 0) : wpX_isEngine post x :=
  br_c (fun _ => h0) (fun c => br_t (hx.resolve_left c) h0)
end
section
/-! the hull of the places at work, by their numbers; engine 0 -/
def ge_key (p : Int × Int) : Int := 64 * p.1 + p.2
def hu_Q (n : Nat) (P : Nat → Int × Int) (m : Nat) (q : Nat → Nat) : Prop :=
  (∀ i j, i < j → j < n → ge_key (P i) < ge_key (P j)) ∧ (∀ k, q k < n) ∧ q 0 = 0 ∧ ge_CH (ge_St P n) m (fun k => P (q k))
theorem hu_inj {n : Nat} {P : Nat → Int × Int} {m : Nat} {q : Nat → Nat} (Q : hu_Q n P m q) {i j : Nat} (hi : i < n) (hj : j < n) (e : P i = P j) : i = j := by
  rcases Nat.lt_trichotomy i j with c | c | c
  · have := Q.1 i j c hj; rw [e] at this; omega
  · exact c
  · have := Q.1 j i c hi; rw [e] at this; omega
theorem hu_per {n : Nat} {P : Nat → Int × Int} {m : Nat} {q : Nat → Nat} (Q : hu_Q n P m q) (k : Nat) : q (k + m) = q k :=
  hu_inj Q (Q.2.1 _) (Q.2.1 _) (Q.2.2.2.2.1 k)
theorem hu_ne {n : Nat} {P : Nat → Int × Int} {m : Nat} {q : Nat → Nat} (Q : hu_Q n P m q) {i j : Nat} (a : i < j) (b : j < i + m) : q i ≠ q j :=
  fun e => Q.2.2.2.2.2.2 i j a b (congrArg P e)
theorem hu_nx {n : Nat} {P : Nat → Int × Int} {m : Nat} {q : Nat → Nat} (Q : hu_Q n P m q) (k : Nat) : ge_nx (ge_St P n) (P (q k)) (P (q (k + 1))) := Q.2.2.2.2.2.1 k
theorem hu_m {n : Nat} {P : Nat → Int × Int} {m : Nat} {q : Nat → Nat} (Q : hu_Q n P m q) : 2 ≤ m := Q.2.2.2.1
/-- as many corners as places at most -/
theorem hu_inj_le : ∀ (m n : Nat) (q : Nat → Nat), (∀ k, k < m → q k < n) → (∀ i j, i < j → j < m → q i ≠ q j) → m ≤ n
  | 0, _, _, _, _ => by omega
  | m + 1, 0, q, h, _ => absurd (h 0 (by omega)) (by omega)
  | m + 1, n + 1, q, h, hi => by
    have := hu_inj_le m n (fun k => if q k = n then q m else q k) (fun k hk => by
        have a := h k (by omega)
        have b := h m (by omega)
        have c := hi k m (by omega) (by omega)
        split <;> omega)
      (fun i j a b => by
        have x := hi i j a (by omega)
        have y := hi i m (by omega) (by omega)
        have z := hi j m (by omega) (by omega)
        split <;> split <;> omega)
    omega
theorem hu_mn {n : Nat} {P : Nat → Int × Int} {m : Nat} {q : Nat → Nat} (Q : hu_Q n P m q) : m ≤ n :=
  hu_inj_le m n q (fun k _ => Q.2.1 k) (fun i j a b => hu_ne Q a (by omega))
theorem ge_segle {a b r : Int × Int} (hn : a ≠ b) (hc : ge_cr a b r = 0) (h0 : 0 ≤ ge_dt a b r) (h1 : ge_dt a b r ≤ ge_sq a b) : ge_sq a r ≤ ge_sq a b ∧ (r ≠ b → ge_sq a r < ge_sq a b) := by
  have E := ge_sqp hn
  have L := ge_lag a b r
  have D := ge_sqd a b r
  rw [hc] at L
  have x := Int.mul_nonneg h0 (show 0 ≤ ge_sq a b - ge_dt a b r by omega)
  have e : ge_sq a b * (ge_dt a b r - ge_sq a r) = ge_dt a b r * (ge_sq a b - ge_dt a b r) := by grind
  have y := ge_nn E e x
  refine ⟨by omega, fun z => ?_⟩
  have : ge_sq b r ≠ 0 := fun w => z (ge_sqz w).symm
  have := ge_sqn b r
  omega

def wk_G (f_present f_count : Int32) (a_placeOf a_x a_y a_found : Nat → Int32) (m : Nat) (q : Nat → Nat) (u : SX) : Prop :=
  match u with
  | (g_present, g_count, g_size, _, _, b_placeOf, b_x, b_y, b_hull, _, b_found, _, _, _, _, _, _, _) => g_present = f_present ∧ g_count = f_count ∧ g_size = nI m ∧ b_placeOf = a_placeOf ∧ b_x = a_x ∧ b_y = a_y ∧ b_found = a_found ∧ ∀ k, k < m → b_hull k = nI (q k)

section
variable {f_present f_count f_size f_keptSize f_waiting : Int32} {a_placeOf a_x a_y a_hull a_kept a_found a_order a_waitA a_waitB a_nextLow a_beforeLow a_nextHigh a_beforeHigh : Nat → Int32} {n : Nat} {P : Nat → Int × Int} {m : Nat} {q : Nat → Nat}
theorem e0_in (X : wk_XP n P a_x a_y) (Q : hu_Q n P m q) (k : Nat) {post : SX → Prop} {J4 : Int32 → Int32 → Int32 → Int32 → Int32 → Int32 → Int32 → (Nat → Int32) → (Nat → Int32) → (Nat → Int32) → (Nat → Int32) → (Nat → Int32) → (Nat → Int32) → (Nat → Int32) → (Nat → Int32) → (Nat → Int32) → (Nat → Int32) → (Nat → Int32) → (Nat → Int32) → (Nat → Int32) → Prop} (hJ : J4 (nI (q (k + 1))) (if q (k + 1) = 0 then 0 else 1) f_present (nI n) f_size f_keptSize f_waiting a_placeOf a_x a_y a_hull a_kept a_found a_order a_waitA a_waitB a_nextLow a_beforeLow a_nextHigh a_beforeHigh) : ∀ d i N nx, i + d = n → d < N → nx < n → nx ≠ q k → (q (k + 1) < i → nx = q (k + 1)) → wX_wrap_26 post J4 (nI (q k)) f_present (nI n) f_size f_keptSize f_waiting a_placeOf a_x a_y a_hull a_kept a_found a_order a_waitA a_waitB a_nextLow a_beforeLow a_nextHigh a_beforeHigh N (nI nx) (nI i) := by
  have hn := X.1
  have B := wk_XPb X
  have c1 := Q.2.1 (k + 1)
  have ck := Q.2.1 k
  have NX := hu_nx Q k
  have ne : P (q k) ≠ P (q (k + 1)) := NX.2.2.1
  intro d
  induction d with
  | zero =>
    intro i N nx hi hN hx hne hc
    obtain ⟨N, rfl⟩ : ∃ M, N = M + 1 := ⟨N - 1, by omega⟩
    rw [wX_wrap_26]
    have e := hc (by omega)
    subst e
    refine br_t (nI_le (by omega) (by omega)) ?_
    by_cases z : q (k + 1) = 0
    · rw [if_pos z] at hJ
      exact br_t (by rw [z]; rfl) hJ
    · rw [if_neg z] at hJ
      exact br_f (nI_ne0 (by omega) (by omega)) hJ
  | succ d ih =>
    intro i N nx hi hN hx hne hc
    obtain ⟨N, rfl⟩ : ∃ M, N = M + 1 := ⟨N - 1, by omega⟩
    rw [wX_wrap_26]
    refine br_f (nI_ge (by omega) (by omega)) ?_
    have Si : ge_St P n (P i) := ⟨i, by omega, rfl⟩
    have Sx : ge_St P n (P nx) := ⟨nx, by omega, rfl⟩
    have Sk : ge_St P n (P (q k)) := NX.1
    have keep : (q (k + 1) < i + 1 → nx = q (k + 1)) → wX_wrap_26 post J4 (nI (q k)) f_present (nI n) f_size f_keptSize f_waiting a_placeOf a_x a_y a_hull a_kept a_found a_order a_waitA a_waitB a_nextLow a_beforeLow a_nextHigh a_beforeHigh N (nI nx) (nI i + 1) := fun h => by
      rw [nI_1]; exact ih (i + 1) N nx (by omega) (by omega) hx hne h
    have take : i ≠ q k → (q (k + 1) < i → i = q (k + 1)) → wX_wrap_26 post J4 (nI (q k)) f_present (nI n) f_size f_keptSize f_waiting a_placeOf a_x a_y a_hull a_kept a_found a_order a_waitA a_waitB a_nextLow a_beforeLow a_nextHigh a_beforeHigh N (nI i) (nI i + 1) := fun h h2 => by
      rw [nI_1]; exact ih (i + 1) N i (by omega) (by omega) (by omega) h (fun z => by
        by_cases w : q (k + 1) = i
        · exact w.symm
        · exact h2 (by omega))
    have bi := ge_crb B Sk Sx Si
    have b1 := ge_sqb B Sk Si
    have b2 := ge_sqb B Sk Sx
    refine wx_turn X ck hx (by omega) ?_
    have A := NX.2.2.2 (P nx) Sx
    have A2 := NX.2.2.2 (P i) Si
    have sw := ge_sw2 (P (q k)) (P (q (k + 1))) (P nx)
    refine wk_beq (ge_cr (P (q k)) (P nx) (P i)) 0 (fun t0 => ?_) (fun t0 => ?_)
    · refine wx_square X ck (by omega) (wx_square X ck hx ?_)
      refine wk_ble (ge_sq (P (q k)) (P i)) (ge_sq (P (q k)) (P nx)) (fun s0 => ?_) (fun s0 => ?_)
      · unfold wX_wrap_70 wX_wrap_71
        have K : q (k + 1) < i + 1 → nx = q (k + 1) := fun h => by
          by_cases w : q (k + 1) = i
          · apply Classical.byContradiction
            intro v
            rw [← w] at t0 s0
            have := (ge_segle ne (by omega) (by omega) (by omega)).2 (fun u => v (hu_inj Q hx c1 u))
            omega
          · exact hc (by omega)
        refine pk_eq i (q k) (fun _ => nm_e (keep K)) (fun _ => ?_)
        refine wk_blt (ge_cr (P (q k)) (P nx) (P i)) 0 (fun z => absurd z (by omega)) (fun _ => br_t rfl (nm_e (keep K)))
      · unfold wX_wrap_71
        have T : q (k + 1) < i → i = q (k + 1) := fun h => by
          have e := hc h
          rw [e] at t0 s0
          have := (ge_segle ne t0 (by omega) (by omega)).1
          omega
        refine pk_eq i (q k) (fun z => ?_) (fun z => ?_)
        · have := ge_sqn (P (q k)) (P nx)
          rw [z, ge_sq0] at s0
          omega
        · refine wk_blt (ge_cr (P (q k)) (P nx) (P i)) 0 (fun _ => nm_e (take z T)) (fun _ => br_f (by decide) (nm_e (take z T)))
    · unfold wX_wrap_70 wX_wrap_71
      refine pk_eq i (q k) (fun z => ?_) (fun z => ?_)
      · rw [z, ge_cr1] at t0; exact absurd rfl t0
      · refine wk_blt (ge_cr (P (q k)) (P nx) (P i)) 0 (fun y => nm_e (take z fun h => ?_)) (fun y => br_t rfl (nm_e (keep fun h => ?_)))
        · have e := hc h
          rw [e] at y
          omega
        · by_cases w : q (k + 1) = i
          · rw [← w] at t0 y
            omega
          · exact hc (by omega)
theorem e0_out (X : wk_XP n P a_x a_y) (Q : hu_Q n P m q) {post : SX → Prop} (hp : ∀ u', wk_G f_present (nI n) a_placeOf a_x a_y a_found m q u' → post u') : ∀ d k N hull, k + d = m → d < N → (∀ j, j < k → hull j = nI (q j)) → wX_wrap_4 post N (nI (q k)) (if d = 0 then 0 else 1) f_present (nI n) (nI k) f_keptSize f_waiting a_placeOf a_x a_y hull a_kept a_found a_order a_waitA a_waitB a_nextLow a_beforeLow a_nextHigh a_beforeHigh := by
  have hn := X.1
  have hm := hu_m Q
  have hmn := hu_mn Q
  intro d
  induction d with
  | zero =>
    intro k N hull hk hN hh
    obtain ⟨N, rfl⟩ : ∃ M, N = M + 1 := ⟨N - 1, by omega⟩
    rw [wX_wrap_4]
    refine br_t rfl (hp _ ⟨rfl, rfl, ?_, rfl, rfl, rfl, rfl, fun j hj => hh j (by omega)⟩)
    rw [show k = m by omega]
  | succ d ih =>
    intro k N hull hk hN hh
    obtain ⟨N, rfl⟩ : ∃ M, N = M + 1 := ⟨N - 1, by omega⟩
    have ck := Q.2.1 k
    rw [wX_wrap_4, if_neg (by omega)]
    refine br_f (by decide) (wx_addCorner (by omega) (by omega) ?_)
    dsimp only
    have I := ih (k + 1) N (upd hull k (nI (q k))) (by omega) (by omega) (fun j hj => by
      by_cases c : j = k
      · subst c; exact pk_us
      · rw [pk_un c]; exact hh j (by omega))
    have hz : q (k + 1) = 0 ↔ d = 0 := by
      constructor
      · intro z
        apply Classical.byContradiction
        intro w
        exact hu_ne Q (i := 0) (j := k + 1) (by omega) (by omega) (by rw [z, Q.2.2.1])
      · intro z
        have := hu_per Q 0
        rw [show k + 1 = 0 + m by omega, this, Q.2.2.1]
    have e : (if q (k + 1) = 0 then (0 : Int32) else 1) = (if d = 0 then 0 else 1) := by
      by_cases z : d = 0
      · rw [if_pos z, if_pos (hz.mpr z)]
      · rw [if_neg z, if_neg (fun w => z (hz.mp w))]
    refine pk_eq (q k) 0 (fun z => ⟨n + 1, ?_⟩) (fun z => ⟨n + 1, ?_⟩)
    · exact e0_in X Q k (by rw [e]; exact I) n 0 (n + 1) 1 (by omega) (by omega) (by omega) (by omega) (by omega)
    · exact e0_in X Q k (by rw [e]; exact I) n 0 (n + 1) 0 (by omega) (by omega) (by omega) (by omega) (by omega)
theorem e0_wrap (X : wk_XP n P a_x a_y) (Q : hu_Q n P m q) {post : SX → Prop} (hp : ∀ u', wk_G f_present (nI n) a_placeOf a_x a_y a_found m q u' → post u') : wpX_wrap post (f_present, nI n, 0, f_keptSize, f_waiting, a_placeOf, a_x, a_y, a_hull, a_kept, a_found, a_order, a_waitA, a_waitB, a_nextLow, a_beforeLow, a_nextHigh, a_beforeHigh) := by
  have hm := hu_m Q
  unfold wpX_wrap
  have := e0_out X Q (f_keptSize := f_keptSize) (f_waiting := f_waiting) (a_kept := a_kept) (a_order := a_order) (a_waitA := a_waitA) (a_waitB := a_waitB) (a_nextLow := a_nextLow) (a_beforeLow := a_beforeLow) (a_nextHigh := a_nextHigh) (a_beforeHigh := a_beforeHigh) hp m 0 (m + 1) a_hull (by omega) (by omega) (fun j hj => absurd hj (by omega))
  rw [if_neg (by omega), Q.2.2.1] at this
  exact ⟨m + 1, this⟩
end
end
section
/-! engine 3 -/
def ge_al (a b r : Int × Int) : Int := (b.1 - a.1) * r.1 + (b.2 - a.2) * r.2
theorem ge_af_al (a b : Int × Int) : ge_af (ge_al a b) := ⟨0, b.1 - a.1, b.2 - a.2, fun p => by unfold ge_al; omega⟩
theorem ge_al_id (a b r c : Int × Int) : ge_sq a b * ge_sq r c = (ge_cr a b r - ge_cr a b c) * (ge_cr a b r - ge_cr a b c) + (ge_al a b r - ge_al a b c) * (ge_al a b r - ge_al a b c) := by
  unfold ge_sq ge_cr ge_al; grind
theorem ge_al_eq {a b r c : Int × Int} (h : a ≠ b) (h1 : ge_cr a b r = ge_cr a b c) (h2 : ge_al a b r = ge_al a b c) : r = c := by
  have e := ge_al_id a b r c
  rw [h1, h2] at e
  exact ge_sqz (ge_z (ge_sqp h) (by rw [e]; simp))
theorem ge_alb {S : Int × Int → Prop} (hb : ge_bd S) {a b r c : Int × Int} (ha : S a) (hb' : S b) (hr : S r) (hc : S c) : -7938 ≤ ge_al a b r - ge_al a b c ∧ ge_al a b r - ge_al a b c ≤ 7938 := by
  have e : ge_al a b r - ge_al a b c = (b.1 - a.1) * (r.1 - c.1) + (b.2 - a.2) * (r.2 - c.2) := by unfold ge_al; grind
  have A := hb a ha
  have B := hb b hb'
  have C := hb r hr
  have D := hb c hc
  have x := ge_mb (a := b.1 - a.1) (b := r.1 - c.1) (by omega) (by omega) (by omega) (by omega)
  have y := ge_mb (a := b.2 - a.2) (b := r.2 - c.2) (by omega) (by omega) (by omega) (by omega)
  omega
/-- a point that is best on the right of a corner pair is a corner between -/
theorem e3_far {n : Nat} {P : Nat → Int × Int} {m : Nat} {q : Nat → Nat} (Q : hu_Q n P m q) (B : ge_bd (ge_St P n)) {i j c : Nat} (hij : i < j) (hjm : j ≤ m) (hji : j < i + m) (hc : c < n) (neg : ge_cr (P (q i)) (P (q j)) (P c) < 0) (best : ∀ r, r < n → ge_cr (P (q i)) (P (q j)) (P c) < ge_cr (P (q i)) (P (q j)) (P r) ∨ (ge_cr (P (q i)) (P (q j)) (P r) = ge_cr (P (q i)) (P (q j)) (P c) ∧ ge_al (P (q i)) (P (q j)) (P r) ≤ ge_al (P (q i)) (P (q j)) (P c))) : ∃ k, i < k ∧ k < j ∧ q k = c := by
  have H := Q.2.2.2
  have nab : P (q i) ≠ P (q j) := H.2.2.2 i j hij hji
  have Si := ge_ch_S H i
  have Sj := ge_ch_S H j
  have Sc : ge_St P n (P c) := ⟨c, hc, rfl⟩
  have ex : ge_ex (ge_St P n) (P c) := by
    refine ⟨fun r => (100000 * ge_cr (P (q i)) (P (q j)) r + - ge_al (P (q i)) (P (q j)) r) - (100000 * ge_cr (P (q i)) (P (q j)) (P c) + - ge_al (P (q i)) (P (q j)) (P c)), ge_af_sub _ (ge_af_add (ge_af_mul _ (ge_af_cr _ _)) (ge_af_neg (ge_af_al _ _))), by simp, ?_⟩
    rintro r ⟨k, hk, rfl⟩ hn
    have b1 := ge_alb B Si Sj (r := P k) (c := P c) ⟨k, hk, rfl⟩ Sc
    rcases best k hk with z | ⟨z, w⟩
    · show 0 < (100000 * _ + - _) - _
      omega
    · have : ge_al (P (q i)) (P (q j)) (P k) ≠ ge_al (P (q i)) (P (q j)) (P c) := fun y => hn (ge_al_eq nab z y)
      show 0 < (100000 * _ + - _) - _
      omega
  obtain ⟨k, hk, e⟩ := ge_isv H B Sc ex
  have ek : q k = c := hu_inj Q (Q.2.1 k) hc e
  rw [← ek] at neg
  by_cases c1 : i < k ∧ k < j
  · exact ⟨k, c1.1, c1.2, ek⟩
  · exfalso
    by_cases c2 : k = i
    · rw [c2, ge_cr1] at neg; omega
    by_cases c3 : k = j
    · rw [c3, ge_cr2] at neg; omega
    by_cases c4 : j < k
    · have T := ge_tri H B (i := i) (j := j) (k := k) hij c4 (by omega)
      have T' : 0 < ge_cr (P (q i)) (P (q j)) (P (q k)) := T
      omega
    · have p := hu_per Q k
      by_cases c5 : j = k + m
      · rw [c5, p, ge_cr2] at neg; omega
      · have T := ge_tri H B (i := i) (j := j) (k := k + m) hij (by omega) (by omega)
        have T' : 0 < ge_cr (P (q i)) (P (q j)) (P (q (k + m))) := T
        rw [p] at T'
        omega
theorem e3_near {n : Nat} {P : Nat → Int × Int} {m : Nat} {q : Nat → Nat} (Q : hu_Q n P m q) (B : ge_bd (ge_St P n)) {i j : Nat} (hij : i < j) (hji : j < i + m) (all : ∀ r, r < n → 0 ≤ ge_cr (P (q i)) (P (q j)) (P r)) : j = i + 1 := by
  apply Classical.byContradiction
  intro z
  have T := ge_tri Q.2.2.2 B (i := i) (j := i + 1) (k := j) (by omega) (by omega) hji
  have T' : 0 < ge_cr (P (q i)) (P (q (i + 1))) (P (q j)) := T
  have := all (q (i + 1)) (Q.2.1 _)
  rw [ge_sw2] at this
  omega
theorem hu_key {n : Nat} {P : Nat → Int × Int} {m : Nat} {q : Nat → Nat} (Q : hu_Q n P m q) (B : ge_bd (ge_St P n)) : ∃ t, 0 < t ∧ t < m ∧ q t = n - 1 := by
  have H := Q.2.2.2
  have hm := hu_m Q
  have hmn := hu_mn Q
  have Sc : ge_St P n (P (n - 1)) := ⟨n - 1, by omega, rfl⟩
  have af : ge_af (fun r => ge_key (P (n - 1)) + - ge_key r) := by
    refine ⟨ge_key (P (n - 1)), -64, -1, fun p => ?_⟩
    show ge_key _ + - ge_key p = _
    unfold ge_key; omega
  obtain ⟨k, hk, e⟩ := ge_isv H B Sc ⟨_, af, by show ge_key _ + - ge_key _ = 0; omega, by
    rintro r ⟨i, hi, rfl⟩ hn
    have : i ≠ n - 1 := fun z => hn (by rw [z])
    have := Q.1 i (n - 1) (by omega) (by omega)
    show 0 < ge_key _ + - ge_key _
    omega⟩
  have ek : q k = n - 1 := hu_inj Q (Q.2.1 k) (by omega) e
  refine ⟨k, ?_, hk, ek⟩
  apply Nat.pos_of_ne_zero
  intro z
  rw [z, Q.2.2.1] at ek
  omega

section
variable {f_present f_count f_size f_keptSize f_waiting : Int32} {a_placeOf a_x a_y a_hull a_kept a_found a_order a_waitA a_waitB a_nextLow a_beforeLow a_nextHigh a_beforeHigh : Nat → Int32} {n : Nat} {P : Nat → Int × Int} {m : Nat} {q : Nat → Nat}
theorem e3_fr (X : wk_XP n P a_x a_y) {a b : Nat} (ha : a < n) (hb : b < n) {post : Int32 → Prop} (h0 : (∀ r, r < n → 0 ≤ ge_cr (P a) (P b) (P r)) → post (-1)) (h1 : ∀ c, c < n → ge_cr (P a) (P b) (P c) < 0 → (∀ r, r < n → ge_cr (P a) (P b) (P c) < ge_cr (P a) (P b) (P r) ∨ (ge_cr (P a) (P b) (P r) = ge_cr (P a) (P b) (P c) ∧ ge_al (P a) (P b) (P r) ≤ ge_al (P a) (P b) (P c))) → post (nI c)) : ∀ d i N, i + d = n → d < N → ((∀ r, r < i → 0 ≤ ge_cr (P a) (P b) (P r)) → wX_farthestRight_11 post (nI a) (nI b) f_present (nI n) f_size f_keptSize f_waiting a_placeOf a_x a_y a_hull a_kept a_found a_order a_waitA a_waitB a_nextLow a_beforeLow a_nextHigh a_beforeHigh N (-1) 0 0 (nI i)) ∧ (∀ c, c < n → ge_cr (P a) (P b) (P c) < 0 → (∀ r, r < i → ge_cr (P a) (P b) (P c) < ge_cr (P a) (P b) (P r) ∨ (ge_cr (P a) (P b) (P r) = ge_cr (P a) (P b) (P c) ∧ ge_al (P a) (P b) (P r) ≤ ge_al (P a) (P b) (P c))) → wX_farthestRight_11 post (nI a) (nI b) f_present (nI n) f_size f_keptSize f_waiting a_placeOf a_x a_y a_hull a_kept a_found a_order a_waitA a_waitB a_nextLow a_beforeLow a_nextHigh a_beforeHigh N (nI c) (wk_i (ge_cr (P a) (P b) (P c))) (wk_i (ge_al (P a) (P b) (P c))) (nI i)) := by
  have hn := X.1
  have B := wk_XPb X
  intro d
  induction d with
  | zero =>
    intro i N hi hN
    obtain ⟨N, rfl⟩ : ∃ M, N = M + 1 := ⟨N - 1, by omega⟩
    have e : i = n := by omega
    subst e
    rw [wX_farthestRight_11]
    exact ⟨fun h => br_t (nI_le (by omega) (by omega)) (h0 h), fun c hc h2 h3 => br_t (nI_le (by omega) (by omega)) (h1 c hc h2 h3)⟩
  | succ d ih =>
    intro i N hi hN
    obtain ⟨N, rfl⟩ : ∃ M, N = M + 1 := ⟨N - 1, by omega⟩
    have I := ih (i + 1) N (by omega) (by omega)
    rw [← nI_1] at I
    have hi' : i < n := by omega
    have vi := vp_in_nI (N := 24) (show i < 24 by omega) (by omega)
    have va := vp_in_nI (N := 24) (show a < 24 by omega) (by omega)
    have vb := vp_in_nI (N := 24) (show b < 24 by omega) (by omega)
    have Sa : ge_St P n (P a) := ⟨a, ha, rfl⟩
    have Sb : ge_St P n (P b) := ⟨b, hb, rfl⟩
    have Si : ge_St P n (P i) := ⟨i, hi', rfl⟩
    have bi := ge_crb B Sa Sb Si
    have al : a_x (nI b).toNatClampNeg - a_x (nI a).toNatClampNeg = wk_i ((P b).1 - (P a).1) ∧ a_y (nI b).toNatClampNeg - a_y (nI a).toNatClampNeg = wk_i ((P b).2 - (P a).2) ∧ a_x (nI i).toNatClampNeg = wk_i (P i).1 ∧ a_y (nI i).toNatClampNeg = wk_i (P i).2 := by
      rw [nI_clamp (show a < 2 ^ 31 by omega), nI_clamp (show b < 2 ^ 31 by omega), nI_clamp (show i < 2 ^ 31 by omega), (X.2 i hi').1, (X.2 i hi').2.1, (X.2 a ha).1, (X.2 a ha).2.1, (X.2 b hb).1, (X.2 b hb).2.1, wk_sub, wk_sub]
      exact ⟨rfl, rfl, rfl, rfl⟩
    have ale : (a_x (nI b).toNatClampNeg - a_x (nI a).toNatClampNeg) * a_x (nI i).toNatClampNeg + (a_y (nI b).toNatClampNeg - a_y (nI a).toNatClampNeg) * a_y (nI i).toNatClampNeg = wk_i (ge_al (P a) (P b) (P i)) := by
      rw [al.1, al.2.1, al.2.2.1, al.2.2.2, wk_mul, wk_mul, wk_add]; rfl
    have Ab := B _ Sa
    have Bb := B _ Sb
    have Ib := B _ Si
    have ab : ∀ r, r < n → -7938 ≤ ge_al (P a) (P b) (P r) ∧ ge_al (P a) (P b) (P r) ≤ 7938 := fun r hr => by
      have R := B _ ⟨r, hr, rfl⟩
      have x := ge_mb (a := (P b).1 - (P a).1) (b := (P r).1) (by omega) (by omega) (by omega) (by omega)
      have y := ge_mb (a := (P b).2 - (P a).2) (b := (P r).2) (by omega) (by omega) (by omega) (by omega)
      unfold ge_al; omega
    have abi := ab i hi'
    rw [wX_farthestRight_11]
    constructor
    · intro h
      have keep : 0 ≤ ge_cr (P a) (P b) (P i) → wX_farthestRight_105 post (wX_farthestRight_11 post (nI a) (nI b) f_present (nI n) f_size f_keptSize f_waiting a_placeOf a_x a_y a_hull a_kept a_found a_order a_waitA a_waitB a_nextLow a_beforeLow a_nextHigh a_beforeHigh N) (nI a) (nI b) (-1) 0 0 (nI i) (wk_i (ge_cr (P a) (P b) (P i))) (wk_i (ge_al (P a) (P b) (P i))) f_present (nI n) f_size f_keptSize f_waiting a_placeOf a_x a_y a_hull a_kept a_found a_order a_waitA a_waitB a_nextLow a_beforeLow a_nextHigh a_beforeHigh := fun z => by
        unfold wX_farthestRight_105 wX_farthestRight_106 wX_farthestRight_119 wX_farthestRight_132
        exact br_t rfl (br_t rfl (br_t rfl (nm_e (I.1 (lt_s h z)))))
      refine br_f (nI_ge hi' (by omega)) (wx_turn X ha hb hi' ⟨vb, va, vi, vb, va, vi, nm_r ale ?_⟩)
      refine wk_blt (ge_cr (P a) (P b) (P i)) 0 (fun z => ?_) (fun z => wk_ble 0 (ge_cr (P a) (P b) (P i)) (fun _ => keep z) (fun y => absurd y (by omega)))
      unfold wX_farthestRight_101 wX_farthestRight_106 wX_farthestRight_119 wX_farthestRight_132
      refine br_f (by decide) (br_f (by decide) (br_f (by decide) (nm_e (I.2 i hi' z (lt_s (fun r hr => Or.inl ?_) (Or.inr ⟨rfl, Int.le_refl _⟩))))))
      have := h r hr
      omega
    · intro c hc cn h
      have bc := ge_crb B Sa Sb (r := P c) ⟨c, hc, rfl⟩
      have abc := ab c hc
      have keep : (ge_cr (P a) (P b) (P c) < ge_cr (P a) (P b) (P i) ∨ (ge_cr (P a) (P b) (P i) = ge_cr (P a) (P b) (P c) ∧ ge_al (P a) (P b) (P i) ≤ ge_al (P a) (P b) (P c))) → wX_farthestRight_105 post (wX_farthestRight_11 post (nI a) (nI b) f_present (nI n) f_size f_keptSize f_waiting a_placeOf a_x a_y a_hull a_kept a_found a_order a_waitA a_waitB a_nextLow a_beforeLow a_nextHigh a_beforeHigh N) (nI a) (nI b) (nI c) (wk_i (ge_cr (P a) (P b) (P c))) (wk_i (ge_al (P a) (P b) (P c))) (nI i) (wk_i (ge_cr (P a) (P b) (P i))) (wk_i (ge_al (P a) (P b) (P i))) f_present (nI n) f_size f_keptSize f_waiting a_placeOf a_x a_y a_hull a_kept a_found a_order a_waitA a_waitB a_nextLow a_beforeLow a_nextHigh a_beforeHigh := fun z => by
        unfold wX_farthestRight_105 wX_farthestRight_106 wX_farthestRight_119 wX_farthestRight_132
        exact br_t rfl (br_t rfl (br_t rfl (nm_e (I.2 c hc cn (lt_s h z)))))
      have take : (ge_cr (P a) (P b) (P i) < ge_cr (P a) (P b) (P c) ∨ (ge_cr (P a) (P b) (P i) = ge_cr (P a) (P b) (P c) ∧ ge_al (P a) (P b) (P c) < ge_al (P a) (P b) (P i))) → wX_farthestRight_101 post (wX_farthestRight_11 post (nI a) (nI b) f_present (nI n) f_size f_keptSize f_waiting a_placeOf a_x a_y a_hull a_kept a_found a_order a_waitA a_waitB a_nextLow a_beforeLow a_nextHigh a_beforeHigh N) (nI a) (nI b) (nI c) (wk_i (ge_cr (P a) (P b) (P c))) (wk_i (ge_al (P a) (P b) (P c))) (nI i) (wk_i (ge_cr (P a) (P b) (P i))) (wk_i (ge_al (P a) (P b) (P i))) f_present (nI n) f_size f_keptSize f_waiting a_placeOf a_x a_y a_hull a_kept a_found a_order a_waitA a_waitB a_nextLow a_beforeLow a_nextHigh a_beforeHigh := fun z => by
        unfold wX_farthestRight_101 wX_farthestRight_106 wX_farthestRight_119 wX_farthestRight_132
        refine br_f (by decide) (br_f (by decide) (br_f (by decide) (nm_e (I.2 i hi' (by omega) (lt_s (fun r hr => ?_) (Or.inr ⟨rfl, Int.le_refl _⟩))))))
        have := h r hr
        omega
      refine br_f (nI_ge hi' (by omega)) (wx_turn X ha hb hi' ⟨vb, va, vi, vb, va, vi, nm_r ale ?_⟩)
      refine wk_blt (ge_cr (P a) (P b) (P i)) (ge_cr (P a) (P b) (P c)) (fun z => take (Or.inl z)) (fun z => wk_ble 0 (ge_cr (P a) (P b) (P i)) (fun y => keep (Or.inl (by omega))) (fun y => wk_beq (ge_cr (P a) (P b) (P i)) (ge_cr (P a) (P b) (P c)) (fun e => wk_ble (ge_al (P a) (P b) (P i)) (ge_al (P a) (P b) (P c)) (fun v => keep (Or.inr ⟨e, v⟩)) (fun v => take (Or.inr ⟨e, v⟩))) (fun e => keep (Or.inl (by omega)))))
theorem wx_wait {w a b : Nat} (hw : w < 48) (ha : a < 128) (hb : b < 128) {post : SX → Prop} (h : post (f_present, f_count, f_size, f_keptSize, nI (w + 1), a_placeOf, a_x, a_y, a_hull, a_kept, a_found, a_order, upd a_waitA w (nI a), upd a_waitB w (nI b), a_nextLow, a_beforeLow, a_nextHigh, a_beforeHigh)) : wpX_wait post (f_present, f_count, f_size, f_keptSize, nI w, a_placeOf, a_x, a_y, a_hull, a_kept, a_found, a_order, a_waitA, a_waitB, a_nextLow, a_beforeLow, a_nextHigh, a_beforeHigh) (nI a) (nI b) := by
  unfold wpX_wait
  dsimp only
  refine ⟨vp_in_nI hw (by omega), nm_e ⟨vp_in_nI hw (by omega), nm_e (nm_e ?_)⟩⟩
  rw [nI_clamp (by omega), wk_bn ha, wk_bn hb, nI_1]
  exact h
theorem e3_dec {s : Nat → Nat} {w m : Nat} (h0 : s 0 = m) (h : ∀ p, p < w → s (p + 1) < s p) : ∀ p, p ≤ w → s p + p ≤ m
  | 0, _ => by omega
  | p + 1, hp => by
    have := e3_dec h0 h p (by omega)
    have := h p (by omega)
    omega
theorem e3_loop (X : wk_XP n P a_x a_y) (Q : hu_Q n P m q) {post : SX → Prop} (hp : ∀ u', wk_G f_present (nI n) a_placeOf a_x a_y a_found m q u' → post u') : ∀ (d w N : Nat) (s : Nat → Nat) (hull wA wB : Nat → Int32), s 0 = m → (∀ p, p < w → s (p + 1) < s p ∧ s p < s (p + 1) + m) → 2 * (m - s w) - w = d → d < N → (∀ j, j < s w → hull j = nI (q j)) → (∀ p, p < w → wA p = nI (q (s (p + 1))) ∧ wB p = nI (q (s p))) → wX_partOff_27 post N f_present (nI n) (nI (s w)) f_keptSize (nI w) a_placeOf a_x a_y hull a_kept a_found a_order wA wB a_nextLow a_beforeLow a_nextHigh a_beforeHigh := by
  have hn := X.1
  have B := wk_XPb X
  have hm := hu_m Q
  have hmn := hu_mn Q
  intro d
  induction d with
  | zero =>
    intro w N s hull wA wB s0 sd hd hN hh hw
    obtain ⟨N, rfl⟩ : ∃ M, N = M + 1 := ⟨N - 1, by omega⟩
    have D := e3_dec s0 (fun p hp => (sd p hp).1) w (Nat.le_refl _)
    have w0 : w = 0 := by omega
    subst w0
    rw [wX_partOff_27]
    exact br_t (by decide) (hp _ ⟨rfl, rfl, by rw [s0], rfl, rfl, rfl, rfl, fun k hk => hh k (by omega)⟩)
  | succ d ih =>
    intro w N s hull wA wB s0 sd hd hN hh hw
    obtain ⟨N, rfl⟩ : ∃ M, N = M + 1 := ⟨N - 1, by omega⟩
    have D := e3_dec s0 (fun p hp => (sd p hp).1) w (Nat.le_refl _)
    have w0 : 0 < w := by
      apply Nat.pos_of_ne_zero
      intro z
      subst z
      omega
    obtain ⟨w, rfl⟩ : ∃ v, w = v + 1 := ⟨w - 1, by omega⟩
    have D1 := e3_dec s0 (fun p hp => (sd p hp).1) w (by omega)
    have S := sd w (by omega)
    have W := hw w (by omega)
    rw [wX_partOff_27]
    refine br_f (nI_nle (by omega) (by omega)) (nm_r (e' := nI w) (nI_pred w) ?_)
    refine ⟨vp_in_nI (by omega) (by omega), nm_r (e' := nI (q (s (w + 1)))) (by rw [nI_clamp (by omega)]; exact W.1) ⟨vp_in_nI (by omega) (by omega), nm_r (e' := nI (q (s w))) (by rw [nI_clamp (by omega)]; exact W.2) ?_⟩⟩
    have c1 := Q.2.1 (s (w + 1))
    have c2 := Q.2.1 (s w)
    unfold wpX_farthestRight
    refine ⟨n + 1, (e3_fr X c1 c2 (fun all => ?_) (fun c hc neg best => ?_) n 0 (n + 1) (by omega) (by omega)).1 (fun r hr => absurd hr (by omega))⟩
    · refine br_f (by decide) ?_
      have e := e3_near Q B S.1 S.2 all
      refine wx_addCorner (by omega) (by omega) ?_
      dsimp only
      have I := ih w N s (upd hull (s (w + 1)) (nI (q (s (w + 1))))) wA wB s0 (fun p hp => sd p (by omega)) (by omega) (by omega) (fun j hj => by
        by_cases c : j = s (w + 1)
        · subst c; exact pk_us
        · rw [pk_un c]; exact hh j (by omega)) (fun p hp => hw p (by omega))
      rw [e] at I
      rw [← e] at I ⊢
      exact I
    · refine br_t (nI_pos' (by omega)) ?_
      obtain ⟨k, k1, k2, ek⟩ := e3_far Q B S.1 (by omega) S.2 hc neg best
      refine wx_wait (by omega) (by omega) (by omega) ?_
      dsimp only
      refine wx_wait (by omega) (by omega) (by omega) ?_
      dsimp only
      have I := ih (w + 1 + 1) N (fun p => if p ≤ w then s p else if p = w + 1 then k else s (w + 1)) hull (upd (upd wA w (nI c)) (w + 1) (nI (q (s (w + 1))))) (upd (upd wB w (nI (q (s w)))) (w + 1) (nI c)) (by rw [if_pos (Nat.zero_le _)]; exact s0) (fun p hp => by
          by_cases c1 : p + 1 ≤ w
          · rw [if_pos c1, if_pos (by omega)]; exact sd p (by omega)
          · by_cases c2 : p = w
            · subst c2
              rw [if_neg (by omega), if_pos rfl, if_pos (Nat.le_refl _)]; omega
            · have c3 : p = w + 1 := by omega
              subst c3
              rw [if_neg (by omega), if_neg (by omega), if_neg (by omega), if_pos rfl]; omega)
        (by rw [if_neg (by omega), if_neg (by omega)]; omega) (by omega) (by rw [if_neg (by omega), if_neg (by omega)]; exact hh) (fun p hp => by
          by_cases c1 : p + 1 ≤ w
          · rw [if_pos c1, if_pos (by omega), pk_un (by omega), pk_un (by omega), pk_un (by omega), pk_un (by omega)]; exact hw p (by omega)
          · by_cases c2 : p = w
            · subst c2
              rw [if_neg (by omega), if_pos rfl, if_pos (Nat.le_refl _), pk_un (by omega), pk_us, pk_un (by omega), pk_us, ek]; exact ⟨rfl, rfl⟩
            · have c3 : p = w + 1 := by omega
              subst c3
              rw [if_neg (by omega), if_neg (by omega), if_neg (by omega), if_pos rfl, pk_us, pk_us, ek]; exact ⟨rfl, rfl⟩)
      rw [if_neg (by omega), if_neg (by omega)] at I
      exact I
theorem e3_part (X : wk_XP n P a_x a_y) (Q : hu_Q n P m q) {post : SX → Prop} (hp : ∀ u', wk_G f_present (nI n) a_placeOf a_x a_y a_found m q u' → post u') : wpX_partOff post (f_present, nI n, 0, f_keptSize, f_waiting, a_placeOf, a_x, a_y, a_hull, a_kept, a_found, a_order, a_waitA, a_waitB, a_nextLow, a_beforeLow, a_nextHigh, a_beforeHigh) := by
  have hn := X.1
  have B := wk_XPb X
  have hm := hu_m Q
  have hmn := hu_mn Q
  obtain ⟨t, t0, tm, et⟩ := hu_key Q B
  unfold wpX_partOff
  dsimp only
  have en : nI n - 1 = nI (n - 1) := by
    obtain ⟨k, rfl⟩ : ∃ k, n = k + 1 := ⟨n - 1, by omega⟩
    exact nI_pred k
  rw [en]
  refine wx_wait (w := 0) (a := n - 1) (b := 0) (by omega) (by omega) (by omega) ?_
  dsimp only
  rw [en]
  refine wx_wait (w := 1) (a := 0) (b := n - 1) (by omega) (by omega) (by omega) ?_
  dsimp only
  refine ⟨2 * m + 1, ?_⟩
  have I := e3_loop X Q (f_keptSize := f_keptSize) (a_kept := a_kept) (a_order := a_order) (a_nextLow := a_nextLow) (a_beforeLow := a_beforeLow) (a_nextHigh := a_nextHigh) (a_beforeHigh := a_beforeHigh) hp (2 * m - 2) 2 (2 * m + 1) (fun p => if p = 0 then m else if p = 1 then t else 0) a_hull (upd (upd a_waitA 0 (nI (n - 1))) 1 (nI 0)) (upd (upd a_waitB 0 (nI 0)) 1 (nI (n - 1))) rfl (fun p hp => by
      rcases (show p = 0 ∨ p = 1 by omega) with rfl | rfl
      · show t < m ∧ m < t + m; omega
      · show 0 < t ∧ t < 0 + m; omega)
    (by show 2 * (m - 0) - 2 = 2 * m - 2; omega) (by omega) (fun j hj => absurd hj (by show ¬ j < 0; omega)) (fun p hp => by
      have pm := hu_per Q 0
      rw [Nat.zero_add] at pm
      rcases (show p = 0 ∨ p = 1 by omega) with rfl | rfl
      · show upd _ 1 _ 0 = nI (q t) ∧ upd _ 1 _ 0 = nI (q m)
        rw [pk_un (by omega), pk_us, pk_un (by omega), pk_us, et, pm, Q.2.2.1]; exact ⟨rfl, rfl⟩
      · show upd _ 1 _ 1 = nI (q 0) ∧ upd _ 1 _ 1 = nI (q t)
        rw [pk_us, pk_us, et, Q.2.2.1]; exact ⟨rfl, rfl⟩)
  exact I
end
end
section
/-! chains: sorted places, a stack of them that turns left everywhere, and the corners among them -/
theorem ge_Dsw (w u v : Int) (a b : Int × Int) : ge_D w u v b a = - ge_D w u v a b := by unfold ge_D; grind
theorem ge_D0 (w u v : Int) (a : Int × Int) : ge_D w u v a a = 0 := by unfold ge_D; grind

def sc_C (w u v : Int) (S : Int × Int → Prop) (N : Nat) (Z : Nat → Int × Int) (t : Nat) (g : Nat → Nat) : Prop :=
  (∀ i j, i < j → j < N → 0 < ge_D w u v (Z i) (Z j)) ∧ (∀ i, i < N → S (Z i)) ∧ g 0 = 0 ∧ g t = N - 1 ∧ (∀ k, k ≤ t → g k < N) ∧
  (∀ k, k < t → ge_nx S (Z (g k)) (Z (g (k + 1))) ∧ 0 < ge_D w u v (Z (g k)) (Z (g (k + 1)))) ∧ (∀ k, k + 2 ≤ t → 0 < ge_cr (Z (g k)) (Z (g (k + 1))) (Z (g (k + 2))))

theorem sc_vx {w u v : Int} {S : Int × Int → Prop} {N : Nat} {Z : Nat → Int × Int} {t : Nat} {g : Nat → Nat} (C : sc_C w u v S N Z t g) {k a e : Nat} (hk : k + 2 ≤ t) (ha : a < g (k + 1)) (he : g (k + 1) < e) (hN : e < N) : 0 < ge_cr (Z a) (Z (g (k + 1))) (Z e) := by
  obtain ⟨cD, cS, _, _, _, cn, ct⟩ := C
  have D0 := ct k hk
  have n1 := cn k (by omega)
  have n2 : ge_nx S (Z (g (k + 1))) (Z (g (k + 2))) ∧ 0 < ge_D w u v (Z (g (k + 1))) (Z (g (k + 2))) := cn (k + 1) (by omega)
  have Sa := cS a (by omega)
  have Se := cS e hN
  have Dab := cD a (g (k + 1)) ha (by omega)
  have Dbe := cD (g (k + 1)) e he hN
  have a1 := ge_nx_ge n1.1 Sa
  have a2 := ge_nx_ge n2.1 Sa
  have e1 := ge_nx_ge n1.1 Se
  have e2 := ge_nx_ge n2.1 Se
  have nab : Z a ≠ Z (g (k + 1)) := fun z => by rw [z, ge_D0] at Dab; omega
  have fa : 0 < ge_cr (Z (g k)) (Z (g (k + 1))) (Z a) + ge_cr (Z (g (k + 1))) (Z (g (k + 2))) (Z a) := by
    apply Int.lt_of_not_ge
    intro z
    have z1 : ge_cr (Z (g k)) (Z (g (k + 1))) (Z a) = 0 := by omega
    have z2 : ge_cr (Z (g (k + 1))) (Z (g (k + 2))) (Z a) = 0 := by omega
    have ex := ge_cone ge_af_x (Z (g k)) (Z (g (k + 1))) (Z (g (k + 2))) (Z a)
    have ey := ge_cone ge_af_y (Z (g k)) (Z (g (k + 1))) (Z (g (k + 2))) (Z a)
    rw [z1, z2, Int.zero_mul, Int.zero_mul] at ex ey
    have zx := ge_z D0 ex
    have zy := ge_z D0 ey
    exact nab (Prod.ext (by omega) (by omega))
  have key : (ge_D w u v (Z (g k)) (Z (g (k + 1))) + ge_D w u v (Z (g (k + 1))) (Z (g (k + 2)))) * ge_cr (Z a) (Z (g (k + 1))) (Z e) = (ge_cr (Z (g k)) (Z (g (k + 1))) (Z a) + ge_cr (Z (g (k + 1))) (Z (g (k + 2))) (Z a)) * ge_D w u v (Z (g (k + 1))) (Z e) + (ge_cr (Z (g k)) (Z (g (k + 1))) (Z e) + ge_cr (Z (g (k + 1))) (Z (g (k + 2))) (Z e)) * ge_D w u v (Z a) (Z (g (k + 1))) := by
    generalize Z (g k) = p
    generalize Z (g (k + 1)) = b
    generalize Z (g (k + 2)) = r
    generalize Z a = x
    generalize Z e = y
    unfold ge_cr ge_D
    grind
  have x1 := Int.mul_pos fa Dbe
  have x2 := Int.mul_nonneg (show 0 ≤ ge_cr (Z (g k)) (Z (g (k + 1))) (Z e) + ge_cr (Z (g (k + 1))) (Z (g (k + 2))) (Z e) by omega) (Int.le_of_lt Dab)
  exact ge_pos (by have := n1.2; have := n2.2; omega) key (by omega)

/-- near left turns give all left turns -/
theorem sc_all1 {w u v : Int} {M : Nat} {s : Nat → Int × Int} (hD : ∀ i j, i < j → j < M → 0 < ge_D w u v (s i) (s j)) (hl : ∀ i, i + 2 < M → 0 < ge_cr (s i) (s (i + 1)) (s (i + 2))) : ∀ e i, i + 2 + e < M → 0 < ge_cr (s i) (s (i + 1)) (s (i + 2 + e)) := by
  intro e
  induction e with
  | zero => exact fun i h => hl i h
  | succ e ih =>
    intro i h
    have y : 0 < ge_cr (s (i + 1)) (s (i + 2)) (s (i + 1 + 2 + e)) := ih (i + 1) (by omega)
    rw [show i + 1 + 2 + e = i + 2 + (e + 1) by omega] at y
    have g := ge_gp1 w u v (s i) (s (i + 1)) (s (i + 2)) (s (i + 2 + (e + 1)))
    have x1 := Int.mul_pos (hl i (by omega)) (hD (i + 1) (i + 2 + (e + 1)) (by omega) h)
    have x2 := Int.mul_pos (hD i (i + 1) (by omega) (by omega)) y
    have z : 0 < ge_cr (s i) (s (i + 1)) (s (i + 2 + (e + 1))) * ge_D w u v (s (i + 1)) (s (i + 2)) := by rw [g]; omega
    exact Int.pos_of_mul_pos_left z (hD (i + 1) (i + 2) (by omega) (by omega))
theorem sc_all2 {w u v : Int} {M : Nat} {s : Nat → Int × Int} (hD : ∀ i j, i < j → j < M → 0 < ge_D w u v (s i) (s j)) (hl : ∀ i, i + 2 < M → 0 < ge_cr (s i) (s (i + 1)) (s (i + 2))) : ∀ f i k, i + 1 + f < k → k < M → 0 < ge_cr (s i) (s (i + 1 + f)) (s k) := by
  intro f
  induction f with
  | zero =>
    intro i k a b
    have := sc_all1 hD hl (k - i - 2) i (by omega)
    rwa [show i + 2 + (k - i - 2) = k by omega] at this
  | succ f ih =>
    intro i k a b
    have y := ih (i + 1) k (by omega) b
    rw [show i + 1 + 1 + f = i + 1 + (f + 1) by omega] at y
    have x := sc_all1 hD hl f i (by omega)
    rw [show i + 2 + f = i + 1 + (f + 1) by omega] at x
    have g := ge_gp2 w u v (s i) (s (i + 1)) (s (i + 1 + (f + 1))) (s k)
    have x1 := Int.mul_pos x (hD (i + 1 + (f + 1)) k (by omega) b)
    have x2 := Int.mul_pos (hD i (i + 1 + (f + 1)) (by omega) (by omega)) y
    have z : 0 < ge_cr (s i) (s (i + 1 + (f + 1))) (s k) * ge_D w u v (s (i + 1)) (s (i + 1 + (f + 1))) := by rw [g]; omega
    exact Int.pos_of_mul_pos_left z (hD (i + 1) (i + 1 + (f + 1)) (by omega) (by omega))
theorem sc_all {w u v : Int} {M : Nat} {s : Nat → Int × Int} (hD : ∀ i j, i < j → j < M → 0 < ge_D w u v (s i) (s j)) (hl : ∀ i, i + 2 < M → 0 < ge_cr (s i) (s (i + 1)) (s (i + 2))) {i j k : Nat} (a : i < j) (b : j < k) (c : k < M) : 0 < ge_cr (s i) (s j) (s k) := by
  have := sc_all2 hD hl (j - i - 1) i k (by omega) c
  rwa [show i + 1 + (j - i - 1) = j by omega] at this

theorem sc_up {s : Nat → Nat} {M : Nat} (h : ∀ j, j + 1 < M → s j < s (j + 1)) {i : Nat} : ∀ d, i + d + 1 < M → s i < s (i + d + 1)
  | 0, a => h i a
  | d + 1, a => Nat.lt_trans (sc_up h d (by omega)) (h (i + d + 1) (by omega))
theorem sc_up' {s : Nat → Nat} {M : Nat} (h : ∀ j, j + 1 < M → s j < s (j + 1)) {i j : Nat} (a : i < j) (b : j < M) : s i < s j := by
  have := sc_up h (i := i) (j - i - 1) (by omega)
  rwa [show i + (j - i - 1) + 1 = j by omega] at this

theorem sc_fin {w u v : Int} {S : Int × Int → Prop} {N : Nat} {Z : Nat → Int × Int} {t : Nat} {g : Nat → Nat} (C : sc_C w u v S N Z t g) {M : Nat} {s : Nat → Nat} (h1 : 1 ≤ M) (s0 : s 0 = 0) (sN : s (M - 1) = N - 1) (hN : 1 ≤ N) (inc : ∀ j, j + 1 < M → s j < s (j + 1)) (loc : ∀ j, j + 2 < M → 0 < ge_cr (Z (s j)) (Z (s (j + 1))) (Z (s (j + 2)))) (cont : ∀ k, k ≤ t → ∃ j, j < M ∧ s j = g k) : M = t + 1 ∧ ∀ k, k ≤ t → s k = g k := by
  have lt : ∀ j, j < M → s j < N := fun j hj => by
    by_cases c : j = M - 1
    · rw [c, sN]; omega
    · have := sc_up' inc (i := j) (j := M - 1) (by omega) (by omega)
      omega
  obtain ⟨cD, cS, g0, gt, gN, cn, ct⟩ := C
  have hD : ∀ i j, i < j → j < M → 0 < ge_D w u v (Z (s i)) (Z (s j)) := fun i j a b => cD _ _ (sc_up' inc a b) (lt j b)
  have A : ∀ k, k ≤ t → k < M ∧ s k = g k := fun k => by
    induction k with
    | zero => exact fun _ => ⟨by omega, by rw [s0, g0]⟩
    | succ k ih =>
      intro hk
      obtain ⟨kM, ek⟩ := ih (by omega)
      obtain ⟨j, jM, ej⟩ := cont (k + 1) hk
      have n := cn k (by omega)
      have kj : k < j := by
        apply Nat.lt_of_not_le
        intro z
        have x := n.2
        rw [← ek, ← ej] at x
        by_cases c : j = k
        · rw [c, ge_D0] at x; omega
        · have := hD j k (by omega) kM
          rw [ge_Dsw] at x
          omega
      by_cases c : j = k + 1
      · exact ⟨c ▸ jM, c ▸ ej⟩
      · exfalso
        have x := sc_all (s := fun j => Z (s j)) hD loc (i := k) (j := k + 1) (k := j) (by omega) (by omega) jM
        have y := ge_nx_ge n.1 (cS (s (k + 1)) (lt _ (by omega)))
        rw [← ek, ← ej, ge_sw2] at y
        have x' : 0 < ge_cr (Z (s k)) (Z (s (k + 1))) (Z (s j)) := x
        omega
  refine ⟨?_, fun k hk => (A k hk).2⟩
  obtain ⟨tM, et⟩ := A t (Nat.le_refl _)
  by_cases c : t = M - 1
  · omega
  · have := sc_up' inc (i := t) (j := M - 1) (by omega) (by omega)
    omega

/-- the stack when i places have been pushed -/
def sc_I (Z : Nat → Int × Int) (t : Nat) (g : Nat → Nat) (i M : Nat) (s : Nat → Nat) : Prop :=
  1 ≤ M ∧ M ≤ i ∧ s 0 = 0 ∧ s (M - 1) = i - 1 ∧ (∀ j, j + 1 < M → s j < s (j + 1)) ∧ (∀ j, j + 2 < M → 0 < ge_cr (Z (s j)) (Z (s (j + 1))) (Z (s (j + 2)))) ∧ (∀ k, k ≤ t → g k < i → ∃ j, j < M ∧ s j = g k)
theorem sc_I1 {w u v : Int} {S : Int × Int → Prop} {N : Nat} {Z : Nat → Int × Int} {t : Nat} {g : Nat → Nat} (C : sc_C w u v S N Z t g) : sc_I Z t g 1 1 (fun _ => 0) :=
  ⟨by omega, by omega, rfl, rfl, fun j h => absurd h (by omega), fun j h => absurd h (by omega), fun k _ h => ⟨0, by omega, by show 0 = g k; omega⟩⟩
theorem sc_step {w u v : Int} {S : Int × Int → Prop} {N : Nat} {Z : Nat → Int × Int} {t : Nat} {g : Nat → Nat} (C : sc_C w u v S N Z t g) {i M M' : Nat} {s : Nat → Nat} (I : sc_I Z t g i M s) (hi : i < N) (h1 : 1 ≤ M') (h2 : M' ≤ M) (top : M' = 1 ∨ 0 < ge_cr (Z (s (M' - 2))) (Z (s (M' - 1))) (Z i)) (pop : ∀ j, M' ≤ j → j < M → ge_cr (Z (s (j - 1))) (Z (s j)) (Z i) ≤ 0) : sc_I Z t g (i + 1) (M' + 1) (fun j => if j = M' then i else s j) := by
  obtain ⟨m1, m2, s0, sl, inc, loc, cont⟩ := I
  have lt : ∀ j, j < M → s j < i := fun j hj => by
    by_cases c : j = M - 1
    · rw [c, sl]; omega
    · have := sc_up' inc (i := j) (j := M - 1) (by omega) (by omega)
      omega
  refine ⟨by omega, by omega, ?_, ?_, fun j hj => ?_, fun j hj => ?_, fun k hk hg => ?_⟩
  · show (if 0 = M' then i else s 0) = 0
    rw [if_neg (by omega), s0]
  · show (if M' + 1 - 1 = M' then i else _) = i + 1 - 1
    rw [if_pos (by omega)]; omega
  · show (if j = M' then i else s j) < (if j + 1 = M' then i else s (j + 1))
    rw [if_neg (by omega)]
    by_cases c : j + 1 = M'
    · rw [if_pos c]; exact lt j (by omega)
    · rw [if_neg c]; exact inc j (by omega)
  · show 0 < ge_cr (Z (if j = M' then i else s j)) (Z (if j + 1 = M' then i else s (j + 1))) (Z (if j + 2 = M' then i else s (j + 2)))
    rw [if_neg (by omega), if_neg (by omega)]
    by_cases c : j + 2 = M'
    · rw [if_pos c]
      rcases top with z | z
      · omega
      · rwa [show M' - 2 = j by omega, show M' - 1 = j + 1 by omega] at z
    · rw [if_neg c]; exact loc j (by omega)
  · by_cases c : g k = i
    · exact ⟨M', by omega, by show (if M' = M' then i else _) = _; rw [if_pos rfl, c]⟩
    · obtain ⟨j, jM, ej⟩ := cont k hk (by omega)
      have jM' : j < M' := by
        apply Nat.lt_of_not_le
        intro z
        have p := pop j z jM
        obtain ⟨cD, cS, g0, gt, gN, cn, ct⟩ := C
        have sj : s (j - 1) < s j := by
          have := inc (j - 1) (by omega)
          rwa [show j - 1 + 1 = j by omega] at this
        have k0 : k ≠ 0 := fun y => by rw [y, g0] at ej; omega
        have kt : k ≠ t := fun y => by
          rw [y, gt] at ej
          have := lt j jM
          omega
        obtain ⟨k, rfl⟩ : ∃ l, k = l + 1 := ⟨k - 1, by omega⟩
        have V := sc_vx ⟨cD, cS, g0, gt, gN, cn, ct⟩ (k := k) (a := s (j - 1)) (e := i) (by omega) (by omega) (by have := lt j jM; omega) hi
        rw [← ej] at V
        omega
      exact ⟨j, by omega, by show (if j = M' then i else s j) = _; rw [if_neg (by omega), ej]⟩
theorem sc_end {w u v : Int} {S : Int × Int → Prop} {N : Nat} {Z : Nat → Int × Int} {t : Nat} {g : Nat → Nat} (C : sc_C w u v S N Z t g) (hN : 1 ≤ N) {M : Nat} {s : Nat → Nat} (I : sc_I Z t g N M s) : M = t + 1 ∧ ∀ k, k ≤ t → s k = g k := by
  obtain ⟨m1, m2, s0, sl, inc, loc, cont⟩ := I
  exact sc_fin C m1 s0 sl hN inc loc (fun k hk => cont k hk (C.2.2.2.2.1 k hk))
end
section
/-! engine 2 -/
theorem ge_Dk (b c : Int × Int) : ge_D 0 (-1) 64 b c = ge_key c - ge_key b := by unfold ge_D ge_key; grind
theorem ge_Dk' (b c : Int × Int) : ge_D 0 1 (-64) b c = ge_key b - ge_key c := by unfold ge_D ge_key; grind
theorem ge_af_key : ge_af ge_key := ⟨0, 64, 1, fun p => by unfold ge_key; omega⟩
/-- the numbers of the corners go up to the last place, then down -/
theorem hu_mono {n : Nat} {P : Nat → Int × Int} {m : Nat} {q : Nat → Nat} (Q : hu_Q n P m q) (B : ge_bd (ge_St P n)) : ∃ t, 0 < t ∧ t < m ∧ q t = n - 1 ∧ (∀ k, k < t → q k < q (k + 1)) ∧ (∀ d, t + d < m → q (t + d + 1) < q (t + d)) := by
  obtain ⟨t, t0, tm, et⟩ := hu_key Q B
  have H := Q.2.2.2
  have key : ∀ i j, i < n → j < n → ge_key (P i) ≤ ge_key (P j) → i ≤ j := fun i j hi hj h => by
    apply Nat.le_of_not_lt
    intro z
    have := Q.1 j i z hi
    omega
  have key' : ∀ i j, i < n → j < n → i ≤ j → ge_key (P i) ≤ ge_key (P j) := fun i j hi hj h => by
    by_cases z : i = j
    · rw [z]; exact Int.le_refl _
    · have := Q.1 i j (by omega) hj
      omega
  refine ⟨t, t0, tm, et, fun k => ?_, fun d => ?_⟩
  · induction k with
    | zero =>
      intro _
      have := hu_ne Q (i := 0) (j := 1) (by omega) (by omega)
      rw [Q.2.2.1] at this ⊢
      show 0 < q 1
      omega
    | succ k ih =>
      intro hk
      have a := ih (by omega)
      have b : q (k + 1) ≠ q (k + 2) := hu_ne Q (by omega) (by omega)
      have n0 := Q.2.1 0
      show q (k + 1) < q (k + 2)
      apply Nat.lt_of_not_le
      intro z
      have L := ge_lm H B ge_af_key (k := k) (r := P (n - 1)) ⟨n - 1, by omega, rfl⟩ (key' _ _ (Q.2.1 _) (Q.2.1 _) (by omega)) (key' _ _ (Q.2.1 _) (Q.2.1 _) z)
      have := key _ _ (by omega) (Q.2.1 _) L
      have c := Q.2.1 (k + 1)
      have e : q (k + 1) = q t := by rw [et]; omega
      exact hu_ne Q (by omega) (by omega) e
  · induction d with
    | zero =>
      intro _
      have := hu_ne Q (i := t) (j := t + 1) (by omega) (by omega)
      have := Q.2.1 (t + 1)
      show q (t + 1) < q t
      omega
    | succ d ih =>
      intro hd
      have a := ih (by omega)
      have b : q (t + d + 1) ≠ q (t + d + 2) := hu_ne Q (by omega) (by omega)
      show q (t + d + 2) < q (t + d + 1)
      apply Nat.lt_of_not_le
      intro z
      have L := ge_lm H B (ge_af_neg ge_af_key) (k := t + d) (r := P 0) ⟨0, by have := Q.2.1 0; omega, rfl⟩ (by
          have := key' _ _ (Q.2.1 (t + d + 1)) (Q.2.1 (t + d)) (by omega)
          show - ge_key (P (q (t + d))) ≤ - ge_key (P (q (t + d + 1)))
          omega) (by
          have := key' _ _ (Q.2.1 (t + d + 1)) (Q.2.1 (t + d + 2)) (by omega)
          show - ge_key (P (q (t + d + 2))) ≤ - ge_key (P (q (t + d + 1)))
          omega)
      have L' : - ge_key (P 0) ≤ - ge_key (P (q (t + d + 1))) := L
      have := key (q (t + d + 1)) 0 (Q.2.1 _) (by have := Q.2.1 0; omega) (by omega)
      exact hu_ne Q (i := 0) (j := t + d + 1) (by omega) (by omega) (by rw [Q.2.2.1]; omega)

theorem sc_low {n : Nat} {P : Nat → Int × Int} {m : Nat} {q : Nat → Nat} (Q : hu_Q n P m q) (B : ge_bd (ge_St P n)) {t : Nat} (tm : t < m) (et : q t = n - 1) (up : ∀ k, k < t → q k < q (k + 1)) : sc_C 0 (-1) 64 (ge_St P n) n P t q := by
  refine ⟨fun i j a b => ?_, fun i hi => ⟨i, hi, rfl⟩, Q.2.2.1, et, fun k _ => Q.2.1 k, fun k hk => ⟨hu_nx Q k, ?_⟩, fun k hk => ?_⟩
  · rw [ge_Dk]; have := Q.1 i j a b; omega
  · rw [ge_Dk]; have := Q.1 _ _ (up k hk) (Q.2.1 _); omega
  · exact ge_tri Q.2.2.2 B (by omega) (by omega) (by omega)
theorem sc_high {n : Nat} {P : Nat → Int × Int} {m : Nat} {q : Nat → Nat} (Q : hu_Q n P m q) (B : ge_bd (ge_St P n)) {t : Nat} (t0 : 0 < t) (tm : t < m) (et : q t = n - 1) (dn : ∀ d, t + d < m → q (t + d + 1) < q (t + d)) : sc_C 0 1 (-64) (ge_St P n) n (fun p => P (n - 1 - p)) (m - t) (fun k => n - 1 - q (t + k)) := by
  have hq := Q.2.1
  have e : ∀ k, n - 1 - (n - 1 - q k) = q k := fun k => by have := hq k; omega
  have n0 := hq 0
  refine ⟨fun i j a b => ?_, fun i hi => ⟨n - 1 - i, by omega, rfl⟩, ?_, ?_, fun k _ => by have := hq (t + k); show n - 1 - q (t + k) < n; omega, fun k hk => ?_, fun k hk => ?_⟩
  · show 0 < ge_D 0 1 (-64) (P (n - 1 - i)) (P (n - 1 - j))
    rw [ge_Dk']; have := Q.1 (n - 1 - j) (n - 1 - i) (by omega) (by omega); omega
  · show n - 1 - q (t + 0) = 0
    rw [Nat.add_zero, et]; omega
  · show n - 1 - q (t + (m - t)) = n - 1
    rw [show t + (m - t) = 0 + m by omega, hu_per Q, Q.2.2.1]; omega
  · show ge_nx _ (P (n - 1 - (n - 1 - q (t + k)))) (P (n - 1 - (n - 1 - q (t + (k + 1))))) ∧ 0 < ge_D 0 1 (-64) (P (n - 1 - (n - 1 - q (t + k)))) (P (n - 1 - (n - 1 - q (t + (k + 1)))))
    rw [e, e, ge_Dk']
    refine ⟨hu_nx Q (t + k), ?_⟩
    have := Q.1 _ _ (dn k (by omega)) (hq _)
    show 0 < ge_key (P (q (t + k))) - ge_key (P (q (t + k + 1)))
    omega
  · show 0 < ge_cr (P (n - 1 - (n - 1 - q (t + k)))) (P (n - 1 - (n - 1 - q (t + (k + 1))))) (P (n - 1 - (n - 1 - q (t + (k + 2)))))
    rw [e, e, e]
    exact ge_tri Q.2.2.2 B (i := t + k) (j := t + (k + 1)) (k := t + (k + 2)) (by omega) (by omega) (by omega)

section
variable {f_present f_count f_size f_keptSize f_waiting : Int32} {a_placeOf a_x a_y a_hull a_kept a_found a_order a_waitA a_waitB a_nextLow a_beforeLow a_nextHigh a_beforeHigh : Nat → Int32} {n : Nat} {P : Nat → Int × Int} {m : Nat} {q : Nat → Nat}
theorem wx_pushL (X : wk_XP n P a_x a_y) {b M i : Nat} {s : Nat → Nat} {hull : Nat → Int32} (hb : b + M + 1 ≤ 48) (hs : ∀ j, j < M → hull (b + j) = nI (s j) ∧ s j < n) (hi : i < n) {post : SX → Prop} (h : ∀ M', 1 ≤ M' → M' ≤ M → (M' = 1 ∨ 0 < ge_cr (P (s (M' - 2))) (P (s (M' - 1))) (P i)) → (∀ j, M' ≤ j → j < M → ge_cr (P (s (j - 1))) (P (s j)) (P i) ≤ 0) → post (f_present, f_count, nI (b + M' + 1), f_keptSize, f_waiting, a_placeOf, a_x, a_y, upd hull (b + M') (nI i), a_kept, a_found, a_order, a_waitA, a_waitB, a_nextLow, a_beforeLow, a_nextHigh, a_beforeHigh)) : ∀ e N, e + 1 ≤ M → e < N → (∀ j, e + 1 ≤ j → j < M → ge_cr (P (s (j - 1))) (P (s j)) (P i) ≤ 0) → wX_pushTurning_0 post (nI i) (nI (b + 1)) f_present f_count f_keptSize f_waiting a_placeOf a_x a_y hull a_kept a_found a_order a_waitA a_waitB a_nextLow a_beforeLow a_nextHigh a_beforeHigh N (nI (b + (e + 1))) := by
  have hn := X.1
  have B := wk_XPb X
  have fin : ∀ M', 1 ≤ M' → M' ≤ M → (M' = 1 ∨ 0 < ge_cr (P (s (M' - 2))) (P (s (M' - 1))) (P i)) → (∀ j, M' ≤ j → j < M → ge_cr (P (s (j - 1))) (P (s j)) (P i) ≤ 0) → wX_pushTurning_51 post (nI i) f_present f_count (nI (b + M')) f_keptSize f_waiting a_placeOf a_x a_y hull a_kept a_found a_order a_waitA a_waitB a_nextLow a_beforeLow a_nextHigh a_beforeHigh := fun M' a1 a2 a3 a4 => by
    unfold wX_pushTurning_51
    refine wx_addCorner (by omega) (by omega) ?_
    dsimp only
    exact h M' a1 a2 a3 a4
  intro e
  induction e with
  | zero =>
    intro N he hN hp
    obtain ⟨N, rfl⟩ : ∃ M, N = M + 1 := ⟨N - 1, by omega⟩
    rw [wX_pushTurning_0]
    exact br_t (nI_le (by omega) (by omega)) (fin 1 (by omega) he (Or.inl rfl) hp)
  | succ e ih =>
    intro N he hN hp
    obtain ⟨N, rfl⟩ : ∃ M, N = M + 1 := ⟨N - 1, by omega⟩
    rw [wX_pushTurning_0]
    have e2 : nI (b + (e + 1 + 1)) - 2 = nI (b + e) := by
      have := pk_sub (a := b + (e + 1 + 1)) (b := 2) (by omega)
      rw [show b + (e + 1 + 1) - 2 = b + e by omega] at this
      exact this
    have e1 : nI (b + (e + 1 + 1)) - 1 = nI (b + (e + 1)) := nI_pred _
    have s1 := hs e (by omega)
    have s2 := hs (e + 1) (by omega)
    dsimp only
    rw [e2, e1, nI_clamp (by omega), nI_clamp (by omega), s1.1, s2.1]
    refine br_f (nI_ge (by omega) (by omega)) ⟨vp_in_nI (by omega) (by omega), vp_in_nI (by omega) (by omega), wx_turn X s1.2 s2.2 hi ?_⟩
    have bd := ge_crb B (p := P (s e)) (q := P (s (e + 1))) (r := P i) ⟨_, s1.2, rfl⟩ ⟨_, s2.2, rfl⟩ ⟨_, hi, rfl⟩
    refine wk_blt 0 (ge_cr (P (s e)) (P (s (e + 1))) (P i)) (fun z => fin (e + 1 + 1) (by omega) he (Or.inr ?_) hp) (fun z => nm_e (ih N (by omega) (by omega) fun j j1 j2 => ?_))
    · exact z
    · by_cases c : j = e + 1
      · subst c; exact z
      · exact hp j (by omega) j2
theorem wx_push (X : wk_XP n P a_x a_y) {b M i : Nat} {s : Nat → Nat} {hull : Nat → Int32} (hM : 1 ≤ M) (hb : b + M + 1 ≤ 48) (hs : ∀ j, j < M → hull (b + j) = nI (s j) ∧ s j < n) (hi : i < n) {post : SX → Prop} (h : ∀ M', 1 ≤ M' → M' ≤ M → (M' = 1 ∨ 0 < ge_cr (P (s (M' - 2))) (P (s (M' - 1))) (P i)) → (∀ j, M' ≤ j → j < M → ge_cr (P (s (j - 1))) (P (s j)) (P i) ≤ 0) → post (f_present, f_count, nI (b + M' + 1), f_keptSize, f_waiting, a_placeOf, a_x, a_y, upd hull (b + M') (nI i), a_kept, a_found, a_order, a_waitA, a_waitB, a_nextLow, a_beforeLow, a_nextHigh, a_beforeHigh)) : wpX_pushTurning post (f_present, f_count, nI (b + M), f_keptSize, f_waiting, a_placeOf, a_x, a_y, hull, a_kept, a_found, a_order, a_waitA, a_waitB, a_nextLow, a_beforeLow, a_nextHigh, a_beforeHigh) (nI i) (nI (b + 1)) := by
  unfold wpX_pushTurning
  have := wx_pushL X hb hs hi h (M - 1) M (by omega) (by omega) (fun j a b => absurd a (by omega))
  rw [show M - 1 + 1 = M by omega] at this
  exact ⟨M, this⟩
/-- one push, with the stack's facts -/
theorem wx_pushI (X : wk_XP n P a_x a_y) {w u v : Int} {S : Int × Int → Prop} {Z : Nat → Int × Int} {t : Nat} {g z : Nat → Nat} (C : sc_C w u v S n Z t g) (hz : ∀ p, p < n → z p < n ∧ P (z p) = Z p) {b M i : Nat} {s : Nat → Nat} {hull : Nat → Int32} (hi : i < n) (I : sc_I Z t g i M s) (hb : b + n + 1 ≤ 48) (hs : ∀ j, j < M → hull (b + j) = nI (z (s j))) {post : SX → Prop} (h : ∀ M' s' hull', sc_I Z t g (i + 1) M' s' → (∀ j, j < M' → hull' (b + j) = nI (z (s' j))) → (∀ j, j ≤ b → hull' j = hull j) → post (f_present, f_count, nI (b + M'), f_keptSize, f_waiting, a_placeOf, a_x, a_y, hull', a_kept, a_found, a_order, a_waitA, a_waitB, a_nextLow, a_beforeLow, a_nextHigh, a_beforeHigh)) : wpX_pushTurning post (f_present, f_count, nI (b + M), f_keptSize, f_waiting, a_placeOf, a_x, a_y, hull, a_kept, a_found, a_order, a_waitA, a_waitB, a_nextLow, a_beforeLow, a_nextHigh, a_beforeHigh) (nI (z i)) (nI (b + 1)) := by
  have I' := I
  obtain ⟨m1, m2, s0, sl, inc, loc, cont⟩ := I
  have lt : ∀ j, j < M → s j < n := fun j hj => by
    by_cases c : j = M - 1
    · rw [c, sl]; omega
    · have := sc_up' inc (i := j) (j := M - 1) (by omega) (by omega)
      omega
  refine wx_push X (s := fun j => z (s j)) m1 (by omega) (fun j hj => ⟨hs j hj, (hz _ (lt j hj)).1⟩) (hz i hi).1 fun M' a1 a2 a3 a4 => ?_
  have J := sc_step C I' hi a1 a2 (by
      rcases a3 with e | e
      · exact Or.inl e
      · refine Or.inr ?_
        rw [← (hz _ (lt (M' - 2) (by omega))).2, ← (hz _ (lt (M' - 1) (by omega))).2, ← (hz i hi).2]; exact e)
    (fun j j1 j2 => by
      have := a4 j j1 j2
      rw [← (hz _ (lt (j - 1) (by omega))).2, ← (hz _ (lt j (by omega))).2, ← (hz i hi).2]; exact this)
  refine h (M' + 1) _ _ J (fun j hj => ?_) (fun j hj => pk_un (by omega))
  show upd hull (b + M') _ (b + j) = nI (z (if j = M' then i else s j))
  by_cases c : j = M'
  · subst c; rw [pk_us, if_pos rfl]
  · rw [pk_un (by omega), if_neg c]; exact hs j (by omega)
/-- the way back -/
theorem e2_back (X : wk_XP n P a_x a_y) (Q : hu_Q n P m q) {t : Nat} (t0 : 0 < t) (tm : t < m) (C : sc_C 0 1 (-64) (ge_St P n) n (fun p => P (n - 1 - p)) (m - t) (fun k => n - 1 - q (t + k))) {post : SX → Prop} (hp : ∀ u', wk_G f_present (nI n) a_placeOf a_x a_y a_found m q u' → post u') : ∀ (d p N M : Nat) (s : Nat → Nat) (hull : Nat → Int32), p + d = n → d < N → sc_I (fun p => P (n - 1 - p)) (m - t) (fun k => n - 1 - q (t + k)) p M s → (∀ j, j < M → hull (t + j) = nI (n - 1 - s j)) → (∀ k, k ≤ t → hull k = nI (q k)) → wX_scanTwice_34 post (nI (t + 1)) N (wk_i ((n : Int) - 1 - p)) f_present (nI n) (nI (t + M)) f_keptSize f_waiting a_placeOf a_x a_y hull a_kept a_found a_order a_waitA a_waitB a_nextLow a_beforeLow a_nextHigh a_beforeHigh := by
  have hn := X.1
  have hmn := hu_mn Q
  intro d
  induction d with
  | zero =>
    intro p N M s hull hp' hN I hs hh
    obtain ⟨N, rfl⟩ : ∃ M, N = M + 1 := ⟨N - 1, by omega⟩
    have e : p = n := by omega
    subst e
    obtain ⟨eM, es⟩ := sc_end C (by omega) I
    rw [wX_scanTwice_34]
    refine wk_blt ((p : Int) - 1 - p) 0 (fun _ => ?_) (fun z => absurd z (by omega))
    have : nI (t + M) - 1 = nI m := by
      rw [show t + M = m + 1 by omega]; exact nI_pred m
    refine nm_r this (hp _ ⟨rfl, rfl, rfl, rfl, rfl, rfl, rfl, fun k hk => ?_⟩)
    by_cases c : k ≤ t
    · exact hh k c
    · have h1 := hs (k - t) (by omega)
      rw [es (k - t) (by omega)] at h1
      rw [show t + (k - t) = k by omega] at h1
      have := Q.2.1 k
      rw [h1, show p - 1 - (p - 1 - q k) = q k by omega]
  | succ d ih =>
    intro p N M s hull hp' hN I hs hh
    obtain ⟨N, rfl⟩ : ∃ M, N = M + 1 := ⟨N - 1, by omega⟩
    rw [wX_scanTwice_34]
    refine wk_blt ((n : Int) - 1 - p) 0 (fun z => absurd z (by omega)) (fun _ => ?_)
    have ei : wk_i ((n : Int) - 1 - p) = nI (n - 1 - p) := by rw [wk_n]; congr 1; omega
    rw [ei]
    refine wx_pushI X C (z := fun p => n - 1 - p) (fun p hp => ⟨by omega, rfl⟩) (by omega) I (by omega) hs fun M' s' hull' J hs' hk => ?_
    have ed : nI (n - 1 - p) + (-1) = wk_i ((n : Int) - 1 - (p + 1 : Nat)) := by
      rw [wk_n]
      show wk_i _ + wk_i (-1) = _
      rw [wk_add]; congr 1; omega
    exact nm_r ed (ih (p + 1) N M' s' hull' (by omega) (by omega) J hs' (fun k hk' => by rw [hk k hk']; exact hh k hk'))
theorem e2_fwd (X : wk_XP n P a_x a_y) (Q : hu_Q n P m q) {t : Nat} (t0 : 0 < t) (tm : t < m) (et : q t = n - 1) (C : sc_C 0 (-1) 64 (ge_St P n) n P t q) (C' : sc_C 0 1 (-64) (ge_St P n) n (fun p => P (n - 1 - p)) (m - t) (fun k => n - 1 - q (t + k))) {post : SX → Prop} (hp : ∀ u', wk_G f_present (nI n) a_placeOf a_x a_y a_found m q u' → post u') : ∀ (d i N M : Nat) (s : Nat → Nat) (hull : Nat → Int32), i + d = n → d < N → sc_I P t q i M s → (∀ j, j < M → hull (0 + j) = nI (s j)) → wX_scanTwice_2 post N (nI i) f_present (nI n) (nI (0 + M)) f_keptSize f_waiting a_placeOf a_x a_y hull a_kept a_found a_order a_waitA a_waitB a_nextLow a_beforeLow a_nextHigh a_beforeHigh := by
  have hn := X.1
  have hm := hu_m Q
  have hmn := hu_mn Q
  intro d
  induction d with
  | zero =>
    intro i N M s hull hi hN I hs
    obtain ⟨N, rfl⟩ : ∃ M, N = M + 1 := ⟨N - 1, by omega⟩
    have e : i = n := by omega
    subst e
    obtain ⟨eM, es⟩ := sc_end C (by omega) I
    have hh : ∀ k, k ≤ t → hull k = nI (q k) := fun k hk => by
      have := hs k (by omega)
      rw [Nat.zero_add, es k hk] at this
      exact this
    rw [wX_scanTwice_2]
    have e2 : nI i - 2 = wk_i ((i : Int) - 1 - (1 : Nat)) := by
      rw [wk_n]
      show wk_i _ - wk_i 2 = _
      rw [wk_sub]; congr 1; omega
    refine br_t (nI_le (by omega) (by omega)) (nm_r e2 ⟨i + 1, ?_⟩)
    have := e2_back X Q t0 tm C' (f_keptSize := f_keptSize) (f_waiting := f_waiting) (a_kept := a_kept) (a_order := a_order) (a_waitA := a_waitA) (a_waitB := a_waitB) (a_nextLow := a_nextLow) (a_beforeLow := a_beforeLow) (a_nextHigh := a_nextHigh) (a_beforeHigh := a_beforeHigh) hp (i - 1) 1 (i + 1) 1 (fun _ => 0) hull (by omega) (by omega) (sc_I1 C') (fun j hj => by
      rw [show j = 0 by omega, Nat.add_zero, hh t (Nat.le_refl _), et]; rfl) hh
    rw [show 0 + M = t + 1 by omega]
    exact this
  | succ d ih =>
    intro i N M s hull hi hN I hs
    obtain ⟨N, rfl⟩ : ∃ M, N = M + 1 := ⟨N - 1, by omega⟩
    rw [wX_scanTwice_2]
    refine br_f (nI_ge (by omega) (by omega)) ?_
    refine wx_pushI X C (b := 0) (z := fun p => p) (fun p hp => ⟨hp, rfl⟩) (by omega) I (by omega) hs fun M' s' hull' J hs' hk => ?_
    exact nm_r (nI_1 i) (ih (i + 1) N M' s' hull' (by omega) (by omega) J hs')
theorem e2_twice (X : wk_XP n P a_x a_y) (Q : hu_Q n P m q) {post : SX → Prop} (hp : ∀ u', wk_G f_present (nI n) a_placeOf a_x a_y a_found m q u' → post u') : wpX_scanTwice post (f_present, nI n, 0, f_keptSize, f_waiting, a_placeOf, a_x, a_y, a_hull, a_kept, a_found, a_order, a_waitA, a_waitB, a_nextLow, a_beforeLow, a_nextHigh, a_beforeHigh) := by
  have hn := X.1
  have hm := hu_m Q
  have hmn := hu_mn Q
  have B := wk_XPb X
  obtain ⟨t, t0, tm, et, up, dn⟩ := hu_mono Q B
  have C := sc_low Q B tm et up
  have C' := sc_high Q B t0 tm et dn
  unfold wpX_scanTwice
  refine ⟨n + 1, ?_⟩
  rw [wX_scanTwice_2]
  refine br_f (nI_ge (a := 0) (by omega) (by omega)) ?_
  unfold wpX_pushTurning
  refine ⟨1, ?_⟩
  rw [wX_pushTurning_0]
  refine br_t (by decide) ?_
  unfold wX_pushTurning_51
  refine wx_addCorner (s := 0) (i := 0) (by omega) (by omega) ?_
  dsimp only
  refine nm_r (e' := nI 1) rfl ?_
  exact e2_fwd X Q t0 tm et C C' hp (n - 1) 1 n 1 (fun _ => 0) (upd a_hull 0 (nI 0)) (by omega) (by omega) (sc_I1 C) (fun j hj => by
    rw [show j = 0 by omega]; exact pk_us)
end
end
section
/-! engine 1 -/
def e1_D (o b c : Int × Int) : Int := ge_D 10000 (10000 * o.1 - 1) (10000 * o.2 + 64) b c
theorem e1_Dq (o b c : Int × Int) : e1_D o b c = 10000 * ge_cr o b c + (ge_key c - ge_key b) := by
  unfold e1_D ge_D ge_cr ge_key; grind
theorem e1_tr (o a b c : Int × Int) : (ge_key b - ge_key o) * e1_D o a c = (ge_key a - ge_key o) * e1_D o b c + (ge_key c - ge_key o) * e1_D o a b := by
  rw [e1_Dq, e1_Dq, e1_Dq]; unfold ge_cr ge_key; grind
theorem e1_sw (o a b : Int × Int) : e1_D o b a = - e1_D o a b := ge_Dsw _ _ _ _ _
/-- on one ray from o the farther one has the greater key -/
theorem e1_ray {o a b : Int × Int} (ha : ge_key o < ge_key a) (hb : ge_key o < ge_key b) (hc : ge_cr o a b = 0) : (ge_sq o b ≤ ge_sq o a → ge_key b ≤ ge_key a) ∧ (ge_sq o a < ge_sq o b → ge_key a < ge_key b) := by
  have na : o ≠ a := fun z => by rw [z] at ha; omega
  have nb : o ≠ b := fun z => by rw [z] at hb; omega
  have e1 := ge_seg (ge_af_sub (ge_key o) ge_af_key) o a b hc
  have e2 := ge_seg (ge_af_sub (ge_key o) ge_af_key) o b a (by rw [ge_sw2, hc]; rfl)
  have A := ge_sqp na
  have B := ge_sqp nb
  rw [ge_dts o a b] at e2
  simp only [Int.sub_self, Int.mul_zero, Int.zero_add] at e1 e2
  have hx : 0 < ge_key a - ge_key o := by omega
  have hy : 0 < ge_key b - ge_key o := by omega
  have s0 : 0 < ge_dt o a b := by
    have w := Int.mul_pos A hy
    rw [e1] at w
    exact Int.pos_of_mul_pos_left w hx
  refine ⟨fun h => ?_, fun h => ?_⟩
  · apply Int.le_of_not_gt
    intro z
    have i1 := Int.mul_lt_mul_of_pos_left (show ge_key a - ge_key o < ge_key b - ge_key o by omega) s0
    have i2 := Int.mul_lt_mul_of_pos_left (show ge_key a - ge_key o < ge_key b - ge_key o by omega) A
    have i3 := Int.mul_le_mul_of_nonneg_right h (Int.le_of_lt hx)
    omega
  · apply Int.lt_of_not_ge
    intro z
    have i1 := Int.mul_le_mul_of_nonneg_left (show ge_key b - ge_key o ≤ ge_key a - ge_key o by omega) (Int.le_of_lt s0)
    have i2 := Int.mul_le_mul_of_nonneg_left (show ge_key b - ge_key o ≤ ge_key a - ge_key o by omega) (Int.le_of_lt A)
    have i3 := Int.mul_lt_mul_of_pos_right h hx
    omega
theorem ge_keyb {S : Int × Int → Prop} (hb : ge_bd S) {p : Int × Int} (hp : S p) : 0 ≤ ge_key p ∧ ge_key p ≤ 4095 := by
  have := hb p hp
  unfold ge_key; omega
theorem e1_ne {n : Nat} {P : Nat → Int × Int} {m : Nat} {q : Nat → Nat} (Q : hu_Q n P m q) (B : ge_bd (ge_St P n)) {a b : Nat} (ha : a < n) (hb : b < n) (h : a ≠ b) : e1_D (P 0) (P a) (P b) ≠ 0 := by
  rw [e1_Dq]
  have k1 := ge_keyb B (p := P a) ⟨a, ha, rfl⟩
  have k2 := ge_keyb B (p := P b) ⟨b, hb, rfl⟩
  have : ge_key (P a) ≠ ge_key (P b) := fun z => by
    rcases Nat.lt_or_gt_of_ne h with c | c
    · have := Q.1 a b c hb; omega
    · have := Q.1 b a c ha; omega
  omega
/-- the places in their order round place 0 -/
def e1_O (n : Nat) (P : Nat → Int × Int) (i : Nat) (ord : Nat → Nat) : Prop :=
  (∀ p, p + 1 < i → 1 ≤ ord p ∧ ord p < i) ∧ (∀ p r, p < r → r + 1 < i → 0 < e1_D (P 0) (P (ord p)) (P (ord r))) ∧ (∀ k, 1 ≤ k → k < i → ∃ p, p + 1 < i ∧ ord p = k)

def e1_z (ord : Nat → Nat) (p : Nat) : Nat := if p = 0 then 0 else ord (p - 1)
/-- the last corner comes last -/
theorem e1_last {n : Nat} {P : Nat → Int × Int} {m : Nat} {q : Nat → Nat} (Q : hu_Q n P m q) (B : ge_bd (ge_St P n)) {r : Nat} (hr : r < n) (ne : r ≠ q (m - 1)) : 0 < e1_D (P 0) (P r) (P (q (m - 1))) := by
  have hm := hu_m Q
  have N := hu_nx Q (m - 1)
  have e0 : q (m - 1 + 1) = 0 := by
    rw [show m - 1 + 1 = 0 + m by omega, hu_per Q, Q.2.2.1]
  rw [e0] at N
  have Sr : ge_St P n (P r) := ⟨r, hr, rfl⟩
  have k1 := ge_keyb B Sr
  have k2 := ge_keyb B N.1
  have k0 := ge_keyb B N.2.1
  rw [e1_Dq, ← ge_rot (P (q (m - 1))) (P 0) (P r)]
  rcases N.2.2.2 _ Sr with c | ⟨c, d0, d1⟩
  · omega
  · have e := ge_seg ge_af_key (P (q (m - 1))) (P 0) (P r) c
    have E := ge_sqp N.2.2.1
    have q1 : q (m - 1) ≠ 0 := fun z => hu_ne Q (i := 0) (j := m - 1) (by omega) (by omega) (by rw [z, Q.2.2.1])
    have kk := Q.1 0 (q (m - 1)) (by omega) (Q.2.1 _)
    have le : ge_key (P r) ≤ ge_key (P (q (m - 1))) := by
      have x := Int.mul_nonneg d0 (show 0 ≤ ge_key (P (q (m - 1))) - ge_key (P 0) by omega)
      have z : ge_sq (P (q (m - 1))) (P 0) * (ge_key (P (q (m - 1))) - ge_key (P r)) = ge_dt (P (q (m - 1))) (P 0) (P r) * (ge_key (P (q (m - 1))) - ge_key (P 0)) := by grind
      have := ge_nn E z x
      omega
    have nk : ge_key (P r) ≠ ge_key (P (q (m - 1))) := fun z => by
      rcases Nat.lt_or_gt_of_ne ne with w | w
      · have := Q.1 _ _ w (Q.2.1 _); omega
      · have := Q.1 _ _ w hr; omega
    omega
theorem sc_around {n : Nat} {P : Nat → Int × Int} {m : Nat} {q : Nat → Nat} (Q : hu_Q n P m q) (B : ge_bd (ge_St P n)) {ord : Nat → Nat} (O : e1_O n P n ord) : ∃ g, sc_C 10000 (10000 * (P 0).1 - 1) (10000 * (P 0).2 + 64) (ge_St P n) n (fun p => P (e1_z ord p)) (m - 1) g ∧ ∀ k, e1_z ord (g k) = q k := by
  have hm := hu_m Q
  have hmn := hu_mn Q
  obtain ⟨o1, o2, o3⟩ := O
  have ex : ∀ k, ∃ p, p < n ∧ e1_z ord p = q k := fun k => by
    by_cases c : q k = 0
    · exact ⟨0, by omega, by rw [c]; rfl⟩
    · obtain ⟨p, hp, e⟩ := o3 (q k) (by omega) (Q.2.1 k)
      exact ⟨p + 1, by omega, by show (if p + 1 = 0 then 0 else ord (p + 1 - 1)) = q k; rw [if_neg (by omega), Nat.add_sub_cancel, e]⟩
  have zl : ∀ p, p < n → e1_z ord p < n := fun p hp => by
    unfold e1_z
    by_cases c : p = 0
    · rw [if_pos c]; omega
    · rw [if_neg c]; exact (o1 (p - 1) (by omega)).2
  have zD : ∀ i j, i < j → j < n → 0 < e1_D (P 0) (P (e1_z ord i)) (P (e1_z ord j)) := fun i j a b => by
    unfold e1_z
    rw [if_neg (show ¬ j = 0 by omega)]
    have oj := o1 (j - 1) (by omega)
    by_cases c : i = 0
    · rw [if_pos c, e1_Dq, ge_cr0]
      have := Q.1 0 (ord (j - 1)) (by omega) oj.2
      omega
    · rw [if_neg c]; exact o2 (i - 1) (j - 1) (by omega) (by omega)
  obtain ⟨g, hg⟩ : ∃ g : Nat → Nat, ∀ k, g k < n ∧ e1_z ord (g k) = q k := ⟨fun k => Classical.choose (ex k), fun k => Classical.choose_spec (ex k)⟩
  have qD : ∀ k, k + 1 < m → 0 < e1_D (P 0) (P (q k)) (P (q (k + 1))) := fun k hk => by
    rw [e1_Dq]
    by_cases c : k = 0
    · subst c
      rw [Q.2.2.1, ge_cr0]
      have : q 0 ≠ q 1 := hu_ne Q (by omega) (by omega)
      rw [Q.2.2.1] at this
      have := Q.1 0 (q 1) (by omega) (Q.2.1 _)
      show 0 < 10000 * 0 + (ge_key (P (q 1)) - ge_key (P 0))
      omega
    · have T := ge_tri Q.2.2.2 B (i := 0) (j := k) (k := k + 1) (by omega) (by omega) (by omega)
      have T' : 0 < ge_cr (P (q 0)) (P (q k)) (P (q (k + 1))) := T
      rw [Q.2.2.1] at T'
      have k1 := ge_keyb B (p := P (q k)) ⟨q k, Q.2.1 _, rfl⟩
      have k2 := ge_keyb B (p := P (q (k + 1))) ⟨q (k + 1), Q.2.1 _, rfl⟩
      omega
  refine ⟨g, ⟨fun i j a b => zD i j a b, fun i hi => ⟨e1_z ord i, zl i hi, rfl⟩, ?_, ?_, fun k _ => (hg k).1, fun k hk => ?_, fun k hk => ?_⟩, fun k => (hg k).2⟩
  · have h0 := (hg 0).2
    rw [Q.2.2.1] at h0
    apply Classical.byContradiction
    intro z
    have := o1 (g 0 - 1) (by have := (hg 0).1; omega)
    unfold e1_z at h0
    rw [if_neg z] at h0
    omega
  · apply Classical.byContradiction
    intro z
    have h1 := hg (m - 1)
    have a := zD (g (m - 1)) (n - 1) (by omega) (by omega)
    rw [h1.2] at a
    by_cases c : e1_z ord (n - 1) = q (m - 1)
    · rw [c, e1_Dq, ge_cr2] at a; omega
    · have b := e1_last Q B (zl (n - 1) (by omega)) c
      rw [e1_sw] at b
      omega
  · show ge_nx _ (P (e1_z ord (g k))) (P (e1_z ord (g (k + 1)))) ∧ 0 < e1_D (P 0) (P (e1_z ord (g k))) (P (e1_z ord (g (k + 1))))
    rw [(hg k).2, (hg (k + 1)).2]
    exact ⟨hu_nx Q k, qD k (by omega)⟩
  · show 0 < ge_cr (P (e1_z ord (g k))) (P (e1_z ord (g (k + 1)))) (P (e1_z ord (g (k + 2))))
    rw [(hg k).2, (hg (k + 1)).2, (hg (k + 2)).2]
    exact ge_tri Q.2.2.2 B (i := k) (j := k + 1) (k := k + 2) (by omega) (by omega) (by omega)

section
variable {f_present f_count f_size f_keptSize f_waiting : Int32} {a_placeOf a_x a_y a_hull a_kept a_found a_order a_waitA a_waitB a_nextLow a_beforeLow a_nextHigh a_beforeHigh : Nat → Int32} {n : Nat} {P : Nat → Int × Int} {m : Nat} {q : Nat → Nat}
theorem wx_before (X : wk_XP n P a_x a_y) (Q : hu_Q n P m q) {a b : Nat} (a1 : 1 ≤ a) (b1 : 1 ≤ b) (ha : a < n) (hb : b < n) {post : Int32 → Prop} (h1 : 0 < e1_D (P 0) (P a) (P b) → post 1) (h0 : e1_D (P 0) (P a) (P b) ≤ 0 → post 0) : wpX_comesBefore post (f_present, f_count, f_size, f_keptSize, f_waiting, a_placeOf, a_x, a_y, a_hull, a_kept, a_found, a_order, a_waitA, a_waitB, a_nextLow, a_beforeLow, a_nextHigh, a_beforeHigh) (nI a) (nI b) := by
  have B := wk_XPb X
  have n0 : 0 < n := by omega
  have S0 : ge_St P n (P 0) := ⟨0, n0, rfl⟩
  have Sa : ge_St P n (P a) := ⟨a, ha, rfl⟩
  have Sb : ge_St P n (P b) := ⟨b, hb, rfl⟩
  have ka := Q.1 0 a (by omega) ha
  have kb := Q.1 0 b (by omega) hb
  have k0 := ge_keyb B S0
  have k1 := ge_keyb B Sa
  have k2 := ge_keyb B Sb
  have bc := ge_crb B S0 Sa Sb
  have b1 := ge_sqb B S0 Sa
  have b2 := ge_sqb B S0 Sb
  have e := e1_Dq (P 0) (P a) (P b)
  unfold wpX_comesBefore
  dsimp only
  refine wx_turn (i := 0) X n0 ha hb ?_
  refine wk_blt 0 (ge_cr (P 0) (P a) (P b)) (fun z => h1 (by omega)) (fun z => ?_)
  refine wk_beq (ge_cr (P 0) (P a) (P b)) 0 (fun y => ?_) (fun y => h0 (by omega))
  refine wx_square (i := 0) X n0 ha (wx_square (i := 0) X n0 hb ?_)
  have R := e1_ray ka kb y
  refine wk_ble (ge_sq (P 0) (P b)) (ge_sq (P 0) (P a)) (fun v => h0 ?_) (fun v => h1 ?_)
  · have := R.1 v; omega
  · have := R.2 v; omega
theorem e1_ins (X : wk_XP n P a_x a_y) (Q : hu_Q n P m q) {i : Nat} (i1 : 1 ≤ i) (hi : i < n) {ord : Nat → Nat} (O : e1_O n P i ord) {post : SX → Prop} {J2 : Int32 → (Nat → Int32) → (Nat → Int32) → (Nat → Int32) → (Nat → Int32) → (Nat → Int32) → (Nat → Int32) → (Nat → Int32) → (Nat → Int32) → (Nat → Int32) → (Nat → Int32) → (Nat → Int32) → (Nat → Int32) → (Nat → Int32) → Prop} (hJ : ∀ ord' order', e1_O n P (i + 1) ord' → (∀ p, p < i → order' p = nI (ord' p)) → J2 (nI (i + 1)) a_placeOf a_x a_y a_hull a_kept a_found order' a_waitA a_waitB a_nextLow a_beforeLow a_nextHigh a_beforeHigh) : ∀ (k N : Nat) (order : Nat → Int32), k + 1 ≤ i → k < N → (∀ p, p < k → order p = nI (ord p)) → (∀ p, k ≤ p → p + 1 < i → order (p + 1) = nI (ord p) ∧ 0 < e1_D (P 0) (P i) (P (ord p))) → wX_scanAround_14 post J2 (nI i) f_present (nI n) f_size f_keptSize f_waiting N (nI k) a_placeOf a_x a_y a_hull a_kept a_found order a_waitA a_waitB a_nextLow a_beforeLow a_nextHigh a_beforeHigh := by
  have hn := X.1
  have B := wk_XPb X
  have n0 : 0 < n := by omega
  obtain ⟨o1, o2, o3⟩ := O
  have fin : ∀ (k : Nat) (order : Nat → Int32), k + 1 ≤ i → (∀ p, p < k → order p = nI (ord p)) → (∀ p, k ≤ p → p + 1 < i → order (p + 1) = nI (ord p) ∧ 0 < e1_D (P 0) (P i) (P (ord p))) → (∀ p, p < k → 0 < e1_D (P 0) (P (ord p)) (P i)) → wX_scanAround_54 post J2 (nI i) (nI k) f_present (nI n) f_size f_keptSize f_waiting a_placeOf a_x a_y a_hull a_kept a_found order a_waitA a_waitB a_nextLow a_beforeLow a_nextHigh a_beforeHigh := fun k order hk h1 h2 h3 => by
    unfold wX_scanAround_54
    refine ⟨vp_in_nI (by omega) (by omega), nm_r (e' := upd order k (nI i)) (by rw [nI_clamp (by omega), wk_bn (by omega)]) (nm_r (nI_1 i) (hJ (fun p => if p < k then ord p else if p = k then i else ord (p - 1)) _ ⟨fun p hp => ?_, fun p r hpr hr => ?_, fun j j1 ji => ?_⟩ (fun p hp => ?_)))⟩
    · show 1 ≤ (if p < k then ord p else if p = k then i else ord (p - 1)) ∧ (if p < k then ord p else if p = k then i else ord (p - 1)) < i + 1
      by_cases c : p < k
      · rw [if_pos c]; have := o1 p (by omega); omega
      · rw [if_neg c]
        by_cases c2 : p = k
        · rw [if_pos c2]; omega
        · rw [if_neg c2]; have := o1 (p - 1) (by omega); omega
    · show 0 < e1_D (P 0) (P (if p < k then ord p else if p = k then i else ord (p - 1))) (P (if r < k then ord r else if r = k then i else ord (r - 1)))
      by_cases c : p < k
      · rw [if_pos c]
        by_cases d : r < k
        · rw [if_pos d]; exact o2 p r hpr (by omega)
        · rw [if_neg d]
          by_cases d2 : r = k
          · rw [if_pos d2]; exact h3 p c
          · rw [if_neg d2]; exact o2 p (r - 1) (by omega) (by omega)
      · rw [if_neg c, if_neg (show ¬ r < k by omega), if_neg (show ¬ r = k by omega)]
        by_cases c2 : p = k
        · rw [if_pos c2]; exact (h2 (r - 1) (by omega) (by omega)).2
        · rw [if_neg c2]; exact o2 (p - 1) (r - 1) (by omega) (by omega)
    · by_cases c : j = i
      · exact ⟨k, by omega, by show (if k < k then ord k else if k = k then i else _) = j; rw [if_neg (by omega), if_pos rfl, c]⟩
      · obtain ⟨p, hp, e⟩ := o3 j j1 (by omega)
        by_cases d : p < k
        · exact ⟨p, by omega, by show (if p < k then ord p else _) = j; rw [if_pos d, e]⟩
        · exact ⟨p + 1, by omega, by show (if p + 1 < k then _ else if p + 1 = k then i else ord (p + 1 - 1)) = j; rw [if_neg (by omega), if_neg (by omega), Nat.add_sub_cancel, e]⟩
    · show upd order k (nI i) p = nI (if p < k then ord p else if p = k then i else ord (p - 1))
      by_cases c : p < k
      · rw [if_pos c, pk_un (by omega)]; exact h1 p c
      · rw [if_neg c]
        by_cases c2 : p = k
        · rw [if_pos c2, c2]; exact pk_us
        · rw [if_neg c2, pk_un c2]
          have := (h2 (p - 1) (by omega) (by omega)).1
          rwa [show p - 1 + 1 = p by omega] at this
  intro k
  induction k with
  | zero =>
    intro N order hk hN h1 h2
    obtain ⟨N, rfl⟩ : ∃ M, N = M + 1 := ⟨N - 1, by omega⟩
    rw [wX_scanAround_14]
    exact br_t (by decide) (fin 0 order hk h1 h2 (fun p hp => absurd hp (by omega)))
  | succ k ih =>
    intro N order hk hN h1 h2
    obtain ⟨N, rfl⟩ : ∃ M, N = M + 1 := ⟨N - 1, by omega⟩
    have ok := o1 k (by omega)
    rw [wX_scanAround_14]
    dsimp only
    rw [nI_pred, nI_clamp (show k < 2 ^ 31 by omega), h1 k (by omega)]
    refine br_f (nI_nle (by omega) (by omega)) ⟨vp_in_nI (by omega) (by omega), wx_before X Q i1 ok.1 hi (by omega) (fun z => ?_) (fun z => ?_)⟩
    · refine br_f (by decide) ⟨vp_in_nI (by omega) (by omega), vp_in_nI (by omega) (by omega), nm_r (e' := upd order (k + 1) (nI (ord k))) (by rw [nI_clamp (by omega), wk_bn' (by omega)]) (nm_r (pk_m1 k) ?_)⟩
      refine ih N (upd order (k + 1) (nI (ord k))) (by omega) (by omega) (fun p hp => by rw [pk_un (by omega)]; exact h1 p (by omega)) (fun p p1 p2 => ?_)
      by_cases c : p = k
      · subst c; exact ⟨pk_us, z⟩
      · rw [pk_un (by omega)]; exact h2 p (by omega) p2
    · refine br_t rfl (fin (k + 1) order hk h1 h2 (fun p hp => ?_))
      have ne := e1_ne Q B hi (show ord k < n by omega) (by omega)
      have sw := e1_sw (P 0) (P i) (P (ord k))
      by_cases c : p = k
      · subst c; omega
      · have op := o1 p (by omega)
        have d1 := o2 p k (by omega) (by omega)
        have d2 : 0 < e1_D (P 0) (P (ord k)) (P i) := by omega
        have T := e1_tr (P 0) (P (ord p)) (P (ord k)) (P i)
        have kp := Q.1 0 (ord p) (by omega) (by omega)
        have kk := Q.1 0 (ord k) (by omega) (by omega)
        have ki := Q.1 0 i (by omega) hi
        have x1 := Int.mul_pos (show 0 < ge_key (P (ord p)) - ge_key (P 0) by omega) d2
        have x2 := Int.mul_pos (show 0 < ge_key (P i) - ge_key (P 0) by omega) d1
        exact ge_pos (show 0 < ge_key (P (ord k)) - ge_key (P 0) by omega) T (by omega)
theorem e1_scan (X : wk_XP n P a_x a_y) (Q : hu_Q n P m q) {w u v : Int} {ord g : Nat → Nat} (O : e1_O n P n ord) (C : sc_C w u v (ge_St P n) n (fun p => P (e1_z ord p)) (m - 1) g) (hg : ∀ k, e1_z ord (g k) = q k) {order : Nat → Int32} (ho : ∀ p, p + 1 < n → order p = nI (ord p)) {post : SX → Prop} (hp : ∀ u', wk_G f_present (nI n) a_placeOf a_x a_y a_found m q u' → post u') : ∀ (d p N M : Nat) (s : Nat → Nat) (hull : Nat → Int32), p + 1 + d = n → d < N → sc_I (fun p => P (e1_z ord p)) (m - 1) g (p + 1) M s → (∀ j, j < M → hull (0 + j) = nI (e1_z ord (s j))) → wX_scanAround_75 post N (nI p) f_present (nI n) (nI (0 + M)) f_keptSize f_waiting a_placeOf a_x a_y hull a_kept a_found order a_waitA a_waitB a_nextLow a_beforeLow a_nextHigh a_beforeHigh := by
  have hn := X.1
  have hm := hu_m Q
  have zl : ∀ p, p < n → e1_z ord p < n := fun p hp => by
    unfold e1_z
    by_cases c : p = 0
    · rw [if_pos c]; omega
    · rw [if_neg c]; exact (O.1 (p - 1) (by omega)).2
  intro d
  induction d with
  | zero =>
    intro p N M s hull hp' hN I hs
    obtain ⟨N, rfl⟩ : ∃ M, N = M + 1 := ⟨N - 1, by omega⟩
    have e : p + 1 = n := by omega
    rw [e] at I
    obtain ⟨eM, es⟩ := sc_end C (by omega) I
    rw [wX_scanAround_75]
    dsimp only
    rw [nI_1]
    refine br_t (nI_le (by omega) (by omega)) (hp _ ⟨rfl, rfl, ?_, rfl, rfl, rfl, rfl, fun k hk => ?_⟩)
    · rw [show 0 + M = m by omega]
    · have := hs k (by omega)
      rw [Nat.zero_add, es k (by omega), hg] at this
      exact this
  | succ d ih =>
    intro p N M s hull hp' hN I hs
    obtain ⟨N, rfl⟩ : ∃ M, N = M + 1 := ⟨N - 1, by omega⟩
    rw [wX_scanAround_75]
    dsimp only
    rw [nI_1, nI_clamp (show p < 2 ^ 31 by omega), ho p (by omega)]
    refine br_f (nI_ge (by omega) (by omega)) ⟨vp_in_nI (by omega) (by omega), ?_⟩
    have ez : e1_z ord (p + 1) = ord p := by
      unfold e1_z; rw [if_neg (by omega), Nat.add_sub_cancel]
    rw [← ez]
    refine wx_pushI X C (b := 0) (z := e1_z ord) (fun p hp => ⟨zl p hp, rfl⟩) (by omega) I (by omega) hs fun M' s' hull' J hs' hk => ?_
    exact nm_e (ih (p + 1) N M' s' hull' (by omega) (by omega) J hs')
theorem e1_sort (X : wk_XP n P a_x a_y) (Q : hu_Q n P m q) {post : SX → Prop} (hp : ∀ u', wk_G f_present (nI n) a_placeOf a_x a_y a_found m q u' → post u') : ∀ (d i N : Nat) (ord : Nat → Nat) (order : Nat → Int32), 1 ≤ i → i + d = n → d < N → e1_O n P i ord → (∀ p, p + 1 < i → order p = nI (ord p)) → wX_scanAround_2 post f_present (nI n) 0 f_keptSize f_waiting N (nI i) a_placeOf a_x a_y a_hull a_kept a_found order a_waitA a_waitB a_nextLow a_beforeLow a_nextHigh a_beforeHigh := by
  have hn := X.1
  have hm := hu_m Q
  have hmn := hu_mn Q
  have B := wk_XPb X
  intro d
  induction d with
  | zero =>
    intro i N ord order i1 hi hN O ho
    obtain ⟨N, rfl⟩ : ∃ M, N = M + 1 := ⟨N - 1, by omega⟩
    have e : i = n := by omega
    subst e
    obtain ⟨g, C, hg⟩ := sc_around Q B O
    rw [wX_scanAround_2]
    refine br_t (nI_le (by omega) (by omega)) ?_
    refine wx_addCorner (s := 0) (i := 0) (by omega) (by omega) ?_
    dsimp only
    refine ⟨i, ?_⟩
    exact e1_scan X Q O C hg ho hp (i - 1) 0 i 1 (fun _ => 0) (upd a_hull 0 (nI 0)) (by omega) (by omega) (sc_I1 C) (fun j hj => by
      rw [show j = 0 by omega]; exact pk_us)
  | succ d ih =>
    intro i N ord order i1 hi hN O ho
    obtain ⟨N, rfl⟩ : ∃ M, N = M + 1 := ⟨N - 1, by omega⟩
    rw [wX_scanAround_2]
    have ei : nI i - 1 = nI (i - 1) := by
      obtain ⟨k, rfl⟩ : ∃ k, i = k + 1 := ⟨i - 1, by omega⟩
      exact nI_pred k
    refine br_f (nI_ge (by omega) (by omega)) (nm_r ei ⟨i, ?_⟩)
    exact e1_ins X Q i1 (by omega) O (fun ord' order' O' h' => ih (i + 1) N ord' order' (by omega) (by omega) (by omega) O' (fun p hp => h' p (by omega))) (i - 1) i order (by omega) (by omega) (fun p hp => ho p (by omega)) (fun p p1 p2 => absurd p1 (by omega))
theorem e1_around (X : wk_XP n P a_x a_y) (Q : hu_Q n P m q) {post : SX → Prop} (hp : ∀ u', wk_G f_present (nI n) a_placeOf a_x a_y a_found m q u' → post u') : wpX_scanAround post (f_present, nI n, 0, f_keptSize, f_waiting, a_placeOf, a_x, a_y, a_hull, a_kept, a_found, a_order, a_waitA, a_waitB, a_nextLow, a_beforeLow, a_nextHigh, a_beforeHigh) := by
  have hm := hu_m Q
  have hmn := hu_mn Q
  unfold wpX_scanAround
  exact ⟨n, e1_sort X Q hp (n - 1) 1 n (fun _ => 0) a_order (by omega) (by omega) (by omega) ⟨fun p h => absurd h (by omega), fun p r _ h => absurd h (by omega), fun k k1 k2 => absurd k1 (by omega)⟩ (fun p h => absurd h (by omega))⟩
end
end
section
/-! engine 4: chains and bridges -/
def e4_Ch (nx bf : Nat → Int32) (tv : Nat → Nat → Nat → Int) (V : Nat → Prop) (l r M : Nat) (s : Nat → Nat) : Prop :=
  1 ≤ M ∧ s 0 = l ∧ s (M - 1) + 1 = r ∧ (∀ j, j + 1 < M → s j < s (j + 1)) ∧ (∀ j, j + 1 < M → nx (s j) = nI (s (j + 1)) ∧ bf (s (j + 1)) = nI (s j)) ∧ nx (s (M - 1)) = -1 ∧ bf (s 0) = -1 ∧ (∀ j, j + 2 < M → 0 < tv (s j) (s (j + 1)) (s (j + 2))) ∧ (∀ b, V b → l ≤ b → b < r → ∃ j, j < M ∧ s j = b)
def e4_B (nx bf : Nat → Int32) (tv : Nat → Nat → Nat → Int) (V : Nat → Prop) (l r : Nat) : Prop := ∃ M s, e4_Ch nx bf tv V l r M s
theorem e4_rng {nx bf : Nat → Int32} {tv : Nat → Nat → Nat → Int} {V : Nat → Prop} {l r M : Nat} {s : Nat → Nat} (A : e4_Ch nx bf tv V l r M s) {j : Nat} (hj : j < M) : l ≤ s j ∧ s j < r := by
  obtain ⟨m1, s0, sl, inc, _⟩ := A
  constructor
  · by_cases c : j = 0
    · rw [c, s0]; exact Nat.le_refl _
    · have := sc_up' inc (i := 0) (j := j) (by omega) hj
      omega
  · by_cases c : j = M - 1
    · rw [c]; omega
    · have := sc_up' inc (i := j) (j := M - 1) (by omega) (by omega)
      omega
theorem e4_fr {nx bf nx' bf' : Nat → Int32} {tv : Nat → Nat → Nat → Int} {V : Nat → Prop} {l r : Nat} (A : e4_B nx bf tv V l r) (h : ∀ i, l ≤ i → i < r → nx' i = nx i ∧ bf' i = bf i) : e4_B nx' bf' tv V l r := by
  obtain ⟨M, s, A⟩ := A
  have R := fun j (hj : j < M) => e4_rng A hj
  obtain ⟨m1, s0, sl, inc, lk, nl, bl, tu, co⟩ := A
  refine ⟨M, s, m1, s0, sl, inc, fun j hj => ?_, ?_, ?_, tu, co⟩
  · have r1 := R j (by omega)
    have r2 := R (j + 1) hj
    rw [(h _ r1.1 r1.2).1, (h _ r2.1 r2.2).2]
    exact lk j hj
  · have r1 := R (M - 1) (by omega)
    rw [(h _ r1.1 r1.2).1]; exact nl
  · have r1 := R 0 (by omega)
    rw [(h _ r1.1 r1.2).2]; exact bl
theorem e4_join {nx bf : Nat → Int32} {tv : Nat → Nat → Nat → Int} {V : Nat → Prop} {l c r M M' : Nat} {s s' : Nat → Nat} (A : e4_Ch nx bf tv V l c M s) (A' : e4_Ch nx bf tv V c r M' s') {a b : Nat} (ha : a < M) (hb : b < M') (da : ∀ k, a < k → k < M → ¬ V (s k)) (db : ∀ k, k < b → ¬ V (s' k)) (ca : a = 0 ∨ 0 < tv (s (a - 1)) (s a) (s' b)) (cb : b + 1 = M' ∨ 0 < tv (s a) (s' b) (s' (b + 1))) : e4_B (upd nx (s a) (nI (s' b))) (upd bf (s' b) (nI (s a))) tv V l r := by
  have R := fun j (hj : j < M) => e4_rng A hj
  have R' := fun j (hj : j < M') => e4_rng A' hj
  obtain ⟨m1, s0, sl, inc, lk, nl, bl, tu, co⟩ := A
  obtain ⟨m1', s0', sl', inc', lk', nl', bl', tu', co'⟩ := A'
  have Ra := R a ha
  have Rb := R' b hb
  refine ⟨a + 1 + (M' - b), fun k => if k ≤ a then s k else s' (b + (k - a - 1)), by omega, ?_, ?_, fun j hj => ?_, fun j hj => ?_, ?_, ?_, fun j hj => ?_, fun v hv h1 h2 => ?_⟩
  · show (if 0 ≤ a then s 0 else _) = l
    rw [if_pos (by omega), s0]
  · show (if a + 1 + (M' - b) - 1 ≤ a then _ else s' (b + (a + 1 + (M' - b) - 1 - a - 1))) + 1 = r
    rw [if_neg (by omega), show b + (a + 1 + (M' - b) - 1 - a - 1) = M' - 1 by omega, sl']
  · show (if j ≤ a then s j else s' (b + (j - a - 1))) < (if j + 1 ≤ a then s (j + 1) else s' (b + (j + 1 - a - 1)))
    by_cases c1 : j + 1 ≤ a
    · rw [if_pos c1, if_pos (by omega)]; exact inc j (by omega)
    · rw [if_neg c1]
      by_cases c2 : j ≤ a
      · rw [if_pos c2, show b + (j + 1 - a - 1) = b by omega, show j = a by omega]; omega
      · rw [if_neg c2, show b + (j + 1 - a - 1) = b + (j - a - 1) + 1 by omega]; exact inc' _ (by omega)
  · show upd nx (s a) (nI (s' b)) (if j ≤ a then s j else s' (b + (j - a - 1))) = nI (if j + 1 ≤ a then s (j + 1) else s' (b + (j + 1 - a - 1))) ∧ upd bf (s' b) (nI (s a)) (if j + 1 ≤ a then s (j + 1) else s' (b + (j + 1 - a - 1))) = nI (if j ≤ a then s j else s' (b + (j - a - 1)))
    by_cases c1 : j + 1 ≤ a
    · have r1 := R (j + 1) (by omega)
      have r2 := sc_up' inc (i := j) (j := a) (by omega) ha
      rw [if_pos c1, if_pos (by omega), pk_un (by omega), pk_un (by omega)]; exact lk j (by omega)
    · rw [if_neg c1]
      by_cases c2 : j ≤ a
      · rw [if_pos c2, show b + (j + 1 - a - 1) = b by omega, show j = a by omega, pk_us, pk_us]; exact ⟨rfl, rfl⟩
      · have r1 := R' (b + (j - a - 1)) (by omega)
        have r2 := sc_up' inc' (i := b) (j := b + (j - a - 1) + 1) (by omega) (by omega)
        rw [if_neg c2, show b + (j + 1 - a - 1) = b + (j - a - 1) + 1 by omega, pk_un (by omega), pk_un (by omega)]; exact lk' _ (by omega)
  · show upd nx (s a) (nI (s' b)) (if a + 1 + (M' - b) - 1 ≤ a then _ else s' (b + (a + 1 + (M' - b) - 1 - a - 1))) = -1
    have r1 := R' (M' - 1) (by omega)
    rw [if_neg (by omega), show b + (a + 1 + (M' - b) - 1 - a - 1) = M' - 1 by omega, pk_un (by omega), nl']
  · show upd bf (s' b) (nI (s a)) (if 0 ≤ a then s 0 else _) = -1
    have r1 := R 0 (by omega)
    rw [if_pos (by omega), pk_un (by omega), bl]
  · show 0 < tv (if j ≤ a then s j else s' (b + (j - a - 1))) (if j + 1 ≤ a then s (j + 1) else s' (b + (j + 1 - a - 1))) (if j + 2 ≤ a then s (j + 2) else s' (b + (j + 2 - a - 1)))
    by_cases c1 : j + 2 ≤ a
    · rw [if_pos c1, if_pos (by omega), if_pos (by omega)]; exact tu j (by omega)
    · rw [if_neg c1]
      by_cases c2 : j + 1 ≤ a
      · rw [if_pos c2, if_pos (by omega), show b + (j + 2 - a - 1) = b by omega]
        rcases ca with z | z
        · omega
        · rwa [show a - 1 = j by omega, show a = j + 1 by omega] at z
      · rw [if_neg c2]
        by_cases c3 : j ≤ a
        · rw [if_pos c3, show b + (j + 1 - a - 1) = b by omega, show b + (j + 2 - a - 1) = b + 1 by omega, show j = a by omega]
          rcases cb with z | z
          · omega
          · exact z
        · rw [if_neg c3, show b + (j + 1 - a - 1) = b + (j - a - 1) + 1 by omega, show b + (j + 2 - a - 1) = b + (j - a - 1) + 2 by omega]; exact tu' _ (by omega)
  · by_cases c1 : v < c
    · obtain ⟨j, jM, e⟩ := co v hv h1 c1
      have ja : j ≤ a := by
        apply Nat.le_of_not_lt
        intro z
        exact da j z jM (e ▸ hv)
      exact ⟨j, by omega, by show (if j ≤ a then s j else _) = v; rw [if_pos ja, e]⟩
    · obtain ⟨j, jM, e⟩ := co' v hv (by omega) h2
      have jb : b ≤ j := by
        apply Nat.le_of_not_lt
        intro z
        exact db j z (e ▸ hv)
      exact ⟨a + 1 + (j - b), by omega, by show (if a + 1 + (j - b) ≤ a then _ else s' (b + (a + 1 + (j - b) - a - 1))) = v; rw [if_neg (by omega), show b + (a + 1 + (j - b) - a - 1) = j by omega, e]⟩

section
variable {f_present f_count f_size f_keptSize f_waiting : Int32} {a_placeOf a_x a_y a_hull a_kept a_found a_order a_waitA a_waitB a_nextLow a_beforeLow a_nextHigh a_beforeHigh : Nat → Int32} {n : Nat} {P : Nat → Int × Int}
theorem e4_58Low (X : wk_XP n P a_x a_y) {V : Nat → Prop} (VX : ∀ b, V b → ∀ a c, a < b → b < c → c < n → 0 < ge_cr (P a) (P b) (P c)) {l c r M M' : Nat} {s s' : Nat → Nat} (A : e4_Ch a_nextLow a_beforeLow (fun a b c => ge_cr (P a) (P b) (P c)) V l c M s) (A' : e4_Ch a_nextLow a_beforeLow (fun a b c => ge_cr (P a) (P b) (P c)) V c r M' s') (hr : r ≤ n) {b : Nat} (hb : b < M') {post : SX → Prop} {J8 : Int32 → Int32 → Int32 → Prop} : ∀ (a : Nat) (f : Int32) (N : Nat), a < M → a < N → (∀ k, a < k → k < M → ¬ V (s k)) → (∀ (a' : Nat) (f' : Int32), a' ≤ a → (a' = a → f' = f) → (a' < a → f' = 1) → (∀ k, a' < k → k < M → ¬ V (s k)) → (a' = 0 ∨ 0 < ge_cr (P (s (a' - 1))) (P (s a')) (P (s' b))) → J8 (nI (s a')) (nI (s' b)) f') → wX_bridgeLow_58 post J8 (nI (s' b)) f_present f_count f_size f_keptSize f_waiting a_placeOf a_x a_y a_hull a_kept a_found a_order a_waitA a_waitB a_nextLow a_beforeLow a_nextHigh a_beforeHigh N (nI (s a)) f := by
  have hn := X.1
  have B := wk_XPb X
  have Rb := e4_rng A' hb
  intro a
  induction a with
  | zero =>
    intro f N ha hN dr hJ
    obtain ⟨N, rfl⟩ : ∃ M, N = M + 1 := ⟨N - 1, by omega⟩
    have Ra := e4_rng A ha
    rw [wX_bridgeLow_58]
    dsimp only
    rw [nI_clamp (show s 0 < 2 ^ 31 by omega), A.2.2.2.2.2.2.1]
    exact ⟨vp_in_nI (by omega) (by omega), br_t (by decide) (hJ 0 f (by omega) (fun _ => rfl) (fun z => absurd z (by omega)) dr (Or.inl rfl))⟩
  | succ a ih =>
    intro f N ha hN dr hJ
    obtain ⟨N, rfl⟩ : ∃ M, N = M + 1 := ⟨N - 1, by omega⟩
    have Ra := e4_rng A ha
    have Ra' := e4_rng A (show a < M by omega)
    have up := A.2.2.2.1 a ha
    rw [wX_bridgeLow_58]
    dsimp only
    rw [nI_clamp (show s (a + 1) < 2 ^ 31 by omega), (A.2.2.2.2.1 a ha).2]
    have v1 := vp_in_nI (n := s (a + 1)) (N := 24) (by omega) (by omega)
    refine ⟨v1, br_f (nI_pos (by omega)) ⟨v1, wx_turn X (by omega) (by omega) (by omega) ?_⟩⟩
    have bd := ge_crb B (p := P (s a)) (q := P (s (a + 1))) (r := P (s' b)) ⟨_, by omega, rfl⟩ ⟨_, by omega, rfl⟩ ⟨_, by omega, rfl⟩
    refine wk_blt 0 (ge_cr (P (s a)) (P (s (a + 1))) (P (s' b))) (fun z => hJ (a + 1) f (by omega) (fun _ => rfl) (fun y => absurd y (by omega)) dr (Or.inr (by show 0 < ge_cr (P (s a)) (P (s (a + 1))) (P (s' b)); omega))) (fun z => ⟨v1, nm_e ?_⟩)
    refine ih 1 N (by omega) (by omega) (fun k k1 k2 => ?_) (fun a' f' h1 h2 h3 h4 h5 => hJ a' f' (by omega) (fun y => absurd y (by omega)) (fun _ => ?_) h4 h5)
    · by_cases e : k = a + 1
      · subst e
        intro hv
        have := VX _ hv (s a) (s' b) up (by omega) (by omega)
        omega
      · exact dr k (by omega) k2
    · by_cases e : a' = a
      · exact h2 e
      · exact h3 (by omega)
theorem e4_16Low (X : wk_XP n P a_x a_y) {V : Nat → Prop} (VX : ∀ b, V b → ∀ a c, a < b → b < c → c < n → 0 < ge_cr (P a) (P b) (P c)) {l c r M M' : Nat} {s s' : Nat → Nat} (A : e4_Ch a_nextLow a_beforeLow (fun a b c => ge_cr (P a) (P b) (P c)) V l c M s) (A' : e4_Ch a_nextLow a_beforeLow (fun a b c => ge_cr (P a) (P b) (P c)) V c r M' s') (hr : r ≤ n) {a : Nat} (ha : a < M) {post : SX → Prop} {J8 : Int32 → Int32 → Int32 → Prop} : ∀ (e b : Nat) (f : Int32) (N : Nat), b + e + 1 = M' → e < N → (∀ k, k < b → ¬ V (s' k)) → (∀ (b' : Nat) (f' : Int32), b ≤ b' → b' < M' → (b' = b → f' = f) → (b < b' → f' = 1) → (∀ k, k < b' → ¬ V (s' k)) → (b' + 1 = M' ∨ 0 < ge_cr (P (s a)) (P (s' b')) (P (s' (b' + 1)))) → ∃ n58, wX_bridgeLow_58 post J8 (nI (s' b')) f_present f_count f_size f_keptSize f_waiting a_placeOf a_x a_y a_hull a_kept a_found a_order a_waitA a_waitB a_nextLow a_beforeLow a_nextHigh a_beforeHigh n58 (nI (s a)) f') → wX_bridgeLow_16 post J8 (nI (s a)) f_present f_count f_size f_keptSize f_waiting a_placeOf a_x a_y a_hull a_kept a_found a_order a_waitA a_waitB a_nextLow a_beforeLow a_nextHigh a_beforeHigh N (nI (s' b)) f := by
  have hn := X.1
  have B := wk_XPb X
  have Ra := e4_rng A ha
  intro e
  induction e with
  | zero =>
    intro b f N hb hN dr hK
    obtain ⟨N, rfl⟩ : ∃ M, N = M + 1 := ⟨N - 1, by omega⟩
    have Rb := e4_rng A' (show b < M' by omega)
    rw [wX_bridgeLow_16]
    dsimp only
    have nn := A'.2.2.2.2.2.1
    rw [show M' - 1 = b by omega] at nn
    rw [nI_clamp (show s' b < 2 ^ 31 by omega), nn]
    exact ⟨vp_in_nI (by omega) (by omega), br_t (by decide) (hK b f (by omega) (by omega) (fun _ => rfl) (fun z => absurd z (by omega)) dr (Or.inl (by omega)))⟩
  | succ e ih =>
    intro b f N hb hN dr hK
    obtain ⟨N, rfl⟩ : ∃ M, N = M + 1 := ⟨N - 1, by omega⟩
    have Rb := e4_rng A' (show b < M' by omega)
    have Rb' := e4_rng A' (show b + 1 < M' by omega)
    have up := A'.2.2.2.1 b (by omega)
    rw [wX_bridgeLow_16]
    dsimp only
    rw [nI_clamp (show s' b < 2 ^ 31 by omega), (A'.2.2.2.2.1 b (by omega)).1]
    have v1 := vp_in_nI (n := s' b) (N := 24) (by omega) (by omega)
    refine ⟨v1, br_f (nI_pos (by omega)) ⟨v1, wx_turn X (by omega) (by omega) (by omega) ?_⟩⟩
    have bd := ge_crb B (p := P (s a)) (q := P (s' b)) (r := P (s' (b + 1))) ⟨_, by omega, rfl⟩ ⟨_, by omega, rfl⟩ ⟨_, by omega, rfl⟩
    refine wk_blt 0 (ge_cr (P (s a)) (P (s' b)) (P (s' (b + 1)))) (fun z => hK b f (by omega) (by omega) (fun _ => rfl) (fun y => absurd y (by omega)) dr (Or.inr (by show 0 < ge_cr (P (s a)) (P (s' b)) (P (s' (b + 1))); omega))) (fun z => ⟨v1, nm_e ?_⟩)
    refine ih (b + 1) 1 N (by omega) (by omega) (fun k k1 => ?_) (fun b' f' h1 h2 h3 h4 h5 h6 => hK b' f' (by omega) h2 (fun y => absurd y (by omega)) (fun _ => ?_) h5 h6)
    · by_cases e : k = b
      · subst e
        intro hv
        have := VX _ hv (s a) (s' (k + 1)) (by omega) up (by omega)
        omega
      · exact dr k (by omega)
    · by_cases e : b' = b + 1
      · exact h3 e
      · exact h4 (by omega)
theorem e4_8Low (X : wk_XP n P a_x a_y) {V : Nat → Prop} (VX : ∀ b, V b → ∀ a c, a < b → b < c → c < n → 0 < ge_cr (P a) (P b) (P c)) {l c r M M' : Nat} {s s' : Nat → Nat} (A : e4_Ch a_nextLow a_beforeLow (fun a b c => ge_cr (P a) (P b) (P c)) V l c M s) (A' : e4_Ch a_nextLow a_beforeLow (fun a b c => ge_cr (P a) (P b) (P c)) V c r M' s') (hr : r ≤ n) {post : SX → Prop} (hp : ∀ nx bf, e4_B nx bf (fun a b c => ge_cr (P a) (P b) (P c)) V l r → (∀ i, ¬ (l ≤ i ∧ i < r) → nx i = a_nextLow i ∧ bf i = a_beforeLow i) → post (f_present, f_count, f_size, f_keptSize, f_waiting, a_placeOf, a_x, a_y, a_hull, a_kept, a_found, a_order, a_waitA, a_waitB, nx, bf, a_nextHigh, a_beforeHigh)) : ∀ (mu a b : Nat) (f : Int32) (N : Nat), a < M → b < M' → a + (M' - 1 - b) ≤ mu → (∀ k, a < k → k < M → ¬ V (s k)) → (∀ k, k < b → ¬ V (s' k)) → ((f = 1 ∧ mu + 2 ≤ N) ∨ (f = 0 ∧ 1 ≤ N ∧ (a = 0 ∨ 0 < ge_cr (P (s (a - 1))) (P (s a)) (P (s' b))) ∧ (b + 1 = M' ∨ 0 < ge_cr (P (s a)) (P (s' b)) (P (s' (b + 1)))))) → wX_bridgeLow_8 post f_present f_count f_size f_keptSize f_waiting a_placeOf a_x a_y a_hull a_kept a_found a_order a_waitA a_waitB a_nextLow a_beforeLow a_nextHigh a_beforeHigh N (nI (s a)) (nI (s' b)) f := by
  have hn := X.1
  have out : ∀ (a b N : Nat), a < M → b < M' → 1 ≤ N → (∀ k, a < k → k < M → ¬ V (s k)) → (∀ k, k < b → ¬ V (s' k)) → (a = 0 ∨ 0 < ge_cr (P (s (a - 1))) (P (s a)) (P (s' b))) → (b + 1 = M' ∨ 0 < ge_cr (P (s a)) (P (s' b)) (P (s' (b + 1)))) → wX_bridgeLow_8 post f_present f_count f_size f_keptSize f_waiting a_placeOf a_x a_y a_hull a_kept a_found a_order a_waitA a_waitB a_nextLow a_beforeLow a_nextHigh a_beforeHigh N (nI (s a)) (nI (s' b)) 0 := fun a b N ha hb hN da db ca cb => by
    obtain ⟨N, rfl⟩ : ∃ M, N = M + 1 := ⟨N - 1, by omega⟩
    have Ra := e4_rng A ha
    have Rb := e4_rng A' hb
    rw [wX_bridgeLow_8]
    refine br_t rfl ⟨vp_in_nI (by omega) (by omega), nm_r (e' := upd a_nextLow (s a) (nI (s' b))) (by rw [nI_clamp (by omega), wk_bn (by omega)]) ⟨vp_in_nI (by omega) (by omega), nm_r (e' := upd a_beforeLow (s' b) (nI (s a))) (by rw [nI_clamp (by omega), wk_bn (by omega)]) (hp _ _ (e4_join A A' ha hb da db ca cb) (fun i hi => ?_))⟩⟩
    have ac := e4_rng A (show 0 < M by have := A.1; omega)
    have ac' := e4_rng A' (show 0 < M' by have := A'.1; omega)
    exact ⟨pk_un (by omega), pk_un (by omega)⟩
  intro mu
  induction mu with
  | zero =>
    intro a b f N ha hb hm da db h
    rcases h with ⟨rfl, hN⟩ | ⟨rfl, hN, ca, cb⟩
    · obtain ⟨N, rfl⟩ : ∃ M, N = M + 1 := ⟨N - 1, by omega⟩
      rw [wX_bridgeLow_8]
      refine br_f (by decide) ⟨M', e4_16Low X VX A A' hr ha (M' - 1 - b) b 0 M' (by omega) (by omega) db fun b' f' h1 h2 h3 h4 h5 h6 => ⟨M, e4_58Low X VX A A' hr h2 a f' M ha ha da fun a' f'' g1 g2 g3 g4 g5 => ?_⟩⟩
      have eb : b' = b := by omega
      have ea : a' = a := by omega
      have ef : f'' = 0 := by rw [g2 ea, h3 eb]
      subst ef ea eb
      exact out _ _ N ha hb (by omega) da db g5 h6
    · exact out a b N ha hb hN da db ca cb
  | succ mu ih =>
    intro a b f N ha hb hm da db h
    rcases h with ⟨rfl, hN⟩ | ⟨rfl, hN, ca, cb⟩
    · obtain ⟨N, rfl⟩ : ∃ M, N = M + 1 := ⟨N - 1, by omega⟩
      rw [wX_bridgeLow_8]
      refine br_f (by decide) ⟨M', e4_16Low X VX A A' hr ha (M' - 1 - b) b 0 M' (by omega) (by omega) db fun b' f' h1 h2 h3 h4 h5 h6 => ⟨M, e4_58Low X VX A A' hr h2 a f' M ha ha da fun a' f'' g1 g2 g3 g4 g5 => ?_⟩⟩
      by_cases ea : a' = a
      · by_cases eb : b' = b
        · have ef : f'' = 0 := by rw [g2 ea, h3 eb]
          subst ef ea eb
          exact out _ _ N ha hb (by omega) da db g5 h6
        · have ef : f'' = 1 := by rw [g2 ea, h4 (by omega)]
          exact ih a' b' f'' N (by omega) h2 (by omega) g4 h5 (Or.inl ⟨ef, by omega⟩)
      · exact ih a' b' f'' N (by omega) h2 (by omega) g4 h5 (Or.inl ⟨g3 (by omega), by omega⟩)
    · exact out a b N ha hb hN da db ca cb
theorem e4_brLow (X : wk_XP n P a_x a_y) {V : Nat → Prop} (VX : ∀ b, V b → ∀ a c, a < b → b < c → c < n → 0 < ge_cr (P a) (P b) (P c)) {l c r : Nat} (A : e4_B a_nextLow a_beforeLow (fun a b c => ge_cr (P a) (P b) (P c)) V l c) (A' : e4_B a_nextLow a_beforeLow (fun a b c => ge_cr (P a) (P b) (P c)) V c r) (hr : r ≤ n) {post : SX → Prop} (hp : ∀ nx bf, e4_B nx bf (fun a b c => ge_cr (P a) (P b) (P c)) V l r → (∀ i, ¬ (l ≤ i ∧ i < r) → nx i = a_nextLow i ∧ bf i = a_beforeLow i) → post (f_present, f_count, f_size, f_keptSize, f_waiting, a_placeOf, a_x, a_y, a_hull, a_kept, a_found, a_order, a_waitA, a_waitB, nx, bf, a_nextHigh, a_beforeHigh)) : wpX_bridgeLow post (f_present, f_count, f_size, f_keptSize, f_waiting, a_placeOf, a_x, a_y, a_hull, a_kept, a_found, a_order, a_waitA, a_waitB, a_nextLow, a_beforeLow, a_nextHigh, a_beforeHigh) (nI (c - 1)) (nI c) := by
  obtain ⟨M, s, A⟩ := A
  obtain ⟨M', s', A'⟩ := A'
  have m1 := A.1
  have m1' := A'.1
  have e1 : c - 1 = s (M - 1) := by have := A.2.2.1; omega
  have e2 : c = s' 0 := A'.2.1.symm
  unfold wpX_bridgeLow
  refine ⟨M - 1 + M' - 1 + 2, ?_⟩
  have := e4_8Low X VX A A' hr hp (M - 1 + M' - 1) (M - 1) 0 1 (M - 1 + M' - 1 + 2) (by omega) (by omega) (by omega) (fun k k1 k2 => absurd k1 (by omega)) (fun k k1 => absurd k1 (by omega)) (Or.inl ⟨rfl, Nat.le_refl _⟩)
  rw [← e1, ← e2] at this
  exact this
end

section
variable {f_present f_count f_size f_keptSize f_waiting : Int32} {a_placeOf a_x a_y a_hull a_kept a_found a_order a_waitA a_waitB a_nextLow a_beforeLow a_nextHigh a_beforeHigh : Nat → Int32} {n : Nat} {P : Nat → Int × Int}
theorem e4_58High (X : wk_XP n P a_x a_y) {V : Nat → Prop} (VX : ∀ b, V b → ∀ a c, a < b → b < c → c < n → 0 < - ge_cr (P a) (P b) (P c)) {l c r M M' : Nat} {s s' : Nat → Nat} (A : e4_Ch a_nextHigh a_beforeHigh (fun a b c => - ge_cr (P a) (P b) (P c)) V l c M s) (A' : e4_Ch a_nextHigh a_beforeHigh (fun a b c => - ge_cr (P a) (P b) (P c)) V c r M' s') (hr : r ≤ n) {b : Nat} (hb : b < M') {post : SX → Prop} {J8 : Int32 → Int32 → Int32 → Prop} : ∀ (a : Nat) (f : Int32) (N : Nat), a < M → a < N → (∀ k, a < k → k < M → ¬ V (s k)) → (∀ (a' : Nat) (f' : Int32), a' ≤ a → (a' = a → f' = f) → (a' < a → f' = 1) → (∀ k, a' < k → k < M → ¬ V (s k)) → (a' = 0 ∨ 0 < - ge_cr (P (s (a' - 1))) (P (s a')) (P (s' b))) → J8 (nI (s a')) (nI (s' b)) f') → wX_bridgeHigh_58 post J8 (nI (s' b)) f_present f_count f_size f_keptSize f_waiting a_placeOf a_x a_y a_hull a_kept a_found a_order a_waitA a_waitB a_nextLow a_beforeLow a_nextHigh a_beforeHigh N (nI (s a)) f := by
  have hn := X.1
  have B := wk_XPb X
  have Rb := e4_rng A' hb
  intro a
  induction a with
  | zero =>
    intro f N ha hN dr hJ
    obtain ⟨N, rfl⟩ : ∃ M, N = M + 1 := ⟨N - 1, by omega⟩
    have Ra := e4_rng A ha
    rw [wX_bridgeHigh_58]
    dsimp only
    rw [nI_clamp (show s 0 < 2 ^ 31 by omega), A.2.2.2.2.2.2.1]
    exact ⟨vp_in_nI (by omega) (by omega), br_t (by decide) (hJ 0 f (by omega) (fun _ => rfl) (fun z => absurd z (by omega)) dr (Or.inl rfl))⟩
  | succ a ih =>
    intro f N ha hN dr hJ
    obtain ⟨N, rfl⟩ : ∃ M, N = M + 1 := ⟨N - 1, by omega⟩
    have Ra := e4_rng A ha
    have Ra' := e4_rng A (show a < M by omega)
    have up := A.2.2.2.1 a ha
    rw [wX_bridgeHigh_58]
    dsimp only
    rw [nI_clamp (show s (a + 1) < 2 ^ 31 by omega), (A.2.2.2.2.1 a ha).2]
    have v1 := vp_in_nI (n := s (a + 1)) (N := 24) (by omega) (by omega)
    refine ⟨v1, br_f (nI_pos (by omega)) ⟨v1, wx_turn X (by omega) (by omega) (by omega) ?_⟩⟩
    have bd := ge_crb B (p := P (s a)) (q := P (s (a + 1))) (r := P (s' b)) ⟨_, by omega, rfl⟩ ⟨_, by omega, rfl⟩ ⟨_, by omega, rfl⟩
    refine wk_blt (ge_cr (P (s a)) (P (s (a + 1))) (P (s' b))) 0 (fun z => hJ (a + 1) f (by omega) (fun _ => rfl) (fun y => absurd y (by omega)) dr (Or.inr (by show 0 < - ge_cr (P (s a)) (P (s (a + 1))) (P (s' b)); omega))) (fun z => ⟨v1, nm_e ?_⟩)
    refine ih 1 N (by omega) (by omega) (fun k k1 k2 => ?_) (fun a' f' h1 h2 h3 h4 h5 => hJ a' f' (by omega) (fun y => absurd y (by omega)) (fun _ => ?_) h4 h5)
    · by_cases e : k = a + 1
      · subst e
        intro hv
        have := VX _ hv (s a) (s' b) up (by omega) (by omega)
        omega
      · exact dr k (by omega) k2
    · by_cases e : a' = a
      · exact h2 e
      · exact h3 (by omega)
theorem e4_16High (X : wk_XP n P a_x a_y) {V : Nat → Prop} (VX : ∀ b, V b → ∀ a c, a < b → b < c → c < n → 0 < - ge_cr (P a) (P b) (P c)) {l c r M M' : Nat} {s s' : Nat → Nat} (A : e4_Ch a_nextHigh a_beforeHigh (fun a b c => - ge_cr (P a) (P b) (P c)) V l c M s) (A' : e4_Ch a_nextHigh a_beforeHigh (fun a b c => - ge_cr (P a) (P b) (P c)) V c r M' s') (hr : r ≤ n) {a : Nat} (ha : a < M) {post : SX → Prop} {J8 : Int32 → Int32 → Int32 → Prop} : ∀ (e b : Nat) (f : Int32) (N : Nat), b + e + 1 = M' → e < N → (∀ k, k < b → ¬ V (s' k)) → (∀ (b' : Nat) (f' : Int32), b ≤ b' → b' < M' → (b' = b → f' = f) → (b < b' → f' = 1) → (∀ k, k < b' → ¬ V (s' k)) → (b' + 1 = M' ∨ 0 < - ge_cr (P (s a)) (P (s' b')) (P (s' (b' + 1)))) → ∃ n58, wX_bridgeHigh_58 post J8 (nI (s' b')) f_present f_count f_size f_keptSize f_waiting a_placeOf a_x a_y a_hull a_kept a_found a_order a_waitA a_waitB a_nextLow a_beforeLow a_nextHigh a_beforeHigh n58 (nI (s a)) f') → wX_bridgeHigh_16 post J8 (nI (s a)) f_present f_count f_size f_keptSize f_waiting a_placeOf a_x a_y a_hull a_kept a_found a_order a_waitA a_waitB a_nextLow a_beforeLow a_nextHigh a_beforeHigh N (nI (s' b)) f := by
  have hn := X.1
  have B := wk_XPb X
  have Ra := e4_rng A ha
  intro e
  induction e with
  | zero =>
    intro b f N hb hN dr hK
    obtain ⟨N, rfl⟩ : ∃ M, N = M + 1 := ⟨N - 1, by omega⟩
    have Rb := e4_rng A' (show b < M' by omega)
    rw [wX_bridgeHigh_16]
    dsimp only
    have nn := A'.2.2.2.2.2.1
    rw [show M' - 1 = b by omega] at nn
    rw [nI_clamp (show s' b < 2 ^ 31 by omega), nn]
    exact ⟨vp_in_nI (by omega) (by omega), br_t (by decide) (hK b f (by omega) (by omega) (fun _ => rfl) (fun z => absurd z (by omega)) dr (Or.inl (by omega)))⟩
  | succ e ih =>
    intro b f N hb hN dr hK
    obtain ⟨N, rfl⟩ : ∃ M, N = M + 1 := ⟨N - 1, by omega⟩
    have Rb := e4_rng A' (show b < M' by omega)
    have Rb' := e4_rng A' (show b + 1 < M' by omega)
    have up := A'.2.2.2.1 b (by omega)
    rw [wX_bridgeHigh_16]
    dsimp only
    rw [nI_clamp (show s' b < 2 ^ 31 by omega), (A'.2.2.2.2.1 b (by omega)).1]
    have v1 := vp_in_nI (n := s' b) (N := 24) (by omega) (by omega)
    refine ⟨v1, br_f (nI_pos (by omega)) ⟨v1, wx_turn X (by omega) (by omega) (by omega) ?_⟩⟩
    have bd := ge_crb B (p := P (s a)) (q := P (s' b)) (r := P (s' (b + 1))) ⟨_, by omega, rfl⟩ ⟨_, by omega, rfl⟩ ⟨_, by omega, rfl⟩
    refine wk_blt (ge_cr (P (s a)) (P (s' b)) (P (s' (b + 1)))) 0 (fun z => hK b f (by omega) (by omega) (fun _ => rfl) (fun y => absurd y (by omega)) dr (Or.inr (by show 0 < - ge_cr (P (s a)) (P (s' b)) (P (s' (b + 1))); omega))) (fun z => ⟨v1, nm_e ?_⟩)
    refine ih (b + 1) 1 N (by omega) (by omega) (fun k k1 => ?_) (fun b' f' h1 h2 h3 h4 h5 h6 => hK b' f' (by omega) h2 (fun y => absurd y (by omega)) (fun _ => ?_) h5 h6)
    · by_cases e : k = b
      · subst e
        intro hv
        have := VX _ hv (s a) (s' (k + 1)) (by omega) up (by omega)
        omega
      · exact dr k (by omega)
    · by_cases e : b' = b + 1
      · exact h3 e
      · exact h4 (by omega)
theorem e4_8High (X : wk_XP n P a_x a_y) {V : Nat → Prop} (VX : ∀ b, V b → ∀ a c, a < b → b < c → c < n → 0 < - ge_cr (P a) (P b) (P c)) {l c r M M' : Nat} {s s' : Nat → Nat} (A : e4_Ch a_nextHigh a_beforeHigh (fun a b c => - ge_cr (P a) (P b) (P c)) V l c M s) (A' : e4_Ch a_nextHigh a_beforeHigh (fun a b c => - ge_cr (P a) (P b) (P c)) V c r M' s') (hr : r ≤ n) {post : SX → Prop} (hp : ∀ nx bf, e4_B nx bf (fun a b c => - ge_cr (P a) (P b) (P c)) V l r → (∀ i, ¬ (l ≤ i ∧ i < r) → nx i = a_nextHigh i ∧ bf i = a_beforeHigh i) → post (f_present, f_count, f_size, f_keptSize, f_waiting, a_placeOf, a_x, a_y, a_hull, a_kept, a_found, a_order, a_waitA, a_waitB, a_nextLow, a_beforeLow, nx, bf)) : ∀ (mu a b : Nat) (f : Int32) (N : Nat), a < M → b < M' → a + (M' - 1 - b) ≤ mu → (∀ k, a < k → k < M → ¬ V (s k)) → (∀ k, k < b → ¬ V (s' k)) → ((f = 1 ∧ mu + 2 ≤ N) ∨ (f = 0 ∧ 1 ≤ N ∧ (a = 0 ∨ 0 < - ge_cr (P (s (a - 1))) (P (s a)) (P (s' b))) ∧ (b + 1 = M' ∨ 0 < - ge_cr (P (s a)) (P (s' b)) (P (s' (b + 1)))))) → wX_bridgeHigh_8 post f_present f_count f_size f_keptSize f_waiting a_placeOf a_x a_y a_hull a_kept a_found a_order a_waitA a_waitB a_nextLow a_beforeLow a_nextHigh a_beforeHigh N (nI (s a)) (nI (s' b)) f := by
  have hn := X.1
  have out : ∀ (a b N : Nat), a < M → b < M' → 1 ≤ N → (∀ k, a < k → k < M → ¬ V (s k)) → (∀ k, k < b → ¬ V (s' k)) → (a = 0 ∨ 0 < - ge_cr (P (s (a - 1))) (P (s a)) (P (s' b))) → (b + 1 = M' ∨ 0 < - ge_cr (P (s a)) (P (s' b)) (P (s' (b + 1)))) → wX_bridgeHigh_8 post f_present f_count f_size f_keptSize f_waiting a_placeOf a_x a_y a_hull a_kept a_found a_order a_waitA a_waitB a_nextLow a_beforeLow a_nextHigh a_beforeHigh N (nI (s a)) (nI (s' b)) 0 := fun a b N ha hb hN da db ca cb => by
    obtain ⟨N, rfl⟩ : ∃ M, N = M + 1 := ⟨N - 1, by omega⟩
    have Ra := e4_rng A ha
    have Rb := e4_rng A' hb
    rw [wX_bridgeHigh_8]
    refine br_t rfl ⟨vp_in_nI (by omega) (by omega), nm_r (e' := upd a_nextHigh (s a) (nI (s' b))) (by rw [nI_clamp (by omega), wk_bn (by omega)]) ⟨vp_in_nI (by omega) (by omega), nm_r (e' := upd a_beforeHigh (s' b) (nI (s a))) (by rw [nI_clamp (by omega), wk_bn (by omega)]) (hp _ _ (e4_join A A' ha hb da db ca cb) (fun i hi => ?_))⟩⟩
    have ac := e4_rng A (show 0 < M by have := A.1; omega)
    have ac' := e4_rng A' (show 0 < M' by have := A'.1; omega)
    exact ⟨pk_un (by omega), pk_un (by omega)⟩
  intro mu
  induction mu with
  | zero =>
    intro a b f N ha hb hm da db h
    rcases h with ⟨rfl, hN⟩ | ⟨rfl, hN, ca, cb⟩
    · obtain ⟨N, rfl⟩ : ∃ M, N = M + 1 := ⟨N - 1, by omega⟩
      rw [wX_bridgeHigh_8]
      refine br_f (by decide) ⟨M', e4_16High X VX A A' hr ha (M' - 1 - b) b 0 M' (by omega) (by omega) db fun b' f' h1 h2 h3 h4 h5 h6 => ⟨M, e4_58High X VX A A' hr h2 a f' M ha ha da fun a' f'' g1 g2 g3 g4 g5 => ?_⟩⟩
      have eb : b' = b := by omega
      have ea : a' = a := by omega
      have ef : f'' = 0 := by rw [g2 ea, h3 eb]
      subst ef ea eb
      exact out _ _ N ha hb (by omega) da db g5 h6
    · exact out a b N ha hb hN da db ca cb
  | succ mu ih =>
    intro a b f N ha hb hm da db h
    rcases h with ⟨rfl, hN⟩ | ⟨rfl, hN, ca, cb⟩
    · obtain ⟨N, rfl⟩ : ∃ M, N = M + 1 := ⟨N - 1, by omega⟩
      rw [wX_bridgeHigh_8]
      refine br_f (by decide) ⟨M', e4_16High X VX A A' hr ha (M' - 1 - b) b 0 M' (by omega) (by omega) db fun b' f' h1 h2 h3 h4 h5 h6 => ⟨M, e4_58High X VX A A' hr h2 a f' M ha ha da fun a' f'' g1 g2 g3 g4 g5 => ?_⟩⟩
      by_cases ea : a' = a
      · by_cases eb : b' = b
        · have ef : f'' = 0 := by rw [g2 ea, h3 eb]
          subst ef ea eb
          exact out _ _ N ha hb (by omega) da db g5 h6
        · have ef : f'' = 1 := by rw [g2 ea, h4 (by omega)]
          exact ih a' b' f'' N (by omega) h2 (by omega) g4 h5 (Or.inl ⟨ef, by omega⟩)
      · exact ih a' b' f'' N (by omega) h2 (by omega) g4 h5 (Or.inl ⟨g3 (by omega), by omega⟩)
    · exact out a b N ha hb hN da db ca cb
theorem e4_brHigh (X : wk_XP n P a_x a_y) {V : Nat → Prop} (VX : ∀ b, V b → ∀ a c, a < b → b < c → c < n → 0 < - ge_cr (P a) (P b) (P c)) {l c r : Nat} (A : e4_B a_nextHigh a_beforeHigh (fun a b c => - ge_cr (P a) (P b) (P c)) V l c) (A' : e4_B a_nextHigh a_beforeHigh (fun a b c => - ge_cr (P a) (P b) (P c)) V c r) (hr : r ≤ n) {post : SX → Prop} (hp : ∀ nx bf, e4_B nx bf (fun a b c => - ge_cr (P a) (P b) (P c)) V l r → (∀ i, ¬ (l ≤ i ∧ i < r) → nx i = a_nextHigh i ∧ bf i = a_beforeHigh i) → post (f_present, f_count, f_size, f_keptSize, f_waiting, a_placeOf, a_x, a_y, a_hull, a_kept, a_found, a_order, a_waitA, a_waitB, a_nextLow, a_beforeLow, nx, bf)) : wpX_bridgeHigh post (f_present, f_count, f_size, f_keptSize, f_waiting, a_placeOf, a_x, a_y, a_hull, a_kept, a_found, a_order, a_waitA, a_waitB, a_nextLow, a_beforeLow, a_nextHigh, a_beforeHigh) (nI (c - 1)) (nI c) := by
  obtain ⟨M, s, A⟩ := A
  obtain ⟨M', s', A'⟩ := A'
  have m1 := A.1
  have m1' := A'.1
  have e1 : c - 1 = s (M - 1) := by have := A.2.2.1; omega
  have e2 : c = s' 0 := A'.2.1.symm
  unfold wpX_bridgeHigh
  refine ⟨M - 1 + M' - 1 + 2, ?_⟩
  have := e4_8High X VX A A' hr hp (M - 1 + M' - 1) (M - 1) 0 1 (M - 1 + M' - 1 + 2) (by omega) (by omega) (by omega) (fun k k1 k2 => absurd k1 (by omega)) (fun k k1 => absurd k1 (by omega)) (Or.inl ⟨rfl, Nat.le_refl _⟩)
  rw [← e1, ← e2] at this
  exact this
end
end
section
/-! engine 4: the merging -/
theorem e4_vxL {n : Nat} {P : Nat → Int × Int} {t : Nat} {q : Nat → Nat} (C : sc_C 0 (-1) 64 (ge_St P n) n P t q) : ∀ b, (∃ k, k ≤ t ∧ q k = b) → ∀ a c, a < b → b < c → c < n → 0 < ge_cr (P a) (P b) (P c) := by
  rintro b ⟨k, hk, rfl⟩ a c h1 h2 h3
  have k0 : k ≠ 0 := fun z => by rw [z, C.2.2.1] at h1; omega
  have kt : k ≠ t := fun z => by rw [z, C.2.2.2.1] at h2; omega
  obtain ⟨k, rfl⟩ : ∃ j, k = j + 1 := ⟨k - 1, by omega⟩
  exact sc_vx C (by omega) h1 h2 h3
theorem e4_vxH {n : Nat} {P : Nat → Int × Int} {m t : Nat} {q : Nat → Nat} (hq : ∀ k, q k < n) (C : sc_C 0 1 (-64) (ge_St P n) n (fun p => P (n - 1 - p)) (m - t) (fun k => n - 1 - q (t + k))) : ∀ b, (∃ k, k ≤ m - t ∧ q (t + k) = b) → ∀ a c, a < b → b < c → c < n → 0 < - ge_cr (P a) (P b) (P c) := by
  rintro b ⟨k, hk, rfl⟩ a c h1 h2 h3
  have g0 : n - 1 - q (t + 0) = 0 := C.2.2.1
  have gt : n - 1 - q (t + (m - t)) = n - 1 := C.2.2.2.1
  have k0 : k ≠ 0 := fun z => by rw [z] at h2; omega
  have kt : k ≠ m - t := fun z => by rw [z] at h1; have := hq (t + (m - t)); omega
  obtain ⟨k, rfl⟩ : ∃ j, k = j + 1 := ⟨k - 1, by omega⟩
  have := hq (t + (k + 1))
  have V := sc_vx C (k := k) (a := n - 1 - c) (e := n - 1 - a) (by omega) (by show n - 1 - c < n - 1 - q (t + (k + 1)); omega) (by show n - 1 - q (t + (k + 1)) < n - 1 - a; omega) (by omega)
  have V' : 0 < ge_cr (P (n - 1 - (n - 1 - c))) (P (n - 1 - (n - 1 - q (t + (k + 1))))) (P (n - 1 - (n - 1 - a))) := V
  rw [show n - 1 - (n - 1 - c) = c by omega, show n - 1 - (n - 1 - q (t + (k + 1))) = q (t + (k + 1)) by omega, show n - 1 - (n - 1 - a) = a by omega] at V'
  have e : ge_cr (P c) (P (q (t + (k + 1)))) (P a) = - ge_cr (P a) (P (q (t + (k + 1)))) (P c) := by unfold ge_cr; grind
  omega
theorem e4_one {nx bf : Nat → Int32} {tv : Nat → Nat → Nat → Int} {V : Nat → Prop} {l : Nat} (h1 : nx l = -1) (h2 : bf l = -1) : e4_B nx bf tv V l (l + 1) :=
  ⟨1, fun _ => l, by omega, rfl, rfl, fun j h => absurd h (by omega), fun j h => absurd h (by omega), h1, h2, fun j h => absurd h (by omega), fun b _ h3 h4 => ⟨0, by omega, by show l = b; omega⟩⟩
theorem e4_lowC {n : Nat} {P : Nat → Int × Int} {t : Nat} {q : Nat → Nat} (C : sc_C 0 (-1) 64 (ge_St P n) n P t q) {nx bf : Nat → Int32} (A : e4_B nx bf (fun a b c => ge_cr (P a) (P b) (P c)) (fun b => ∃ k, k ≤ t ∧ q k = b) 0 n) : (∀ k, k < t → nx (q k) = nI (q (k + 1))) ∧ nx (q t) = -1 := by
  obtain ⟨M, s, m1, s0, sl, inc, lk, nl, bl, tu, co⟩ := A
  obtain ⟨eM, es⟩ := sc_fin C m1 s0 (by omega) (by omega) inc tu (fun k hk => co (q k) ⟨k, hk, rfl⟩ (Nat.zero_le _) (C.2.2.2.2.1 k hk))
  refine ⟨fun k hk => ?_, ?_⟩
  · have := (lk k (by omega)).1
    rwa [es k (by omega), es (k + 1) (by omega)] at this
  · rwa [show M - 1 = t by omega, es t (Nat.le_refl _)] at nl
theorem e4_highC {n : Nat} {P : Nat → Int × Int} {m t : Nat} {q : Nat → Nat} (hq : ∀ k, q k < n) (C : sc_C 0 1 (-64) (ge_St P n) n (fun p => P (n - 1 - p)) (m - t) (fun k => n - 1 - q (t + k))) {nx bf : Nat → Int32} (A : e4_B nx bf (fun a b c => - ge_cr (P a) (P b) (P c)) (fun b => ∃ k, k ≤ m - t ∧ q (t + k) = b) 0 n) : ∀ k, k < m - t → bf (q (t + k)) = nI (q (t + k + 1)) := by
  obtain ⟨M, s, A⟩ := A
  have R := fun j (hj : j < M) => e4_rng A hj
  obtain ⟨m1, s0, sl, inc, lk, nl, bl, tu, co⟩ := A
  obtain ⟨eM, es⟩ := sc_fin (s := fun k => n - 1 - s (M - 1 - k)) C m1 (by show n - 1 - s (M - 1 - 0) = 0; rw [Nat.sub_zero]; omega) (by show n - 1 - s (M - 1 - (M - 1)) = n - 1; rw [Nat.sub_self, s0]; omega) (by omega) (fun j hj => by
      have i1 := inc (M - 1 - (j + 1)) (by omega)
      rw [show M - 1 - (j + 1) + 1 = M - 1 - j by omega] at i1
      have r1 := R (M - 1 - j) (by omega)
      show n - 1 - s (M - 1 - j) < n - 1 - s (M - 1 - (j + 1))
      omega)
    (fun j hj => by
      have T : 0 < - ge_cr (P (s (M - 1 - (j + 2)))) (P (s (M - 1 - (j + 2) + 1))) (P (s (M - 1 - (j + 2) + 2))) := tu (M - 1 - (j + 2)) (by omega)
      rw [show M - 1 - (j + 2) + 1 = M - 1 - (j + 1) by omega, show M - 1 - (j + 2) + 2 = M - 1 - j by omega] at T
      have r0 := R (M - 1 - j) (by omega)
      have r1 := R (M - 1 - (j + 1)) (by omega)
      have r2 := R (M - 1 - (j + 2)) (by omega)
      show 0 < ge_cr (P (n - 1 - (n - 1 - s (M - 1 - j)))) (P (n - 1 - (n - 1 - s (M - 1 - (j + 1))))) (P (n - 1 - (n - 1 - s (M - 1 - (j + 2)))))
      rw [show n - 1 - (n - 1 - s (M - 1 - j)) = s (M - 1 - j) by omega, show n - 1 - (n - 1 - s (M - 1 - (j + 1))) = s (M - 1 - (j + 1)) by omega, show n - 1 - (n - 1 - s (M - 1 - (j + 2))) = s (M - 1 - (j + 2)) by omega]
      have e : ge_cr (P (s (M - 1 - j))) (P (s (M - 1 - (j + 1)))) (P (s (M - 1 - (j + 2)))) = - ge_cr (P (s (M - 1 - (j + 2)))) (P (s (M - 1 - (j + 1)))) (P (s (M - 1 - j))) := by unfold ge_cr; grind
      omega)
    (fun k hk => by
      obtain ⟨j, hj, e⟩ := co (q (t + k)) ⟨k, hk, rfl⟩ (Nat.zero_le _) (hq _)
      exact ⟨M - 1 - j, by omega, by show n - 1 - s (M - 1 - (M - 1 - j)) = n - 1 - q (t + k); rw [show M - 1 - (M - 1 - j) = j by omega, e]⟩)
  have E : ∀ k, k ≤ m - t → s (M - 1 - k) = q (t + k) := fun k hk => by
    have e : n - 1 - s (M - 1 - k) = n - 1 - q (t + k) := es k hk
    have r := R (M - 1 - k) (by omega)
    have := hq (t + k)
    omega
  intro k hk
  have L := (lk (M - 1 - (k + 1)) (by omega)).2
  rw [show M - 1 - (k + 1) + 1 = M - 1 - k by omega, E k (by omega), E (k + 1) (by omega)] at L
  exact L

section
variable {f_present f_count f_size f_keptSize f_waiting : Int32} {a_placeOf a_x a_y a_hull a_kept a_found a_order a_waitA a_waitB a_nextLow a_beforeLow a_nextHigh a_beforeHigh : Nat → Int32} {n : Nat} {P : Nat → Int × Int} {m : Nat} {q : Nat → Nat}
theorem e4_start (hn : n ≤ 24) {post : SX → Prop} (hp : ∀ nl bl nh bh, (∀ j, j < n → nl j = -1 ∧ bl j = -1 ∧ nh j = -1 ∧ bh j = -1) → post (f_present, nI n, f_size, f_keptSize, f_waiting, a_placeOf, a_x, a_y, a_hull, a_kept, a_found, a_order, a_waitA, a_waitB, nl, bl, nh, bh)) : ∀ (d i N : Nat) (nl bl nh bh : Nat → Int32), i + d = n → d < N → (∀ j, j < i → nl j = -1 ∧ bl j = -1 ∧ nh j = -1 ∧ bh j = -1) → wX_startChains_2 post f_present (nI n) f_size f_keptSize f_waiting N (nI i) a_placeOf a_x a_y a_hull a_kept a_found a_order a_waitA a_waitB nl bl nh bh := by
  intro d
  induction d with
  | zero =>
    intro i N nl bl nh bh hi hN h
    obtain ⟨N, rfl⟩ : ∃ M, N = M + 1 := ⟨N - 1, by omega⟩
    rw [wX_startChains_2]
    exact br_t (nI_le (by omega) (by omega)) (hp nl bl nh bh (fun j hj => h j (by omega)))
  | succ d ih =>
    intro i N nl bl nh bh hi hN h
    obtain ⟨N, rfl⟩ : ∃ M, N = M + 1 := ⟨N - 1, by omega⟩
    rw [wX_startChains_2]
    dsimp only
    rw [nI_clamp (show i < 2 ^ 31 by omega), wk_bm, nI_1]
    have v := vp_in_nI (n := i) (N := 24) (by omega) (by omega)
    refine br_f (nI_ge (by omega) (by omega)) ⟨v, nm_e ⟨v, nm_e ⟨v, nm_e ⟨v, nm_e (nm_e (ih (i + 1) N _ _ _ _ (by omega) (by omega) fun j hj => ?_))⟩⟩⟩⟩
    by_cases c : j = i
    · subst c; exact ⟨pk_us, pk_us, pk_us, pk_us⟩
    · rw [pk_un c, pk_un c, pk_un c, pk_un c]; exact h j (by omega)
theorem e4_inner (X : wk_XP n P a_x a_y) {VL VH : Nat → Prop} (VXL : ∀ b, VL b → ∀ a c, a < b → b < c → c < n → 0 < ge_cr (P a) (P b) (P c)) (VXH : ∀ b, VH b → ∀ a c, a < b → b < c → c < n → 0 < - ge_cr (P a) (P b) (P c)) {w : Nat} (w1 : 1 ≤ w) (wn : w < n) {post : SX → Prop} {J6 : Int32 → Int32 → Int32 → Int32 → Int32 → Int32 → (Nat → Int32) → (Nat → Int32) → (Nat → Int32) → (Nat → Int32) → (Nat → Int32) → (Nat → Int32) → (Nat → Int32) → (Nat → Int32) → (Nat → Int32) → (Nat → Int32) → (Nat → Int32) → (Nat → Int32) → (Nat → Int32) → Prop} (hJ : ∀ nl bl nh bh, (∀ l, l < n → (w * 2) ∣ l → e4_B nl bl (fun a b c => ge_cr (P a) (P b) (P c)) VL l (min (l + w * 2) n) ∧ e4_B nh bh (fun a b c => - ge_cr (P a) (P b) (P c)) VH l (min (l + w * 2) n)) → J6 (nI (w * 2)) f_present (nI n) f_size f_keptSize f_waiting a_placeOf a_x a_y a_hull a_kept a_found a_order a_waitA a_waitB nl bl nh bh) : ∀ (d fr N : Nat) (nl bl nh bh : Nat → Int32), n - fr ≤ d → d < N → fr ≤ 100 → (w * 2) ∣ fr → (∀ l, l < fr → l < n → (w * 2) ∣ l → e4_B nl bl (fun a b c => ge_cr (P a) (P b) (P c)) VL l (min (l + w * 2) n) ∧ e4_B nh bh (fun a b c => - ge_cr (P a) (P b) (P c)) VH l (min (l + w * 2) n)) → (∀ l, fr ≤ l → l < n → w ∣ l → e4_B nl bl (fun a b c => ge_cr (P a) (P b) (P c)) VL l (min (l + w) n) ∧ e4_B nh bh (fun a b c => - ge_cr (P a) (P b) (P c)) VH l (min (l + w) n)) → wX_merge_16 post J6 (nI w) N (nI fr) f_present (nI n) f_size f_keptSize f_waiting a_placeOf a_x a_y a_hull a_kept a_found a_order a_waitA a_waitB nl bl nh bh := by
  have hn := X.1
  have ww : w ∣ w * 2 := ⟨2, rfl⟩
  have near : ∀ l fr, (w * 2) ∣ l → (w * 2) ∣ fr → fr ≤ l → l < fr + w * 2 → l = fr := fun l fr h1 h2 h3 h4 => by
    have := Nat.eq_zero_of_dvd_of_lt (Nat.dvd_sub h1 h2) (by omega)
    omega
  have out : ∀ (fr N : Nat) (nl bl nh bh : Nat → Int32), 0 < N → fr ≤ 100 → n ≤ fr + w → (w * 2) ∣ fr → (∀ l, l < fr → l < n → (w * 2) ∣ l → e4_B nl bl (fun a b c => ge_cr (P a) (P b) (P c)) VL l (min (l + w * 2) n) ∧ e4_B nh bh (fun a b c => - ge_cr (P a) (P b) (P c)) VH l (min (l + w * 2) n)) → (∀ l, fr ≤ l → l < n → w ∣ l → e4_B nl bl (fun a b c => ge_cr (P a) (P b) (P c)) VL l (min (l + w) n) ∧ e4_B nh bh (fun a b c => - ge_cr (P a) (P b) (P c)) VH l (min (l + w) n)) → wX_merge_16 post J6 (nI w) N (nI fr) f_present (nI n) f_size f_keptSize f_waiting a_placeOf a_x a_y a_hull a_kept a_found a_order a_waitA a_waitB nl bl nh bh := fun fr N nl bl nh bh hN hf le dv dn td => by
    obtain ⟨N, rfl⟩ : ∃ M, N = M + 1 := ⟨N - 1, by omega⟩
    rw [wX_merge_16]
    dsimp only
    rw [nI_add]
    refine br_t (nI_le le (by omega)) (nm_r (e' := nI (w * 2)) (pk_mul w 2) (hJ nl bl nh bh fun l hl hd => ?_))
    by_cases c : l < fr
    · exact dn l c hl hd
    · have e := near l fr hd dv (by omega) (by omega)
      have := td l (by omega) hl (Nat.dvd_trans ww hd)
      rwa [show min (l + w) n = min (l + w * 2) n by omega] at this
  intro d
  induction d with
  | zero =>
    intro fr N nl bl nh bh hd hN hf dv dn td
    exact out fr N nl bl nh bh (by omega) hf (by omega) dv dn td
  | succ d ih =>
    intro fr N nl bl nh bh hd hN hf dv dn td
    by_cases le : n ≤ fr + w
    · exact out fr N nl bl nh bh (by omega) hf le dv dn td
    · obtain ⟨N, rfl⟩ : ∃ M, N = M + 1 := ⟨N - 1, by omega⟩
      rw [wX_merge_16]
      dsimp only
      have ep : nI fr + nI w - 1 = nI (fr + w - 1) := by
        rw [nI_add]
        obtain ⟨k, hk⟩ : ∃ k, fr + w = k + 1 := ⟨fr + w - 1, by omega⟩
        rw [hk]; exact nI_pred k
      rw [ep, nI_add]
      have wf : w ∣ fr := Nat.dvd_trans ww dv
      have t1 := td fr (by omega) (by omega) wf
      have t2 := td (fr + w) (by omega) (by omega) (Nat.dvd_add wf ⟨1, by omega⟩)
      rw [show min (fr + w) n = fr + w by omega] at t1
      refine br_f (nI_ge (by omega) (by omega)) ?_
      refine e4_brLow X VXL t1.1 t2.1 (by omega) fun nl' bl' AL FL => ?_
      dsimp only
      refine e4_brHigh X VXH t1.2 t2.2 (by omega) fun nh' bh' AH FH => ?_
      dsimp only
      have ef : nI fr + 2 * nI w = nI (fr + w * 2) := by
        rw [show (2 : Int32) * nI w = nI (2 * w) from pk_mul 2 w, nI_add, Nat.mul_comm 2 w]
      refine nm_r ef (ih (fr + w * 2) N nl' bl' nh' bh' (by omega) (by omega) (by omega) (Nat.dvd_add dv ⟨1, by omega⟩) (fun l h1 h2 h3 => ?_) (fun l h1 h2 h3 => ?_))
      · by_cases c : l < fr
        · have o := dn l c h2 h3
          have gap : l + w * 2 ≤ fr := by
            apply Nat.le_of_not_lt
            intro z
            have := near fr l dv h3 (by omega) z
            omega
          exact ⟨e4_fr o.1 (fun i i1 i2 => FL i (by omega)), e4_fr o.2 (fun i i1 i2 => FH i (by omega))⟩
        · have e := near l fr h3 dv (by omega) h1
          subst e
          rw [show min (l + w * 2) n = min (l + w + w) n by omega]
          exact ⟨AL, AH⟩
      · have o := td l (by omega) h2 h3
        exact ⟨e4_fr o.1 (fun i i1 i2 => FL i (by omega)), e4_fr o.2 (fun i i1 i2 => FH i (by omega))⟩
theorem e4_walkH (X : wk_XP n P a_x a_y) (Q : hu_Q n P m q) {t : Nat} (t0 : 0 < t) (hb : ∀ k, t ≤ k → k < m → a_beforeHigh (q k) = nI (q (k + 1))) {post : SX → Prop} (hp : ∀ u', wk_G f_present (nI n) a_placeOf a_x a_y a_found m q u' → post u') : ∀ (d k N : Nat) (hull : Nat → Int32), k + d = m → t < k → d < N → (∀ j, j < k → hull j = nI (q j)) → wX_merge_99 post N (nI (q k)) f_present (nI n) (nI k) f_keptSize f_waiting a_placeOf a_x a_y hull a_kept a_found a_order a_waitA a_waitB a_nextLow a_beforeLow a_nextHigh a_beforeHigh := by
  have hn := X.1
  have hmn := hu_mn Q
  intro d
  induction d with
  | zero =>
    intro k N hull hk tk hN hh
    obtain ⟨N, rfl⟩ : ∃ M, N = M + 1 := ⟨N - 1, by omega⟩
    have e : k = m := by omega
    subst e
    have z : q k = 0 := by
      have := hu_per Q 0
      rwa [Nat.zero_add, Q.2.2.1] at this
    rw [wX_merge_99]
    exact br_t (by rw [z]; decide) (hp _ ⟨rfl, rfl, rfl, rfl, rfl, rfl, rfl, hh⟩)
  | succ d ih =>
    intro k N hull hk tk hN hh
    obtain ⟨N, rfl⟩ : ∃ M, N = M + 1 := ⟨N - 1, by omega⟩
    have z : q k ≠ 0 := fun z => hu_ne Q (i := 0) (j := k) (by omega) (by omega) (by rw [z, Q.2.2.1])
    have ck := Q.2.1 k
    rw [wX_merge_99]
    refine br_f (nI_nle (by omega) (by omega)) (wx_addCorner (by omega) (by omega) ?_)
    dsimp only
    refine ⟨vp_in_nI (by omega) (by omega), nm_r (e' := nI (q (k + 1))) (by rw [nI_clamp (by omega)]; exact hb k (by omega) (by omega)) (ih (k + 1) N _ (by omega) (by omega) (by omega) fun j hj => ?_)⟩
    by_cases c : j = k
    · subst c; exact pk_us
    · rw [pk_un c]; exact hh j (by omega)
theorem e4_walkL (X : wk_XP n P a_x a_y) (Q : hu_Q n P m q) {t : Nat} (t0 : 0 < t) (tm : t < m) (et : q t = n - 1) (hl : (∀ k, k < t → a_nextLow (q k) = nI (q (k + 1))) ∧ a_nextLow (q t) = -1) (hb : ∀ k, t ≤ k → k < m → a_beforeHigh (q k) = nI (q (k + 1))) {post : SX → Prop} (hp : ∀ u', wk_G f_present (nI n) a_placeOf a_x a_y a_found m q u' → post u') : ∀ (d k N : Nat) (hull : Nat → Int32), k + d = t → d + 1 < N → (∀ j, j < k → hull j = nI (q j)) → wX_merge_68 post N (nI (q k)) f_present (nI n) (nI k) f_keptSize f_waiting a_placeOf a_x a_y hull a_kept a_found a_order a_waitA a_waitB a_nextLow a_beforeLow a_nextHigh a_beforeHigh := by
  have hn := X.1
  have hmn := hu_mn Q
  intro d
  induction d with
  | zero =>
    intro k N hull hk hN hh
    obtain ⟨N, rfl⟩ : ∃ M, N = M + 1 + 1 := ⟨N - 2, by omega⟩
    have e : k = t := by omega
    subst e
    have ck := Q.2.1 k
    rw [wX_merge_68]
    refine br_f (nI_pos (by omega)) (wx_addCorner (by omega) (by omega) ?_)
    dsimp only
    refine ⟨vp_in_nI (by omega) (by omega), nm_r (e' := -1) (by rw [nI_clamp (by omega)]; exact hl.2) ?_⟩
    rw [wX_merge_68]
    have en : nI n - 1 = nI (n - 1) := by
      obtain ⟨k, rfl⟩ : ∃ k, n = k + 1 := ⟨n - 1, by omega⟩
      exact nI_pred k
    dsimp only
    rw [en]
    refine br_t (by decide) ⟨vp_in_nI (by omega) (by omega), nm_r (e' := nI (q (k + 1))) (by rw [nI_clamp (by omega), ← et]; exact hb k (by omega) (by omega)) ⟨m + 1, e4_walkH X Q t0 hb hp (m - (k + 1)) (k + 1) (m + 1) _ (by omega) (by omega) (by omega) fun j hj => ?_⟩⟩
    by_cases c : j = k
    · subst c; exact pk_us
    · rw [pk_un c]; exact hh j (by omega)
  | succ d ih =>
    intro k N hull hk hN hh
    obtain ⟨N, rfl⟩ : ∃ M, N = M + 1 := ⟨N - 1, by omega⟩
    have ck := Q.2.1 k
    rw [wX_merge_68]
    refine br_f (nI_pos (by omega)) (wx_addCorner (by omega) (by omega) ?_)
    dsimp only
    refine ⟨vp_in_nI (by omega) (by omega), nm_r (e' := nI (q (k + 1))) (by rw [nI_clamp (by omega)]; exact hl.1 k (by omega)) (ih (k + 1) N _ (by omega) (by omega) fun j hj => ?_)⟩
    by_cases c : j = k
    · subst c; exact pk_us
    · rw [pk_un c]; exact hh j (by omega)
theorem e4_outer (X : wk_XP n P a_x a_y) (Q : hu_Q n P m q) {t : Nat} (t0 : 0 < t) (tm : t < m) (et : q t = n - 1) (C : sc_C 0 (-1) 64 (ge_St P n) n P t q) (C' : sc_C 0 1 (-64) (ge_St P n) n (fun p => P (n - 1 - p)) (m - t) (fun k => n - 1 - q (t + k))) {post : SX → Prop} (hp : ∀ u', wk_G f_present (nI n) a_placeOf a_x a_y a_found m q u' → post u') : ∀ (d w N : Nat) (nl bl nh bh : Nat → Int32), n - w ≤ d → d < N → 1 ≤ w → w ≤ 100 → (∀ l, l < n → w ∣ l → e4_B nl bl (fun a b c => ge_cr (P a) (P b) (P c)) (fun b => ∃ k, k ≤ t ∧ q k = b) l (min (l + w) n) ∧ e4_B nh bh (fun a b c => - ge_cr (P a) (P b) (P c)) (fun b => ∃ k, k ≤ m - t ∧ q (t + k) = b) l (min (l + w) n)) → wX_merge_6 post N (nI w) f_present (nI n) 0 f_keptSize f_waiting a_placeOf a_x a_y a_hull a_kept a_found a_order a_waitA a_waitB nl bl nh bh := by
  have hn := X.1
  have hm := hu_m Q
  have hmn := hu_mn Q
  have out : ∀ (w N : Nat) (nl bl nh bh : Nat → Int32), n ≤ w → 0 < N → w ≤ 100 → (∀ l, l < n → w ∣ l → e4_B nl bl (fun a b c => ge_cr (P a) (P b) (P c)) (fun b => ∃ k, k ≤ t ∧ q k = b) l (min (l + w) n) ∧ e4_B nh bh (fun a b c => - ge_cr (P a) (P b) (P c)) (fun b => ∃ k, k ≤ m - t ∧ q (t + k) = b) l (min (l + w) n)) → wX_merge_6 post N (nI w) f_present (nI n) 0 f_keptSize f_waiting a_placeOf a_x a_y a_hull a_kept a_found a_order a_waitA a_waitB nl bl nh bh := fun w N nl bl nh bh le hN hw h => by
    obtain ⟨N, rfl⟩ : ∃ M, N = M + 1 := ⟨N - 1, by omega⟩
    have A := h 0 (by omega) ⟨0, rfl⟩
    rw [show min (0 + w) n = n by omega] at A
    have L := e4_lowC C A.1
    have Hh := e4_highC Q.2.1 C' A.2
    rw [wX_merge_6]
    refine br_t (nI_le le (by omega)) ⟨t + 2, ?_⟩
    have := e4_walkL X Q t0 tm et (a_nextLow := nl) (a_beforeHigh := bh) (a_beforeLow := bl) (a_nextHigh := nh) (f_keptSize := f_keptSize) (f_waiting := f_waiting) (a_kept := a_kept) (a_order := a_order) (a_waitA := a_waitA) (a_waitB := a_waitB) L (fun k k1 k2 => by
      have := Hh (k - t) (by omega)
      rwa [show t + (k - t) = k by omega] at this) hp t 0 (t + 2) a_hull (by omega) (by omega) (fun j hj => absurd hj (by omega))
    rw [Q.2.2.1] at this
    exact this
  intro d
  induction d with
  | zero =>
    intro w N nl bl nh bh hd hN w1 hw h
    exact out w N nl bl nh bh (by omega) (by omega) hw h
  | succ d ih =>
    intro w N nl bl nh bh hd hN w1 hw h
    by_cases le : n ≤ w
    · exact out w N nl bl nh bh le (by omega) hw h
    · obtain ⟨N, rfl⟩ : ∃ M, N = M + 1 := ⟨N - 1, by omega⟩
      rw [wX_merge_6]
      refine br_f (nI_ge (by omega) (by omega)) ⟨n + 1, ?_⟩
      exact e4_inner X (e4_vxL C) (e4_vxH Q.2.1 C') w1 (by omega) (fun nl' bl' nh' bh' h' => ih (w * 2) N nl' bl' nh' bh' (by omega) (by omega) (by omega) (by omega) h') n 0 (n + 1) nl bl nh bh (by omega) (by omega) (by omega) ⟨0, rfl⟩ (fun l hl => absurd hl (by omega)) (fun l _ hl hd => h l hl hd)
theorem e4_merge (X : wk_XP n P a_x a_y) (Q : hu_Q n P m q) {post : SX → Prop} (hp : ∀ u', wk_G f_present (nI n) a_placeOf a_x a_y a_found m q u' → post u') : wpX_merge post (f_present, nI n, 0, f_keptSize, f_waiting, a_placeOf, a_x, a_y, a_hull, a_kept, a_found, a_order, a_waitA, a_waitB, a_nextLow, a_beforeLow, a_nextHigh, a_beforeHigh) := by
  have hn := X.1
  have B := wk_XPb X
  obtain ⟨t, t0, tm, et, up, dn⟩ := hu_mono Q B
  have C := sc_low Q B tm et up
  have C' := sc_high Q B t0 tm et dn
  unfold wpX_merge
  dsimp only
  unfold wpX_startChains
  dsimp only
  refine ⟨n + 1, e4_start hn (fun nl bl nh bh h => ?_) n 0 (n + 1) _ _ _ _ (by omega) (by omega) (fun j hj => absurd hj (by omega))⟩
  dsimp only
  refine ⟨n + 1, e4_outer X Q t0 tm et C C' hp n 1 (n + 1) nl bl nh bh (by omega) (by omega) (by omega) (by omega) (fun l hl _ => ?_)⟩
  have := h l hl
  rw [show min (l + 1) n = l + 1 by omega]
  exact ⟨e4_one this.1 this.2.1, e4_one this.2.2.1 this.2.2.2⟩
end
end
section
/-! engine 5: the walks of one insertion -/
theorem ge_CHc {S : Int × Int → Prop} {m : Nat} {h h' : Nat → Int × Int} (H : ge_CH S m h) (e : ∀ k, h k = h' k) : ge_CH S m h' := by
  have : h = h' := funext e
  exact this ▸ H
section
variable {f_present f_count f_size f_keptSize f_waiting : Int32} {a_placeOf a_x a_y a_hull a_kept a_found a_order a_waitA a_waitB a_nextLow a_beforeLow a_nextHigh a_beforeHigh : Nat → Int32} {n : Nat} {P : Nat → Int × Int}
theorem wx_sideAt (X : wk_XP n P a_x a_y) {M : Nat} {a : Nat → Nat} (hM : 0 < M) (hM' : M ≤ 48) (ha : ∀ j, j < M → a_hull j = nI (a j) ∧ a j < n) {i p : Nat} (hi : i < M) (hp : p < n) {post : Int32 → Prop} (h : post (wk_i (ge_cr (P (a (i % M))) (P (a ((i + 1) % M))) (P p)))) : wpX_sideAt post (f_present, f_count, nI M, f_keptSize, f_waiting, a_placeOf, a_x, a_y, a_hull, a_kept, a_found, a_order, a_waitA, a_waitB, a_nextLow, a_beforeLow, a_nextHigh, a_beforeHigh) (nI i) (nI p) := by
  have l := Nat.mod_lt (i + 1) hM
  unfold wpX_sideAt
  dsimp only
  rw [nI_1, pk_rem (by omega) hM (by omega), nI_clamp (by omega), nI_clamp (by omega), (ha i hi).1, (ha _ l).1]
  rw [Nat.mod_eq_of_lt hi] at h
  exact ⟨vp_in_nI (by omega) (by omega), nI_ne0 hM (by omega), vp_in_nI (by omega) (by omega), wx_turn X (ha i hi).2 (ha _ l).2 hp h⟩
/-- the last copying -/
theorem e5_copy {M : Nat} (hM : M ≤ 48) {b : Nat → Nat} (hb : ∀ j, j < M → a_kept j = nI (b j) ∧ b j < 128) {post : SX → Prop} (hp : ∀ hull, (∀ j, j < M → hull j = nI (b j)) → post (f_present, f_count, nI M, f_keptSize, f_waiting, a_placeOf, a_x, a_y, hull, a_kept, a_found, a_order, a_waitA, a_waitB, a_nextLow, a_beforeLow, a_nextHigh, a_beforeHigh)) : ∀ (d i N : Nat) (hull : Nat → Int32), i + d = M → d < N → (∀ j, j < i → hull j = nI (b j)) → wX_insertMore_209 post f_present f_count (nI M) f_keptSize f_waiting N (nI i) a_placeOf a_x a_y hull a_kept a_found a_order a_waitA a_waitB a_nextLow a_beforeLow a_nextHigh a_beforeHigh := by
  intro d
  induction d with
  | zero =>
    intro i N hull hi hN h
    obtain ⟨N, rfl⟩ : ∃ M, N = M + 1 := ⟨N - 1, by omega⟩
    rw [wX_insertMore_209]
    exact br_t (nI_le (by omega) (by omega)) (hp hull (fun j hj => h j (by omega)))
  | succ d ih =>
    intro i N hull hi hN h
    obtain ⟨N, rfl⟩ : ∃ M, N = M + 1 := ⟨N - 1, by omega⟩
    have B := hb i (by omega)
    rw [wX_insertMore_209]
    have v := vp_in_nI (n := i) (N := 48) (by omega) (by omega)
    refine br_f (nI_ge (by omega) (by omega)) ⟨v, v, nm_r (e' := upd hull i (nI (b i))) (by rw [nI_clamp (by omega), B.1, wk_bn' B.2]) (nm_r (nI_1 i) (ih (i + 1) N _ (by omega) (by omega) fun j hj => ?_))⟩
    by_cases c : j = i
    · subst c; exact pk_us
    · rw [pk_un c]; exact h j (by omega)
/-- the same, written for the turning to the first -/
theorem e5_copy2 {M : Nat} (hM : M ≤ 48) {b : Nat → Nat} (hb : ∀ j, j < M → a_kept j = nI (b j) ∧ b j < 128) {post : SX → Prop} (hp : ∀ hull, (∀ j, j < M → hull j = nI (b j)) → post (f_present, f_count, nI M, f_keptSize, f_waiting, a_placeOf, a_x, a_y, hull, a_kept, a_found, a_order, a_waitA, a_waitB, a_nextLow, a_beforeLow, a_nextHigh, a_beforeHigh)) : ∀ (d i N : Nat) (hull : Nat → Int32), i + d = M → d < N → (∀ j, j < i → hull j = nI (b j)) → wX_turnToFirst_76 post f_present f_count (nI M) f_keptSize f_waiting N (nI i) a_placeOf a_x a_y hull a_kept a_found a_order a_waitA a_waitB a_nextLow a_beforeLow a_nextHigh a_beforeHigh := by
  intro d
  induction d with
  | zero =>
    intro i N hull hi hN h
    obtain ⟨N, rfl⟩ : ∃ M, N = M + 1 := ⟨N - 1, by omega⟩
    rw [wX_turnToFirst_76]
    exact br_t (nI_le (by omega) (by omega)) (hp hull (fun j hj => h j (by omega)))
  | succ d ih =>
    intro i N hull hi hN h
    obtain ⟨N, rfl⟩ : ∃ M, N = M + 1 := ⟨N - 1, by omega⟩
    have B := hb i (by omega)
    rw [wX_turnToFirst_76]
    have v := vp_in_nI (n := i) (N := 48) (by omega) (by omega)
    refine br_f (nI_ge (by omega) (by omega)) ⟨v, v, nm_r (e' := upd hull i (nI (b i))) (by rw [nI_clamp (by omega), B.1, wk_bn' B.2]) (nm_r (nI_1 i) (ih (i + 1) N _ (by omega) (by omega) fun j hj => ?_))⟩
    by_cases c : j = i
    · subst c; exact pk_us
    · rw [pk_un c]; exact h j (by omega)
theorem e5_turn41 {M : Nat} (h1 : 0 < M) (hM : M ≤ 24) {a : Nat → Nat} (ha : ∀ j, j < M → a_hull j = nI (a j) ∧ a j < 128) {f : Nat} (hf : f < M) {post : SX → Prop} (hp : ∀ kept hull, (∀ j, j < M → hull j = nI (a ((f + j) % M))) → post (f_present, f_count, nI M, f_keptSize, f_waiting, a_placeOf, a_x, a_y, hull, kept, a_found, a_order, a_waitA, a_waitB, a_nextLow, a_beforeLow, a_nextHigh, a_beforeHigh)) : ∀ (d i N : Nat) (kept : Nat → Int32), i + d = M → d < N → (∀ j, j < i → kept j = nI (a ((f + j) % M))) → wX_turnToFirst_41 post (nI f) f_present f_count (nI M) f_keptSize f_waiting N (nI i) a_placeOf a_x a_y a_hull kept a_found a_order a_waitA a_waitB a_nextLow a_beforeLow a_nextHigh a_beforeHigh := by
  intro d
  induction d with
  | zero =>
    intro i N kept hi hN h
    obtain ⟨N, rfl⟩ : ∃ M, N = M + 1 := ⟨N - 1, by omega⟩
    rw [wX_turnToFirst_41]
    refine br_t (nI_le (by omega) (by omega)) ⟨M + 1, ?_⟩
    exact e5_copy2 (by omega) (b := fun j => a ((f + j) % M)) (fun j hj => ⟨h j (by omega), (ha _ (Nat.mod_lt _ h1)).2⟩) (hp kept) M 0 (M + 1) a_hull (by omega) (by omega) (fun j hj => absurd hj (by omega))
  | succ d ih =>
    intro i N kept hi hN h
    obtain ⟨N, rfl⟩ : ∃ M, N = M + 1 := ⟨N - 1, by omega⟩
    have l := Nat.mod_lt (f + i) h1
    rw [wX_turnToFirst_41]
    dsimp only
    rw [nI_add, pk_rem (by omega) h1 (by omega)]
    refine br_f (nI_ge (by omega) (by omega)) ⟨nI_ne0 h1 (by omega), vp_in_nI (by omega) (by omega), vp_in_nI (by omega) (by omega), nm_r (e' := upd kept i (nI (a ((f + i) % M)))) (by rw [nI_clamp (by omega), nI_clamp (by omega), (ha _ l).1, wk_bn' (ha _ l).2]) (nm_r (nI_1 i) (ih (i + 1) N _ (by omega) (by omega) fun j hj => ?_))⟩
    by_cases c : j = i
    · subst c; exact pk_us
    · rw [pk_un c]; exact h j (by omega)
theorem e5_turn4 {M : Nat} (h1 : 0 < M) (hM : M ≤ 24) {a : Nat → Nat} (ha : ∀ j, j < M → a_hull j = nI (a j) ∧ a j < 128) {post : SX → Prop} (hp : ∀ f kept hull, f < M → (∀ j, j < M → a f ≤ a j) → (∀ j, j < M → hull j = nI (a ((f + j) % M))) → post (f_present, f_count, nI M, f_keptSize, f_waiting, a_placeOf, a_x, a_y, hull, kept, a_found, a_order, a_waitA, a_waitB, a_nextLow, a_beforeLow, a_nextHigh, a_beforeHigh)) : ∀ (d i f N : Nat), i + d = M → d < N → f < M → (∀ j, j < i → a f ≤ a j) → wX_turnToFirst_4 post f_present f_count (nI M) f_keptSize f_waiting a_placeOf a_x a_y a_hull a_kept a_found a_order a_waitA a_waitB a_nextLow a_beforeLow a_nextHigh a_beforeHigh N (nI f) (nI i) := by
  intro d
  induction d with
  | zero =>
    intro i f N hi hN hf h
    obtain ⟨N, rfl⟩ : ∃ M, N = M + 1 := ⟨N - 1, by omega⟩
    rw [wX_turnToFirst_4]
    refine br_t (nI_le (by omega) (by omega)) ⟨M + 1, ?_⟩
    exact e5_turn41 h1 hM ha hf (fun kept hull hh => hp f kept hull hf (fun j hj => h j (by omega)) hh) M 0 (M + 1) a_kept (by omega) (by omega) (fun j hj => absurd hj (by omega))
  | succ d ih =>
    intro i f N hi hN hf h
    obtain ⟨N, rfl⟩ : ∃ M, N = M + 1 := ⟨N - 1, by omega⟩
    rw [wX_turnToFirst_4]
    dsimp only
    have A := ha f hf
    have A' := ha i (by omega)
    rw [nI_clamp (show f < 2 ^ 31 by omega), nI_clamp (show i < 2 ^ 31 by omega), A.1, A'.1]
    refine br_f (nI_ge (by omega) (by omega)) ⟨vp_in_nI (by omega) (by omega), vp_in_nI (by omega) (by omega), pk_le (a f) (a i) (fun z => nm_r (nI_1 i) (ih (i + 1) f N (by omega) (by omega) hf (lt_s h z))) (fun z => nm_r (nI_1 i) (ih (i + 1) i N (by omega) (by omega) (by omega) (lt_s (fun j hj => ?_) (Nat.le_refl _))))⟩
    have := h j hj
    omega
theorem e5_turn {M : Nat} (h1 : 0 < M) (hM : M ≤ 24) {a : Nat → Nat} (ha : ∀ j, j < M → a_hull j = nI (a j) ∧ a j < 128) {post : SX → Prop} (hp : ∀ f kept hull, f < M → (∀ j, j < M → a f ≤ a j) → (∀ j, j < M → hull j = nI (a ((f + j) % M))) → post (f_present, f_count, nI M, f_keptSize, f_waiting, a_placeOf, a_x, a_y, hull, kept, a_found, a_order, a_waitA, a_waitB, a_nextLow, a_beforeLow, a_nextHigh, a_beforeHigh)) : wpX_turnToFirst post (f_present, f_count, nI M, f_keptSize, f_waiting, a_placeOf, a_x, a_y, a_hull, a_kept, a_found, a_order, a_waitA, a_waitB, a_nextLow, a_beforeLow, a_nextHigh, a_beforeHigh) := by
  unfold wpX_turnToFirst
  exact ⟨M + 1, e5_turn4 h1 hM ha hp M 0 0 (M + 1) (by omega) (by omega) h1 (fun j hj => absurd hj (by omega))⟩

/-- what is kept -/
theorem e5_122 {M : Nat} (h3 : 3 ≤ M) (hM : M ≤ 24) {a : Nat → Nat} (ha : ∀ j, j < M → a_hull j = nI (a j) ∧ a j < 128) {p f d : Nat} (hp' : p < 128) (hf : f < M) (d1 : 1 ≤ d) (dM : d < M) {post : SX → Prop} (hp : ∀ ks kept hull, (∀ j, j < M - d + 2 → hull j = nI (if j ≤ M - d then a ((f + d + j) % M) else p)) → post (f_present, f_count, nI (M - d + 2), ks, f_waiting, a_placeOf, a_x, a_y, hull, kept, a_found, a_order, a_waitA, a_waitB, a_nextLow, a_beforeLow, a_nextHigh, a_beforeHigh)) : ∀ (g e N : Nat) (kept : Nat → Int32), e + g = M - d → g < N → (∀ j, j < e → kept j = nI (a ((f + d + j) % M))) → wX_insertMore_122 post (nI p) (nI f) f_present f_count (nI M) f_waiting N (nI ((f + d + e) % M)) (nI e) a_placeOf a_x a_y a_hull kept a_found a_order a_waitA a_waitB a_nextLow a_beforeLow a_nextHigh a_beforeHigh := by
  intro g
  induction g with
  | zero =>
    intro e N kept he hN h
    obtain ⟨N, rfl⟩ : ∃ M, N = M + 1 := ⟨N - 1, by omega⟩
    have ef : (f + d + e) % M = f := by
      rw [show f + d + e = f + M by omega, Nat.add_mod_right, Nat.mod_eq_of_lt hf]
    have A := ha f hf
    rw [wX_insertMore_122]
    dsimp only
    rw [ef, nI_clamp (show f < 2 ^ 31 by omega), nI_clamp (show e < 2 ^ 31 by omega), A.1, wk_bn' A.2, nI_1, nI_clamp (show e + 1 < 2 ^ 31 by omega), wk_bn hp']
    refine br_t rfl ⟨vp_in_nI (by omega) (by omega), vp_in_nI (by omega) (by omega), nm_e ⟨vp_in_nI (by omega) (by omega), nm_e (nm_r (e' := nI (M - d + 2)) ?_ ⟨M - d + 2 + 1, ?_⟩)⟩⟩
    · show nI e + nI 2 = _
      rw [nI_add, show e + 2 = M - d + 2 by omega]
    · refine e5_copy (by omega) (b := fun j => if j ≤ M - d then a ((f + d + j) % M) else p) (fun j hj => ?_) (hp (nI e) _) (M - d + 2) 0 (M - d + 2 + 1) a_hull (by omega) (by omega) (fun j hj => absurd hj (by omega))
      show upd (upd kept e (nI (a f))) (e + 1) (nI p) j = nI (if j ≤ M - d then a ((f + d + j) % M) else p) ∧ (if j ≤ M - d then a ((f + d + j) % M) else p) < 128
      by_cases c : j ≤ M - d
      · rw [if_pos c, pk_un (by omega)]
        refine ⟨?_, (ha _ (Nat.mod_lt _ (by omega))).2⟩
        by_cases c2 : j = e
        · subst c2; rw [pk_us, ef]
        · rw [pk_un c2]; exact h j (by omega)
      · rw [if_neg c, show j = e + 1 by omega, pk_us]
        exact ⟨rfl, hp'⟩
  | succ g ih =>
    intro e N kept he hN h
    obtain ⟨N, rfl⟩ : ∃ M, N = M + 1 := ⟨N - 1, by omega⟩
    have l := Nat.mod_lt (f + d + e) (show 0 < M by omega)
    have A := ha _ l
    have nf : (f + d + e) % M ≠ f := by
      have := ge_modne (m := M) (i := f) (j := f + d + e) (by omega) (by omega)
      rw [Nat.mod_eq_of_lt hf] at this
      exact fun z => this z.symm
    have en : ((f + d + e) % M + 1) % M = (f + d + (e + 1)) % M := Nat.mod_add_mod _ _ _
    rw [wX_insertMore_122]
    dsimp only
    rw [nI_clamp (show (f + d + e) % M < 2 ^ 31 by omega), nI_clamp (show e < 2 ^ 31 by omega), A.1, wk_bn' A.2, nI_1, nI_1, pk_rem (by omega) (by omega) (by omega), en]
    refine br_f (fun z => nf ((nI_eq (by omega) (by omega)).mp z)) ⟨vp_in_nI (by omega) (by omega), vp_in_nI (by omega) (by omega), nm_e (nm_e ⟨nI_ne0 (by omega) (by omega), nm_e (ih (e + 1) N _ (by omega) (by omega) fun j hj => ?_)⟩)⟩
    by_cases c : j = e
    · subst c; exact pk_us
    · rw [pk_un c]; exact h j (by omega)
/-- the far end of what p sees -/
theorem e5_89 (X : wk_XP n P a_x a_y) {M : Nat} (h3 : 3 ≤ M) (hM : M ≤ 24) {a : Nat → Nat} (ha : ∀ j, j < M → a_hull j = nI (a j) ∧ a j < n) {p f D : Nat} (hpn : p < n) (hf : f < M) (DM : D < M) (sD : 0 < ge_cr (P (a ((f + D) % M))) (P (a ((f + D + 1) % M))) (P p)) (f0 : ge_cr (P (a (f % M))) (P (a ((f + 1) % M))) (P p) ≤ 0) {post : SX → Prop} (hp : ∀ d ks kept hull, 1 ≤ d → d < M → (∀ j, j < d → ge_cr (P (a ((f + j) % M))) (P (a ((f + j + 1) % M))) (P p) ≤ 0) → 0 < ge_cr (P (a ((f + d) % M))) (P (a ((f + d + 1) % M))) (P p) → (∀ j, j < M - d + 2 → hull j = nI (if j ≤ M - d then a ((f + d + j) % M) else p)) → post (f_present, f_count, nI (M - d + 2), ks, f_waiting, a_placeOf, a_x, a_y, hull, kept, a_found, a_order, a_waitA, a_waitB, a_nextLow, a_beforeLow, a_nextHigh, a_beforeHigh)) : ∀ (g d N : Nat), d + g = D → g < N → (∀ j, j < d → ge_cr (P (a ((f + j) % M))) (P (a ((f + j + 1) % M))) (P p) ≤ 0) → wX_insertMore_89 post (nI p) (nI f) f_present f_count (nI M) f_keptSize f_waiting a_placeOf a_x a_y a_hull a_kept a_found a_order a_waitA a_waitB a_nextLow a_beforeLow a_nextHigh a_beforeHigh N (nI ((f + d) % M)) := by
  have hn := X.1
  have B := wk_XPb X
  intro g
  induction g with
  | zero =>
    intro d N hd hN h
    obtain ⟨N, rfl⟩ : ∃ M, N = M + 1 := ⟨N - 1, by omega⟩
    have e : d = D := by omega
    subst e
    have d1 : d ≠ 0 := fun z => by subst z; rw [Nat.add_zero] at sD; omega
    have l := Nat.mod_lt (f + d) (show 0 < M by omega)
    rw [wX_insertMore_89]
    refine wx_sideAt X (by omega) (by omega) ha l hpn ?_
    rw [Nat.mod_mod, Nat.mod_add_mod]
    have l2 := Nat.mod_lt (f + d + 1) (show 0 < M by omega)
    have bd := ge_crb B (p := P (a ((f + d) % M))) (q := P (a ((f + d + 1) % M))) (r := P p) ⟨_, (ha _ l).2, rfl⟩ ⟨_, (ha _ l2).2, rfl⟩ ⟨_, hpn, rfl⟩
    refine wk_blt 0 (ge_cr (P (a ((f + d) % M))) (P (a ((f + d + 1) % M))) (P p)) (fun _ => ⟨M + 1, ?_⟩) (fun z => absurd z (by omega))
    exact e5_122 h3 hM (fun j hj => ⟨(ha j hj).1, by have := (ha j hj).2; omega⟩) (by omega) hf (by omega) DM (fun ks kept hull hh => hp d ks kept hull (by omega) DM h sD hh) (M - d) 0 (M + 1) a_kept (by omega) (by omega) (fun j hj => absurd hj (by omega))
  | succ g ih =>
    intro d N hd hN h
    obtain ⟨N, rfl⟩ : ∃ M, N = M + 1 := ⟨N - 1, by omega⟩
    have l := Nat.mod_lt (f + d) (show 0 < M by omega)
    have l2 := Nat.mod_lt (f + d + 1) (show 0 < M by omega)
    rw [wX_insertMore_89]
    refine wx_sideAt X (by omega) (by omega) ha l hpn ?_
    rw [Nat.mod_mod, Nat.mod_add_mod]
    have bd := ge_crb B (p := P (a ((f + d) % M))) (q := P (a ((f + d + 1) % M))) (r := P p) ⟨_, (ha _ l).2, rfl⟩ ⟨_, (ha _ l2).2, rfl⟩ ⟨_, hpn, rfl⟩
    have en : ((f + d) % M + 1) % M = (f + (d + 1)) % M := Nat.mod_add_mod _ _ _
    refine wk_blt 0 (ge_cr (P (a ((f + d) % M))) (P (a ((f + d + 1) % M))) (P p)) (fun z => ⟨M + 1, ?_⟩) (fun z => ⟨nI_ne0 (by omega) (by omega), nm_r (e' := nI ((f + (d + 1)) % M)) (by rw [nI_1, pk_rem (by omega) (by omega) (by omega), en]) (ih (d + 1) N (by omega) (by omega) (lt_s h z))⟩)
    have d1 : d ≠ 0 := fun w => by subst w; rw [Nat.add_zero] at z; omega
    exact e5_122 h3 hM (fun j hj => ⟨(ha j hj).1, by have := (ha j hj).2; omega⟩) (by omega) hf (by omega) (by omega) (fun ks kept hull hh => hp d ks kept hull (by omega) (by omega) h z hh) (M - d) 0 (M + 1) a_kept (by omega) (by omega) (fun j hj => absurd hj (by omega))
end
end
section
/-! engine 5: insertion and all of it -/
theorem e5_desc {M : Nat} {sd : Nat → Int} (per : ∀ k, sd (k + M) = sd k) {i j : Nat} (hi : i < M) (hj : j < M) (pi : 0 < sd i) (pj : sd j < 0) : ∃ F, F < M ∧ sd F ≤ 0 ∧ 0 < sd (F + M - 1) := by
  obtain ⟨f, f1, f2, f3, f4⟩ := ge_least (fun k => sd k ≤ 0) i (j + M - i) (by
    rw [show i + (j + M - i) = j + M by omega, per]; omega)
  have fi : f ≠ i := fun z => by subst z; omega
  have p := f4 (f - 1) (by omega) (by omega)
  by_cases c : f < M
  · refine ⟨f, c, f3, ?_⟩
    rw [show f + M - 1 = f - 1 + M by omega, per]; omega
  · refine ⟨f - M, by omega, ?_, ?_⟩
    · rw [← per, show f - M + M = f by omega]; exact f3
    · rw [show f - M + M - 1 = f - 1 by omega]; omega
theorem e5_cyc {M : Nat} (hM : 0 < M) (a : Nat → Nat) (P : Nat → Int × Int) (p : Int × Int) (k : Nat) : ge_cr (P (a ((k + M) % M))) (P (a ((k + M + 1) % M))) p = ge_cr (P (a (k % M))) (P (a ((k + 1) % M))) p := by
  rw [Nat.add_mod_right, show k + M + 1 = k + 1 + M by omega, Nat.add_mod_right]
theorem e5_sq3 {a b p : Int × Int} (hn : a ≠ b) (hc : ge_cr a b p = 0) : ((ge_sq a b < ge_sq a p ∧ ge_sq b p < ge_sq a p) → ge_sq a b < ge_dt a b p) ∧ (¬ (ge_sq a b < ge_sq a p ∧ ge_sq b p < ge_sq a p) → ge_sq a b < ge_sq b p → ge_dt a b p < 0) ∧ (¬ (ge_sq a b < ge_sq a p ∧ ge_sq b p < ge_sq a p) → ge_sq b p ≤ ge_sq a b → 0 ≤ ge_dt a b p ∧ ge_dt a b p ≤ ge_sq a b) := by
  have E := ge_sqp hn
  have L := ge_lag a b p
  have D := ge_sqd a b p
  have Y := ge_sqn a p
  rw [hc] at L
  generalize ge_sq b p = z at *
  generalize ge_sq a p = y at *
  generalize ge_sq a b = e at *
  generalize ge_dt a b p = s at *
  have big : e < s → e < y := fun h => by
    have x1 := Int.mul_lt_mul_of_pos_left h (show 0 < s by omega)
    have x2 : s * e < e * y := by omega
    rw [Int.mul_comm s e] at x2
    have := Int.lt_of_mul_lt_mul_left x2 (by omega)
    omega
  have sml : 0 ≤ s → s ≤ e → y ≤ s := fun h0 h => by
    have x1 := Int.mul_le_mul_of_nonneg_left h h0
    have x2 : e * y ≤ e * s := by rw [Int.mul_comm e s]; omega
    exact Int.le_of_mul_le_mul_left x2 (by omega)
  refine ⟨fun h => ?_, fun h h2 => ?_, fun h h2 => ?_⟩
  · apply Int.lt_of_not_ge
    intro w
    have := sml (by omega) w
    omega
  · apply Int.lt_of_not_ge
    intro w
    by_cases c : s ≤ e
    · have := sml w c
      omega
    · have := big (by omega)
      omega
  · refine ⟨by omega, ?_⟩
    apply Int.le_of_not_gt
    intro w
    have := big w
    omega
section
variable {f_present f_count f_size f_keptSize f_waiting : Int32} {a_placeOf a_x a_y a_hull a_kept a_found a_order a_waitA a_waitB a_nextLow a_beforeLow a_nextHigh a_beforeHigh : Nat → Int32} {n : Nat} {P : Nat → Int × Int} {m : Nat} {q : Nat → Nat}
theorem e5_44 (X : wk_XP n P a_x a_y) {M : Nat} (h3 : 3 ≤ M) (hM : M ≤ 24) {a : Nat → Nat} (ha : ∀ j, j < M → a_hull j = nI (a j) ∧ a j < n) {p F : Nat} (hpn : p < n) (hF : F < M) (sF : ge_cr (P (a (F % M))) (P (a ((F + 1) % M))) (P p) ≤ 0) (sF' : 0 < ge_cr (P (a ((F + M - 1) % M))) (P (a ((F + M - 1 + 1) % M))) (P p)) {post : SX → Prop} (hp : ∀ f d ks kept hull, f < M → 1 ≤ d → d < M → 0 < ge_cr (P (a ((f + M - 1) % M))) (P (a ((f + M - 1 + 1) % M))) (P p) → (∀ j, j < d → ge_cr (P (a ((f + j) % M))) (P (a ((f + j + 1) % M))) (P p) ≤ 0) → 0 < ge_cr (P (a ((f + d) % M))) (P (a ((f + d + 1) % M))) (P p) → (∀ j, j < M - d + 2 → hull j = nI (if j ≤ M - d then a ((f + d + j) % M) else p)) → post (f_present, f_count, nI (M - d + 2), ks, f_waiting, a_placeOf, a_x, a_y, hull, kept, a_found, a_order, a_waitA, a_waitB, a_nextLow, a_beforeLow, a_nextHigh, a_beforeHigh)) : ∀ (g f N : Nat), f + g = F → g < N → wX_insertMore_44 post (nI p) f_present f_count (nI M) f_keptSize f_waiting a_placeOf a_x a_y a_hull a_kept a_found a_order a_waitA a_waitB a_nextLow a_beforeLow a_nextHigh a_beforeHigh N (nI f) := by
  have hn := X.1
  have B := wk_XPb X
  intro g
  induction g with
  | zero =>
    intro f N hf hN
    obtain ⟨N, rfl⟩ : ∃ M, N = M + 1 := ⟨N - 1, by omega⟩
    have e : f = F := by omega
    subst e
    have l0 := Nat.mod_lt f (show 0 < M by omega)
    have l1 := Nat.mod_lt (f + 1) (show 0 < M by omega)
    have l2 := Nat.mod_lt (f + M - 1) (show 0 < M by omega)
    have l3 := Nat.mod_lt (f + M - 1 + 1) (show 0 < M by omega)
    have b1 := ge_crb B (p := P (a (f % M))) (q := P (a ((f + 1) % M))) (r := P p) ⟨_, (ha _ l0).2, rfl⟩ ⟨_, (ha _ l1).2, rfl⟩ ⟨_, hpn, rfl⟩
    have b2 := ge_crb B (p := P (a ((f + M - 1) % M))) (q := P (a ((f + M - 1 + 1) % M))) (r := P p) ⟨_, (ha _ l2).2, rfl⟩ ⟨_, (ha _ l3).2, rfl⟩ ⟨_, hpn, rfl⟩
    have ep : nI f + nI M - 1 = nI (f + M - 1) := by
      rw [nI_add]
      obtain ⟨k, hk⟩ : ∃ k, f + M = k + 1 := ⟨f + M - 1, by omega⟩
      rw [hk]; exact nI_pred k
    rw [wX_insertMore_44]
    dsimp only
    rw [ep, pk_rem (by omega) (by omega) (by omega)]
    refine wx_sideAt X (by omega) (by omega) ha hF hpn ?_
    refine wk_blt 0 (ge_cr (P (a (f % M))) (P (a ((f + 1) % M))) (P p)) (fun z => absurd z (by omega)) (fun z => ⟨nI_ne0 (by omega) (by omega), wx_sideAt X (by omega) (by omega) ha l2 hpn ?_⟩)
    rw [Nat.mod_mod, Nat.mod_add_mod]
    refine wk_blt 0 (ge_cr (P (a ((f + M - 1) % M))) (P (a ((f + M - 1 + 1) % M))) (P p)) (fun y => ⟨M + 1, ?_⟩) (fun y => absurd y (by omega))
    have := e5_89 (f_keptSize := f_keptSize) (a_kept := a_kept) X h3 hM ha hpn hF (D := M - 1) (by omega) (by rw [show f + (M - 1) = f + M - 1 by omega]; exact sF') sF (fun d ks kept hull d1 d2 d3 d4 d5 => hp f d ks kept hull hF d1 d2 sF' d3 d4 d5) (M - 1) 0 (M + 1) (by omega) (by omega) (fun j hj => absurd hj (by omega))
    rw [show (f + 0) % M = f from Nat.mod_eq_of_lt hF] at this
    exact this
  | succ g ih =>
    intro f N hf hN
    obtain ⟨N, rfl⟩ : ∃ M, N = M + 1 := ⟨N - 1, by omega⟩
    have hfM : f < M := by omega
    have l0 := Nat.mod_lt f (show 0 < M by omega)
    have l1 := Nat.mod_lt (f + 1) (show 0 < M by omega)
    have l2 := Nat.mod_lt (f + M - 1) (show 0 < M by omega)
    have l3 := Nat.mod_lt (f + M - 1 + 1) (show 0 < M by omega)
    have b1 := ge_crb B (p := P (a (f % M))) (q := P (a ((f + 1) % M))) (r := P p) ⟨_, (ha _ l0).2, rfl⟩ ⟨_, (ha _ l1).2, rfl⟩ ⟨_, hpn, rfl⟩
    have b2 := ge_crb B (p := P (a ((f + M - 1) % M))) (q := P (a ((f + M - 1 + 1) % M))) (r := P p) ⟨_, (ha _ l2).2, rfl⟩ ⟨_, (ha _ l3).2, rfl⟩ ⟨_, hpn, rfl⟩
    have ep : nI f + nI M - 1 = nI (f + M - 1) := by
      rw [nI_add]
      obtain ⟨k, hk⟩ : ∃ k, f + M = k + 1 := ⟨f + M - 1, by omega⟩
      rw [hk]; exact nI_pred k
    have go : wX_insertMore_74 post (wX_insertMore_44 post (nI p) f_present f_count (nI M) f_keptSize f_waiting a_placeOf a_x a_y a_hull a_kept a_found a_order a_waitA a_waitB a_nextLow a_beforeLow a_nextHigh a_beforeHigh N) (nI p) (nI f) f_present f_count (nI M) f_keptSize f_waiting a_placeOf a_x a_y a_hull a_kept a_found a_order a_waitA a_waitB a_nextLow a_beforeLow a_nextHigh a_beforeHigh := by
      unfold wX_insertMore_74
      exact ⟨nI_ne0 (by omega) (by omega), nm_r (e' := nI (f + 1)) (by rw [nI_1, pk_rem (by omega) (by omega) (by omega), Nat.mod_eq_of_lt (by omega)]) (ih (f + 1) N (by omega) (by omega))⟩
    rw [wX_insertMore_44]
    dsimp only
    rw [ep, pk_rem (by omega) (by omega) (by omega)]
    refine wx_sideAt X (by omega) (by omega) ha hfM hpn ?_
    refine wk_blt 0 (ge_cr (P (a (f % M))) (P (a ((f + 1) % M))) (P p)) (fun z => go) (fun z => ⟨nI_ne0 (by omega) (by omega), wx_sideAt X (by omega) (by omega) ha l2 hpn ?_⟩)
    rw [Nat.mod_mod, Nat.mod_add_mod]
    refine wk_blt 0 (ge_cr (P (a ((f + M - 1) % M))) (P (a ((f + M - 1 + 1) % M))) (P p)) (fun y => ⟨M + 1, ?_⟩) (fun y => go)
    have := e5_89 (f_keptSize := f_keptSize) (a_kept := a_kept) X h3 hM ha hpn hfM (D := M - 1) (by omega) (by rw [show f + (M - 1) = f + M - 1 by omega]; exact y) z (fun d ks kept hull d1 d2 d3 d4 d5 => hp f d ks kept hull hfM d1 d2 y d3 d4 d5) (M - 1) 0 (M + 1) (by omega) (by omega) (fun j hj => absurd hj (by omega))
    rw [show (f + 0) % M = f from Nat.mod_eq_of_lt hfM] at this
    exact this
theorem e5_4 (X : wk_XP n P a_x a_y) {M : Nat} (h3 : 3 ≤ M) (hM : M ≤ 24) {a : Nat → Nat} (ha : ∀ j, j < M → a_hull j = nI (a j) ∧ a j < n) {p : Nat} (hpn : p < n) {post : SX → Prop} (h0 : (∀ j, j < M → 0 ≤ ge_cr (P (a (j % M))) (P (a ((j + 1) % M))) (P p)) → post (f_present, f_count, nI M, f_keptSize, f_waiting, a_placeOf, a_x, a_y, a_hull, a_kept, a_found, a_order, a_waitA, a_waitB, a_nextLow, a_beforeLow, a_nextHigh, a_beforeHigh)) (h1 : (∃ j, j < M ∧ ge_cr (P (a (j % M))) (P (a ((j + 1) % M))) (P p) < 0) → wX_insertMore_44 post (nI p) f_present f_count (nI M) f_keptSize f_waiting a_placeOf a_x a_y a_hull a_kept a_found a_order a_waitA a_waitB a_nextLow a_beforeLow a_nextHigh a_beforeHigh (M + 1) (nI 0)) : ∀ (d i N : Nat), i + d = M → d < N → ((∀ j, j < i → 0 ≤ ge_cr (P (a (j % M))) (P (a ((j + 1) % M))) (P p)) → wX_insertMore_4 post (nI p) f_present f_count (nI M) f_keptSize f_waiting a_placeOf a_x a_y a_hull a_kept a_found a_order a_waitA a_waitB a_nextLow a_beforeLow a_nextHigh a_beforeHigh N 0 (nI i)) ∧ ((∃ j, j < M ∧ ge_cr (P (a (j % M))) (P (a ((j + 1) % M))) (P p) < 0) → wX_insertMore_4 post (nI p) f_present f_count (nI M) f_keptSize f_waiting a_placeOf a_x a_y a_hull a_kept a_found a_order a_waitA a_waitB a_nextLow a_beforeLow a_nextHigh a_beforeHigh N 1 (nI i)) := by
  have hn := X.1
  have B := wk_XPb X
  intro d
  induction d with
  | zero =>
    intro i N hi hN
    obtain ⟨N, rfl⟩ : ∃ M, N = M + 1 := ⟨N - 1, by omega⟩
    have e : i = M := by omega
    subst e
    rw [wX_insertMore_4]
    exact ⟨fun h => br_t (nI_le (by omega) (by omega)) (br_t rfl (h0 h)), fun h => br_t (nI_le (by omega) (by omega)) (br_f (by decide) ⟨i + 1, h1 h⟩)⟩
  | succ d ih =>
    intro i N hi hN
    obtain ⟨N, rfl⟩ : ∃ M, N = M + 1 := ⟨N - 1, by omega⟩
    have I := ih (i + 1) N (by omega) (by omega)
    rw [← nI_1] at I
    have hiM : i < M := by omega
    have l0 := Nat.mod_lt i (show 0 < M by omega)
    have l1 := Nat.mod_lt (i + 1) (show 0 < M by omega)
    have b1 := ge_crb B (p := P (a (i % M))) (q := P (a ((i + 1) % M))) (r := P p) ⟨_, (ha _ l0).2, rfl⟩ ⟨_, (ha _ l1).2, rfl⟩ ⟨_, hpn, rfl⟩
    rw [wX_insertMore_4]
    refine ⟨fun h => br_f (nI_ge (by omega) (by omega)) (br_t rfl (wx_sideAt X (by omega) (by omega) ha hiM hpn ?_)), fun h => br_f (nI_ge (by omega) (by omega)) (br_f (by decide) (nm_e (I.2 h)))⟩
    exact wk_ble 0 (ge_cr (P (a (i % M))) (P (a ((i + 1) % M))) (P p)) (fun z => nm_e (I.1 (lt_s h z))) (fun z => nm_e (I.2 ⟨i, hiM, z⟩))
theorem e5_more (X : wk_XP n P a_x a_y) {S : Int × Int → Prop} (Sb : ge_bd S) {M : Nat} (h3 : 3 ≤ M) (hM : M ≤ 24) {a : Nat → Nat} (ha : ∀ j, j < M → a_hull j = nI (a j) ∧ a j < n) (H : ge_CH S M (fun j => P (a (j % M)))) {p : Nat} (hpn : p < n) (hS : ¬ S (P p)) {post : SX → Prop} (hp : ∀ (M' : Nat) (a' : Nat → Nat) (ks : Int32) (kept hull : Nat → Int32), ge_CH (ge_in S (P p)) M' (fun j => P (a' (j % M'))) → (∀ j, j < M' → hull j = nI (a' j) ∧ a' j < n) → post (f_present, f_count, nI M', ks, f_waiting, a_placeOf, a_x, a_y, hull, kept, a_found, a_order, a_waitA, a_waitB, a_nextLow, a_beforeLow, a_nextHigh, a_beforeHigh)) : wpX_insertMore post (f_present, f_count, nI M, f_keptSize, f_waiting, a_placeOf, a_x, a_y, a_hull, a_kept, a_found, a_order, a_waitA, a_waitB, a_nextLow, a_beforeLow, a_nextHigh, a_beforeHigh) (nI p) := by
  unfold wpX_insertMore
  have per := e5_cyc (show 0 < M by omega) a P (P p)
  have all : ∀ k, ge_cr (P (a (k % M))) (P (a ((k + 1) % M))) (P p) = ge_cr (P (a (k % M % M))) (P (a ((k % M + 1) % M))) (P p) := fun k => by rw [Nat.mod_mod, Nat.mod_add_mod]
  refine ⟨M + 1, (e5_4 X h3 hM ha hpn (fun h => ?_) (fun h => ?_) M 0 (M + 1) (by omega) (by omega)).1 (fun j hj => absurd hj (by omega))⟩
  · refine hp M a _ _ _ (ge_inn H Sb h3 fun k => ?_) ha
    show 0 ≤ ge_cr (P (a (k % M))) (P (a ((k + 1) % M))) (P p)
    rw [all]
    exact h (k % M) (Nat.mod_lt _ (by omega))
  · obtain ⟨j, hj, nj⟩ := h
    obtain ⟨i, hi, pi⟩ := ge_left H Sb h3 (P p)
    obtain ⟨F, hF, F1, F2⟩ := e5_desc (sd := fun k => ge_cr (P (a (k % M))) (P (a ((k + 1) % M))) (P p)) per hi hj pi nj
    refine e5_44 X h3 hM ha hpn hF F1 F2 (fun f d ks kept hull hf d1 d2 s0 s1 s2 hh => ?_) F 0 (M + 1) (by omega) (by omega)
    have R := ge_insA (ge_ch_sh H (f + M - 1)) Sb h3 hS (d := d) d1 d2
      (by show 0 < ge_cr (P (a ((0 + (f + M - 1)) % M))) (P (a ((1 + (f + M - 1)) % M))) (P p)
          rw [Nat.zero_add, show 1 + (f + M - 1) = f + M - 1 + 1 by omega]; exact s0)
      (fun k k1 k2 => by
        show ge_cr (P (a ((k + (f + M - 1)) % M))) (P (a ((k + 1 + (f + M - 1)) % M))) (P p) ≤ 0
        have := s1 (k - 1) (by omega)
        rw [show k + (f + M - 1) = f + (k - 1) + M by omega, show k + 1 + (f + M - 1) = f + (k - 1) + 1 + M by omega, Nat.add_mod_right, Nat.add_mod_right]
        exact this)
      (by show 0 < ge_cr (P (a ((d + 1 + (f + M - 1)) % M))) (P (a ((d + 2 + (f + M - 1)) % M))) (P p)
          rw [show d + 1 + (f + M - 1) = f + d + M by omega, show d + 2 + (f + M - 1) = f + d + 1 + M by omega, Nat.add_mod_right, Nat.add_mod_right]; exact s2)
      ⟨j + M + 1 - f, by
        show ge_cr (P (a ((j + M + 1 - f + (f + M - 1)) % M))) (P (a ((j + M + 1 - f + 1 + (f + M - 1)) % M))) (P p) < 0
        rw [show j + M + 1 - f + (f + M - 1) = j + M + M by omega, show j + M + 1 - f + 1 + (f + M - 1) = j + 1 + M + M by omega, Nat.add_mod_right, Nat.add_mod_right, Nat.add_mod_right, Nat.add_mod_right]
        exact nj⟩
    refine hp (M - d + 2) (fun j => if j ≤ M - d then a ((f + d + j) % M) else p) ks kept hull (ge_CHc R fun k => ?_) (fun j hj => ⟨hh j hj, ?_⟩)
    · show (if k % (M - d + 2) ≤ M - d then P (a ((d + 1 + k % (M - d + 2) + (f + M - 1)) % M)) else P p) = P (if k % (M - d + 2) ≤ M - d then a ((f + d + k % (M - d + 2)) % M) else p)
      by_cases c : k % (M - d + 2) ≤ M - d
      · rw [if_pos c, if_pos c, show d + 1 + k % (M - d + 2) + (f + M - 1) = f + d + k % (M - d + 2) + M by omega, Nat.add_mod_right]
      · rw [if_neg c, if_neg c]
    · show (if j ≤ M - d then a ((f + d + j) % M) else p) < n
      by_cases c : j ≤ M - d
      · rw [if_pos c]; exact (ha _ (Nat.mod_lt _ (by omega))).2
      · rw [if_neg c]; exact hpn
theorem e5_third (X : wk_XP n P a_x a_y) {S : Int × Int → Prop} {a : Nat → Nat} (ha : ∀ j, j < 2 → a_hull j = nI (a j) ∧ a j < n) (H : ge_CH S 2 (fun j => P (a (j % 2)))) {p : Nat} (hpn : p < n) (hS : ¬ S (P p)) {post : SX → Prop} (hp : ∀ (M' : Nat) (a' : Nat → Nat) (ks : Int32) (kept hull : Nat → Int32), ge_CH (ge_in S (P p)) M' (fun j => P (a' (j % M'))) → (∀ j, j < M' → hull j = nI (a' j) ∧ a' j < n) → post (f_present, f_count, nI M', ks, f_waiting, a_placeOf, a_x, a_y, hull, kept, a_found, a_order, a_waitA, a_waitB, a_nextLow, a_beforeLow, a_nextHigh, a_beforeHigh)) : wpX_insertThird post (f_present, f_count, nI 2, f_keptSize, f_waiting, a_placeOf, a_x, a_y, a_hull, a_kept, a_found, a_order, a_waitA, a_waitB, a_nextLow, a_beforeLow, a_nextHigh, a_beforeHigh) (nI p) := by
  have hn := X.1
  have B := wk_XPb X
  have A0 := ha 0 (by omega)
  have A1 := ha 1 (by omega)
  have S0 : ge_St P n (P (a 0)) := ⟨_, A0.2, rfl⟩
  have S1 : ge_St P n (P (a 1)) := ⟨_, A1.2, rfl⟩
  have Sp : ge_St P n (P p) := ⟨_, hpn, rfl⟩
  have nab : P (a 0) ≠ P (a 1) := H.2.2.2 0 1 (by omega) (by omega)
  have bc := ge_crb B S0 S1 Sp
  have b1 := ge_sqb B S0 Sp
  have b2 := ge_sqb B S0 S1
  have b3 := ge_sqb B S1 Sp
  have p3 : ∀ k, k % 3 = 0 ∨ k % 3 = 1 ∨ k % 3 = 2 := fun k => by omega
  have p2 : ∀ k, k % 2 = 0 ∨ k % 2 = 1 := fun k => by omega
  unfold wpX_insertThird
  refine nm_r (e' := nI (a 0)) A0.1 (nm_r (e' := nI (a 1)) A1.1 (wx_turn X A0.2 A1.2 hpn ?_))
  refine wk_ble (ge_cr (P (a 0)) (P (a 1)) (P p)) 0 (fun z => wk_ble 0 (ge_cr (P (a 0)) (P (a 1)) (P p)) (fun y => ?_) (fun y => ?_)) (fun z => ?_)
  · have c0 : ge_cr (P (a 0)) (P (a 1)) (P p) = 0 := by omega
    obtain ⟨q1, q2, q3⟩ := e5_sq3 nab c0
    have rest : ¬ (ge_sq (P (a 0)) (P (a 1)) < ge_sq (P (a 0)) (P p) ∧ ge_sq (P (a 1)) (P p) < ge_sq (P (a 0)) (P p)) → wX_insertThird_98 post (nI p) (nI (a 0)) (nI (a 1)) f_present f_count (nI 2) f_keptSize f_waiting a_placeOf a_x a_y a_hull a_kept a_found a_order a_waitA a_waitB a_nextLow a_beforeLow a_nextHigh a_beforeHigh := fun h => by
      unfold wX_insertThird_98
      refine wx_square X A1.2 hpn (wx_square X A0.2 A1.2 ?_)
      refine wk_ble (ge_sq (P (a 1)) (P p)) (ge_sq (P (a 0)) (P (a 1))) (fun w => ?_) (fun w => nm_r (e' := upd a_hull 0 (nI p)) (by rw [wk_bn (by omega)]) ?_)
      · have R := ge_ins2i H (p := P p) c0 (q3 h w).1 (q3 h w).2
        refine hp 2 a _ _ _ (ge_CHc R fun k => ?_) ha
        rcases p2 k with e | e <;> rw [e] <;> rfl
      · have R := ge_ins2a H hS c0 (q2 h w)
        refine hp 2 (fun j => if j = 0 then p else a 1) _ _ _ (ge_CHc R fun k => ?_) (fun j hj => ?_)
        · rcases p2 k with e | e <;> rw [e] <;> rfl
        · rcases (show j = 0 ∨ j = 1 by omega) with rfl | rfl
          · exact ⟨pk_us, hpn⟩
          · exact ⟨by rw [pk_un (by omega)]; exact A1.1, A1.2⟩
    refine wx_square X A0.2 hpn (wx_square X A0.2 A1.2 ?_)
    refine wk_ble (ge_sq (P (a 0)) (P p)) (ge_sq (P (a 0)) (P (a 1))) (fun w => rest (by omega)) (fun w => wx_square X A0.2 hpn (wx_square X A1.2 hpn ?_))
    refine wk_ble (ge_sq (P (a 0)) (P p)) (ge_sq (P (a 1)) (P p)) (fun v => rest (by omega)) (fun v => nm_r (e' := upd a_hull 1 (nI p)) (by rw [wk_bn (by omega)]) ?_)
    have R := ge_ins2b H hS c0 (q1 ⟨w, v⟩)
    refine hp 2 (fun j => if j = 0 then a 0 else p) _ _ _ (ge_CHc R fun k => ?_) (fun j hj => ?_)
    · rcases p2 k with e | e <;> rw [e] <;> rfl
    · rcases (show j = 0 ∨ j = 1 by omega) with rfl | rfl
      · exact ⟨by rw [pk_un (by omega)]; exact A0.1, A0.2⟩
      · exact ⟨pk_us, hpn⟩
  · refine nm_r (e' := upd a_hull 1 (nI p)) (by rw [wk_bn (by omega)]) (wx_addCorner (s := 2) (by omega) (by omega) ?_)
    dsimp only
    have R := ge_ch_sh (ge_ins2 (ge_ch_sh H 1) hS (by
      show 0 < ge_cr (P (a 1)) (P (a 0)) (P p)
      rw [ge_sw]; omega)) 1
    refine hp 3 (fun j => if j = 0 then a 0 else if j = 1 then p else a 1) _ _ _ (ge_CHc R fun k => ?_) (fun j hj => ?_)
    · show (if (k + 1) % 3 = 0 then P (a 1) else if (k + 1) % 3 = 1 then P (a 0) else P p) = P (if k % 3 = 0 then a 0 else if k % 3 = 1 then p else a 1)
      rcases p3 k with e | e | e
      · rw [if_neg (by omega), if_pos (by omega), if_pos e]
      · rw [if_neg (by omega), if_neg (by omega), if_neg (by omega), if_pos e]
      · rw [if_pos (by omega), if_neg (by omega), if_neg (by omega)]
    · rcases (show j = 0 ∨ j = 1 ∨ j = 2 by omega) with rfl | rfl | rfl
      · exact ⟨by rw [pk_un (by omega), pk_un (by omega)]; exact A0.1, A0.2⟩
      · exact ⟨by rw [pk_un (by omega)]; exact pk_us, hpn⟩
      · exact ⟨pk_us, A1.2⟩
  · refine wx_addCorner (s := 2) (by omega) (by omega) ?_
    dsimp only
    have R := ge_ins2 H hS z
    refine hp 3 (fun j => if j = 0 then a 0 else if j = 1 then a 1 else p) _ _ _ (ge_CHc R fun k => ?_) (fun j hj => ?_)
    · show (if k % 3 = 0 then P (a 0) else if k % 3 = 1 then P (a 1) else P p) = P (if k % 3 = 0 then a 0 else if k % 3 = 1 then a 1 else p)
      rcases p3 k with e | e | e
      · rw [if_pos e, if_pos e]
      · rw [if_neg (by omega), if_pos e, if_neg (by omega), if_pos e]
      · rw [if_neg (by omega), if_neg (by omega), if_neg (by omega), if_neg (by omega)]
    · rcases (show j = 0 ∨ j = 1 ∨ j = 2 by omega) with rfl | rfl | rfl
      · exact ⟨by rw [pk_un (by omega)]; exact A0.1, A0.2⟩
      · exact ⟨by rw [pk_un (by omega)]; exact A1.1, A1.2⟩
      · exact ⟨pk_us, hpn⟩
theorem e5_len {S : Int × Int → Prop} {M : Nat} {a : Nat → Nat} (H : ge_CH S M (fun j => P (a (j % M)))) (ha : ∀ j, j < M → a j < n) : M ≤ n :=
  hu_inj_le M n a ha (fun i j h1 h2 e => H.2.2.2 i j h1 (by omega) (by
    show P (a (i % M)) = P (a (j % M))
    rw [Nat.mod_eq_of_lt (show i < M by omega), Nat.mod_eq_of_lt h2, e]))
theorem e5_insert (X : wk_XP n P a_x a_y) {S : Int × Int → Prop} (Sb : ge_bd S) {M : Nat} {a : Nat → Nat} (ha : ∀ j, j < M → a_hull j = nI (a j) ∧ a j < n) (H : ge_CH S M (fun j => P (a (j % M)))) {p : Nat} (hpn : p < n) (hS : ¬ S (P p)) {post : SX → Prop} (hp : ∀ (M' : Nat) (a' : Nat → Nat) (ks : Int32) (kept hull : Nat → Int32), ge_CH (ge_in S (P p)) M' (fun j => P (a' (j % M'))) → (∀ j, j < M' → hull j = nI (a' j) ∧ a' j < n) → post (f_present, f_count, nI M', ks, f_waiting, a_placeOf, a_x, a_y, hull, kept, a_found, a_order, a_waitA, a_waitB, a_nextLow, a_beforeLow, a_nextHigh, a_beforeHigh)) : wpX_insert post (f_present, f_count, nI M, f_keptSize, f_waiting, a_placeOf, a_x, a_y, a_hull, a_kept, a_found, a_order, a_waitA, a_waitB, a_nextLow, a_beforeLow, a_nextHigh, a_beforeHigh) (nI p) := by
  have hn := X.1
  have h2 := H.1
  have hM := e5_len H (fun j hj => (ha j hj).2)
  unfold wpX_insert
  dsimp only
  refine br_t (nI_le (a := 2) h2 (by omega)) (pk_eq M 2 (fun e => ?_) (fun e => ?_))
  · subst e
    exact e5_third X ha H hpn hS (fun M' a' ks kept hull h1 h2 => hp M' a' ks kept hull h1 h2)
  · exact e5_more X Sb (by omega) (by omega) ha H hpn hS (fun M' a' ks kept hull h1 h2 => hp M' a' ks kept hull h1 h2)
theorem e5_sig {n : Nat} (hn : 2 ≤ n) {i : Nat} (hi : i < n) : (i + n / 2 < n ∧ (i + n / 2) % n = i + n / 2) ∨ (n ≤ i + n / 2 ∧ (i + n / 2) % n = i + n / 2 - n) := by
  by_cases c : i + n / 2 < n
  · exact Or.inl ⟨c, Nat.mod_eq_of_lt c⟩
  · refine Or.inr ⟨by omega, ?_⟩
    rw [Nat.mod_eq_sub_mod (by omega), Nat.mod_eq_of_lt (by omega)]
theorem e5_St {n : Nat} (hn : 2 ≤ n) (P : Nat → Int × Int) : ge_St (fun i => P ((i + n / 2) % n)) n = ge_St P n := by
  funext r
  apply propext
  constructor
  · rintro ⟨i, hi, e⟩
    exact ⟨_, Nat.mod_lt _ (by omega), e⟩
  · rintro ⟨i, hi, e⟩
    by_cases c : n / 2 ≤ i
    · refine ⟨i - n / 2, by omega, ?_⟩
      rcases e5_sig hn (i := i - n / 2) (by omega) with ⟨h1, h2⟩ | ⟨h1, h2⟩
      · show P ((i - n / 2 + n / 2) % n) = r
        rw [h2, show i - n / 2 + n / 2 = i by omega, e]
      · omega
    · refine ⟨i + n - n / 2, by omega, ?_⟩
      rcases e5_sig hn (i := i + n - n / 2) (by omega) with ⟨h1, h2⟩ | ⟨h1, h2⟩
      · omega
      · show P ((i + n - n / 2 + n / 2) % n) = r
        rw [h2, show i + n - n / 2 + n / 2 - n = i by omega, e]
theorem e5_inj {n : Nat} (hn : 2 ≤ n) {i j : Nat} (hij : i < j) (hj : j < n) : (i + n / 2) % n ≠ (j + n / 2) % n := by
  rcases e5_sig hn (i := i) (by omega) with ⟨h1, h2⟩ | ⟨h1, h2⟩ <;> rcases e5_sig hn hj with ⟨h3, h4⟩ | ⟨h3, h4⟩ <;> omega
theorem e5_all (X : wk_XP n P a_x a_y) (Q : hu_Q n P m q) {post : SX → Prop} (hp : ∀ u', wk_G f_present (nI n) a_placeOf a_x a_y a_found m q u' → post u') : ∀ (d k N M : Nat) (a : Nat → Nat) (ks : Int32) (kept hull : Nat → Int32), k + d = n → d < N → (∀ j, j < M → hull j = nI (a j) ∧ a j < n) → (k = 0 → M = 0) → (k = 1 → M = 1 ∧ a 0 = (0 + n / 2) % n) → (2 ≤ k → ge_CH (ge_St (fun i => P ((i + n / 2) % n)) k) M (fun j => P (a (j % M)))) → wX_insertAll_2 post N (nI k) f_present (nI n) (nI M) ks f_waiting a_placeOf a_x a_y hull kept a_found a_order a_waitA a_waitB a_nextLow a_beforeLow a_nextHigh a_beforeHigh := by
  have hn := X.1
  have B := wk_XPb X
  have hm := hu_m Q
  have hmn := hu_mn Q
  have n2 : 2 ≤ n := by omega
  intro d
  induction d with
  | zero =>
    intro k N M a ks kept hull hk hN ha k0 k1 kH
    obtain ⟨N, rfl⟩ : ∃ M, N = M + 1 := ⟨N - 1, by omega⟩
    have e : k = n := by omega
    subst e
    have H := kH n2
    rw [e5_St n2] at H
    have h2 := H.1
    have hM := e5_len H (fun j hj => (ha j hj).2)
    rw [wX_insertAll_2]
    refine br_t (nI_le (by omega) (by omega)) (e5_turn (by omega) (by omega) (fun j hj => ⟨(ha j hj).1, by have := (ha j hj).2; omega⟩) fun f kept' hull' hf mn hh => ?_)
    dsimp only
    have af : a f = 0 := by
      have ex := ge_exp B (hu_nx Q 0)
      rw [Q.2.2.1] at ex
      obtain ⟨j, hj, e⟩ := ge_isv H B ⟨0, by omega, rfl⟩ ex
      have e' : P (a (j % M)) = P 0 := e
      rw [Nat.mod_eq_of_lt hj] at e'
      have := hu_inj Q (ha j hj).2 (by omega) e'
      have := mn j hj
      omega
    have U := ge_uniq (ge_ch_sh H f) Q.2.2.2 (by
      show P (a ((0 + f) % M)) = P (q 0)
      rw [Nat.zero_add, Nat.mod_eq_of_lt hf, af, Q.2.2.1])
    refine hp _ ⟨rfl, rfl, by rw [U.1], rfl, rfl, rfl, rfl, fun j hj => ?_⟩
    rw [hh j (by rw [U.1]; exact hj)]
    have e : P (a ((j + f) % M)) = P (q j) := U.2 j
    rw [Nat.add_comm] at e
    rw [hu_inj Q (ha _ (Nat.mod_lt _ (by omega))).2 (Q.2.1 _) e]
  | succ d ih =>
    intro k N M a ks kept hull hk hN ha k0 k1 kH
    obtain ⟨N, rfl⟩ : ∃ M, N = M + 1 := ⟨N - 1, by omega⟩
    have lp := Nat.mod_lt (k + n / 2) (show 0 < n by omega)
    rw [wX_insertAll_2]
    refine br_f (nI_ge (by omega) (by omega)) ⟨wk_2, nI_ne0 (by omega) (by omega), nm_r (e' := nI ((k + n / 2) % n)) (by
      rw [show nI n / 2 = nI (n / 2) from pk_div (d := 2) (by omega) (by omega) (by omega), nI_add, pk_rem (by omega) (by omega) (by omega)]) ?_⟩
    by_cases c0 : k = 0
    · have M0 := k0 c0
      subst c0 M0
      unfold wpX_insert
      dsimp only
      refine br_f (by decide) (wx_addCorner (s := 0) (by omega) (by omega) ?_)
      dsimp only
      refine nm_r (nI_1 0) (ih 1 N 1 (fun _ => (0 + n / 2) % n) _ _ _ (by omega) (by omega) (fun j hj => ?_) (fun z => absurd z (by omega)) (fun _ => ⟨rfl, rfl⟩) (fun z => absurd z (by omega)))
      rw [show j = 0 by omega]
      exact ⟨pk_us, lp⟩
    · by_cases c1 : k = 1
      · obtain ⟨M1, a0⟩ := k1 c1
        subst c1 M1
        unfold wpX_insert
        dsimp only
        refine br_f (by decide) (wx_addCorner (s := 1) (by omega) (by omega) ?_)
        dsimp only
        refine nm_r (nI_1 1) (ih 2 N 2 (fun j => (j + n / 2) % n) _ _ _ (by omega) (by omega) (fun j hj => ?_) (fun z => absurd z (by omega)) (fun z => absurd z (by omega)) (fun _ => ?_))
        · rcases (show j = 0 ∨ j = 1 by omega) with rfl | rfl
          · rw [pk_un (by omega), (ha 0 (by omega)).1, a0]
            exact ⟨rfl, Nat.mod_lt _ (by omega)⟩
          · exact ⟨pk_us, lp⟩
        · have i01 := e5_inj n2 (i := 0) (j := 1) (by omega) (by omega)
          have n01 : P ((0 + n / 2) % n) ≠ P ((1 + n / 2) % n) := fun z => i01 (hu_inj Q (Nat.mod_lt _ (by omega)) (Nat.mod_lt _ (by omega)) z)
          refine ge_CHc (ge_two n01 ⟨0, by omega, rfl⟩ ⟨1, by omega, rfl⟩ fun r hr => ?_) (fun k => ?_)
          · obtain ⟨i, hi, e⟩ := hr
            subst e
            rcases (show i = 0 ∨ i = 1 by omega) with rfl | rfl
            · exact ⟨ge_cr1 _ _, by rw [ge_dt1]; exact Int.le_refl _, by rw [ge_dt1]; exact ge_sqn _ _⟩
            · exact ⟨ge_cr2 _ _, by rw [ge_dt2]; exact ge_sqn _ _, by rw [ge_dt2]; exact Int.le_refl _⟩
          · rcases (show k % 2 = 0 ∨ k % 2 = 1 by omega) with e | e <;> rw [e] <;> rfl
      · have H := kH (by omega)
        have Sb : ge_bd (ge_St (fun i => P ((i + n / 2) % n)) k) := by
          rintro r ⟨i, hi, e⟩
          exact B r ⟨_, Nat.mod_lt _ (by omega), e⟩
        refine e5_insert X Sb ha H lp (fun z => ?_) (fun M' a' ks' kept' hull' H' ha' => ?_)
        · obtain ⟨i, hi, e⟩ := z
          exact e5_inj n2 hi (by omega) (hu_inj Q (Nat.mod_lt _ (by omega)) (Nat.mod_lt _ (by omega)) e)
        · dsimp only
          refine nm_r (nI_1 k) (ih (k + 1) N M' a' ks' kept' hull' (by omega) (by omega) ha' (fun z => absurd z (by omega)) (fun z => absurd z (by omega)) (fun _ => ?_))
          rw [ge_St_s]
          exact H'
theorem e5_insAll (X : wk_XP n P a_x a_y) (Q : hu_Q n P m q) {post : SX → Prop} (hp : ∀ u', wk_G f_present (nI n) a_placeOf a_x a_y a_found m q u' → post u') : wpX_insertAll post (f_present, nI n, 0, f_keptSize, f_waiting, a_placeOf, a_x, a_y, a_hull, a_kept, a_found, a_order, a_waitA, a_waitB, a_nextLow, a_beforeLow, a_nextHigh, a_beforeHigh) := by
  unfold wpX_insertAll
  exact ⟨n + 1, e5_all X Q hp n 0 (n + 1) 0 (fun _ => 0) f_keptSize a_kept a_hull (by omega) (by omega) (fun j hj => absurd hj (by omega)) (fun _ => rfl) (fun z => absurd z (by omega)) (fun z => absurd z (by omega))⟩
end
end
section
/-! gathering the places, sorted, each once -/
def ga_I (c : Nat) (K : Nat → Nat) (ax ay : Nat → Int32) : Prop :=
  (∀ j, j < c → K j < 4096 ∧ ax j = nI (K j / 64) ∧ ay j = nI (K j % 64)) ∧ (∀ i j, i < j → j < c → K i < K j)
def ga_kv (v : Nat) : Nat := (v % 64) * 64 + v / 64
theorem ga_kvl {v : Nat} (h : v < 4096) : ga_kv v < 4096 := by unfold ga_kv; omega
theorem ga_ky {k : Nat} : nI (k / 64) * 64 + nI (k % 64) = nI k := by
  rw [show nI (k / 64) * 64 = nI (k / 64 * 64) from pk_mul (k / 64) 64, nI_add]
  congr 1; omega
theorem wx_key {v : Nat} (h : v < 4096) {post : Int32 → Prop} (hp : post (nI (ga_kv v))) : wpX_key post (nI v) := by
  unfold wpX_key
  rw [wk_r64 (by omega), wk_d64 (by omega), show nI (v % 64) * 64 = nI (v % 64 * 64) from pk_mul (v % 64) 64, nI_add]
  exact ⟨wk_64, wk_64, hp⟩
section
variable {f_present f_count f_size f_keptSize f_waiting : Int32} {a_placeOf a_x a_y a_hull a_kept a_found a_order a_waitA a_waitB a_nextLow a_beforeLow a_nextHigh a_beforeHigh : Nat → Int32}
theorem ga_73 {c at' own : Nat} {K : Nat → Nat} (hc : c < 24) (ho : own < 4096) (ha : at' ≤ c) (K1 : ∀ j, j < c → K j < 4096) (inc : ∀ i j, i < j → j < c → K i < K j) (up : ∀ j, at' ≤ j → j < c → own < K j) (lo : ∀ j, j < at' → K j < own) {post : SX → Prop} (hp : ∀ K' ax ay, ga_I (c + 1) K' ax ay → (∀ r, (∃ j, j < c + 1 ∧ K' j = r) ↔ (∃ j, j < c ∧ K j = r) ∨ r = own) → post (f_present, nI (c + 1), f_size, f_keptSize, f_waiting, a_placeOf, ax, ay, a_hull, a_kept, a_found, a_order, a_waitA, a_waitB, a_nextLow, a_beforeLow, a_nextHigh, a_beforeHigh)) : ∀ (d i N : Nat) (ax ay : Nat → Int32), at' + d = i → i ≤ c → d < N → (∀ j, j < i → ax j = nI (K j / 64) ∧ ay j = nI (K j % 64)) → (∀ j, i ≤ j → j < c → ax (j + 1) = nI (K j / 64) ∧ ay (j + 1) = nI (K j % 64)) → wX_enter_73 post (nI own) (nI at') f_present (nI c) f_size f_keptSize f_waiting N (nI i) a_placeOf ax ay a_hull a_kept a_found a_order a_waitA a_waitB a_nextLow a_beforeLow a_nextHigh a_beforeHigh := by
  intro d
  induction d with
  | zero =>
    intro i N ax ay hi hic hN h1 h2
    obtain ⟨N, rfl⟩ : ∃ M, N = M + 1 := ⟨N - 1, by omega⟩
    have e : i = at' := by omega
    subst e
    rw [wX_enter_73]
    dsimp only
    rw [wk_r64 (by omega), wk_d64 (by omega), nI_clamp (show i < 2 ^ 31 by omega), wk_bn (by omega), wk_bn (by omega), nI_1]
    have v := vp_in_nI (n := i) (N := 24) (by omega) (by omega)
    refine br_t (nI_le (Nat.le_refl _) (by omega)) ⟨wk_64, v, nm_e ⟨wk_64, v, nm_e (nm_e (hp (fun j => if j < i then K j else if j = i then own else K (j - 1)) _ _ ⟨fun j hj => ?_, fun a b hab hb => ?_⟩ (fun r => ?_)))⟩⟩
    · show (if j < i then K j else if j = i then own else K (j - 1)) < 4096 ∧ upd ax i _ j = nI ((if j < i then K j else if j = i then own else K (j - 1)) / 64) ∧ upd ay i _ j = nI ((if j < i then K j else if j = i then own else K (j - 1)) % 64)
      by_cases c1 : j < i
      · rw [if_pos c1, pk_un (by omega), pk_un (by omega)]
        exact ⟨K1 j (by omega), h1 j c1⟩
      · rw [if_neg c1]
        by_cases c2 : j = i
        · subst c2
          rw [if_pos rfl, pk_us, pk_us]
          exact ⟨ho, rfl, rfl⟩
        · rw [if_neg c2, pk_un c2, pk_un c2]
          have := h2 (j - 1) (by omega) (by omega)
          rw [show j - 1 + 1 = j by omega] at this
          exact ⟨K1 (j - 1) (by omega), this⟩
    · show (if a < i then K a else if a = i then own else K (a - 1)) < (if b < i then K b else if b = i then own else K (b - 1))
      by_cases c1 : b < i
      · rw [if_pos c1, if_pos (by omega)]; exact inc a b hab (by omega)
      · rw [if_neg c1]
        by_cases c2 : b = i
        · rw [if_pos c2, if_pos (by omega)]; exact lo a (by omega)
        · rw [if_neg c2]
          by_cases c3 : a < i
          · rw [if_pos c3]; exact inc a (b - 1) (by omega) (by omega)
          · rw [if_neg c3]
            by_cases c4 : a = i
            · rw [if_pos c4]; exact up (b - 1) (by omega) (by omega)
            · rw [if_neg c4]; exact inc (a - 1) (b - 1) (by omega) (by omega)
    · constructor
      · rintro ⟨j, hj, e⟩
        have e' : (if j < i then K j else if j = i then own else K (j - 1)) = r := e
        by_cases c1 : j < i
        · rw [if_pos c1] at e'; exact Or.inl ⟨j, by omega, e'⟩
        · rw [if_neg c1] at e'
          by_cases c2 : j = i
          · rw [if_pos c2] at e'; exact Or.inr e'.symm
          · rw [if_neg c2] at e'; exact Or.inl ⟨j - 1, by omega, e'⟩
      · rintro (⟨j, hj, e⟩ | e)
        · by_cases c1 : j < i
          · exact ⟨j, by omega, by show (if j < i then K j else _) = r; rw [if_pos c1, e]⟩
          · exact ⟨j + 1, by omega, by show (if j + 1 < i then _ else if j + 1 = i then own else K (j + 1 - 1)) = r; rw [if_neg (by omega), if_neg (by omega), Nat.add_sub_cancel, e]⟩
        · exact ⟨i, by omega, by show (if i < i then _ else if i = i then own else _) = r; rw [if_neg (by omega), if_pos rfl, e]⟩
  | succ d ih =>
    intro i N ax ay hi hic hN h1 h2
    obtain ⟨N, rfl⟩ : ∃ M, N = M + 1 := ⟨N - 1, by omega⟩
    obtain ⟨i, rfl⟩ : ∃ k, i = k + 1 := ⟨i - 1, by omega⟩
    have k1 := K1 i (by omega)
    have hh := h1 i (by omega)
    rw [wX_enter_73]
    dsimp only
    rw [nI_pred, nI_clamp (show i < 2 ^ 31 by omega), nI_clamp (show i + 1 < 2 ^ 31 by omega), hh.1, hh.2, wk_bn' (by omega), wk_bn' (by omega), pk_m1]
    have v := vp_in_nI (n := i) (N := 24) (by omega) (by omega)
    have v' := vp_in_nI (n := i + 1) (N := 24) (by omega) (by omega)
    refine br_f (nI_ge (by omega) (by omega)) ⟨v, v', nm_e ⟨v, v', nm_e (nm_e (ih i N _ _ (by omega) (by omega) (by omega) (fun j hj => ?_) (fun j j1 j2 => ?_)))⟩⟩
    · rw [pk_un (by omega), pk_un (by omega)]; exact h1 j (by omega)
    · by_cases c1 : j = i
      · subst c1; rw [pk_us, pk_us]; exact ⟨rfl, rfl⟩
      · rw [pk_un (by omega), pk_un (by omega)]; exact h2 j (by omega) j2
theorem ga_enter {c own : Nat} {K : Nat → Nat} (hc : c < 24) (ho : own < 4096) (I : ga_I c K a_x a_y) {post : SX → Prop} (hp : ∀ c' K' ax ay, c' ≤ c + 1 → ga_I c' K' ax ay → (∀ r, (∃ j, j < c' ∧ K' j = r) ↔ (∃ j, j < c ∧ K j = r) ∨ r = own) → post (f_present, nI c', f_size, f_keptSize, f_waiting, a_placeOf, ax, ay, a_hull, a_kept, a_found, a_order, a_waitA, a_waitB, a_nextLow, a_beforeLow, a_nextHigh, a_beforeHigh)) : wpX_enter post (f_present, nI c, f_size, f_keptSize, f_waiting, a_placeOf, a_x, a_y, a_hull, a_kept, a_found, a_order, a_waitA, a_waitB, a_nextLow, a_beforeLow, a_nextHigh, a_beforeHigh) (nI own) := by
  obtain ⟨I1, inc⟩ := I
  have kk : ∀ j, j < c → a_x j * 64 + a_y j = nI (K j) := fun j hj => by
    rw [(I1 j hj).2.1, (I1 j hj).2.2]; exact ga_ky
  have put : ∀ i, i ≤ c → (∀ j, i ≤ j → j < c → own < K j) → (∀ j, j < i → K j < own) → wX_enter_73 post (nI own) (nI i) f_present (nI c) f_size f_keptSize f_waiting (c + 1) (nI c) a_placeOf a_x a_y a_hull a_kept a_found a_order a_waitA a_waitB a_nextLow a_beforeLow a_nextHigh a_beforeHigh := fun i hi up lo =>
    ga_73 hc ho hi (fun j hj => (I1 j hj).1) inc up lo (fun K' ax ay h1 h2 => hp (c + 1) K' ax ay (Nat.le_refl _) h1 h2) (c - i) c (c + 1) a_x a_y (by omega) (Nat.le_refl _) (by omega) (fun j hj => (I1 j hj).2) (fun j j1 j2 => absurd j1 (by omega))
  have m39 : ∀ i, i ≤ c → (∀ j, i ≤ j → j < c → own < K j) → (i = 0 ∨ K (i - 1) ≤ own) → wX_enter_39 post (nI own) (nI i) f_present (nI c) f_size f_keptSize f_waiting a_placeOf a_x a_y a_hull a_kept a_found a_order a_waitA a_waitB a_nextLow a_beforeLow a_nextHigh a_beforeHigh := fun i hi up lo => by
    unfold wX_enter_39
    by_cases c0 : i = 0
    · subst c0
      exact br_t (by decide) ⟨c + 1, put 0 (by omega) up (fun j hj => absurd hj (by omega))⟩
    · obtain ⟨i, rfl⟩ : ∃ k, i = k + 1 := ⟨i - 1, by omega⟩
      have v := vp_in_nI (n := i) (N := 24) (by omega) (by omega)
      have k1 := (I1 i (by omega)).1
      have lo' : K i ≤ own := by
        rcases lo with z | z
        · omega
        · rwa [Nat.add_sub_cancel] at z
      rw [nI_pred, nI_clamp (show i < 2 ^ 31 by omega), kk i (by omega)]
      refine br_f (nI_nle (by omega) (by omega)) ⟨v, v, pk_eq (K i) own (fun e => ?_) (fun e => ⟨c + 1, put (i + 1) hi up (fun j hj => ?_)⟩)⟩
      · exact hp c K a_x a_y (by omega) ⟨I1, inc⟩ (fun r => ⟨Or.inl, fun z => z.elim id (fun w => ⟨i, by omega, by omega⟩)⟩)
      · by_cases c1 : j = i
        · subst c1; omega
        · have := inc j i (by omega) (by omega)
          omega
  have l5 : ∀ i N, i ≤ c → i < N → (∀ j, i ≤ j → j < c → own < K j) → wX_enter_5 post (nI own) f_present (nI c) f_size f_keptSize f_waiting a_placeOf a_x a_y a_hull a_kept a_found a_order a_waitA a_waitB a_nextLow a_beforeLow a_nextHigh a_beforeHigh N (nI i) := fun i => by
    induction i with
    | zero =>
      intro N hi hN up
      obtain ⟨N, rfl⟩ : ∃ M, N = M + 1 := ⟨N - 1, by omega⟩
      rw [wX_enter_5]
      exact br_t (by decide) (m39 0 hi up (Or.inl rfl))
    | succ i ih =>
      intro N hi hN up
      obtain ⟨N, rfl⟩ : ∃ M, N = M + 1 := ⟨N - 1, by omega⟩
      have v := vp_in_nI (n := i) (N := 24) (by omega) (by omega)
      have k1 := (I1 i (by omega)).1
      rw [wX_enter_5]
      dsimp only
      rw [nI_pred, nI_clamp (show i < 2 ^ 31 by omega), kk i (by omega), pk_m1]
      refine br_f (nI_nle (by omega) (by omega)) ⟨v, v, pk_le (K i) own (fun z => m39 (i + 1) hi up (Or.inr z)) (fun z => nm_e (ih N (by omega) (by omega) fun j j1 j2 => ?_))⟩
      by_cases c1 : j = i
      · subst c1; exact z
      · exact up j (by omega) j2
  unfold wpX_enter
  exact ⟨c + 1, l5 c (c + 1) (Nat.le_refl _) (by omega) (fun j j1 j2 => absurd j1 (by omega))⟩
theorem ga_loop {v : Nat → Nat} {st : Int32} (hv : ∀ k, k < 24 → bt st k = true → a_placeOf k = nI (v k) ∧ v k < 4096) {post : SX → Prop} (hp : ∀ c K ax ay, c ≤ 24 → ga_I c K ax ay → (∀ r, (∃ j, j < c ∧ K j = r) ↔ ∃ k, k < 24 ∧ bt st k = true ∧ ga_kv (v k) = r) → post (f_present, nI c, f_size, f_keptSize, f_waiting, a_placeOf, ax, ay, a_hull, a_kept, a_found, a_order, a_waitA, a_waitB, a_nextLow, a_beforeLow, a_nextHigh, a_beforeHigh)) : ∀ (d i N c : Nat) (K : Nat → Nat) (ax ay : Nat → Int32), i + d = 24 → d < N → c ≤ i → ga_I c K ax ay → (∀ r, (∃ j, j < c ∧ K j = r) ↔ ∃ k, k < i ∧ bt st k = true ∧ ga_kv (v k) = r) → wX_gather_7 post st N (nI i) f_present (nI c) f_size f_keptSize f_waiting a_placeOf ax ay a_hull a_kept a_found a_order a_waitA a_waitB a_nextLow a_beforeLow a_nextHigh a_beforeHigh := by
  intro d
  induction d with
  | zero =>
    intro i N c K ax ay hi hN hc I R
    obtain ⟨N, rfl⟩ : ∃ M, N = M + 1 := ⟨N - 1, by omega⟩
    have e : i = 24 := by omega
    subst e
    rw [wX_gather_7]
    exact br_t (nI_le (a := 24) (by omega) (by omega)) (hp c K ax ay hc I R)
  | succ d ih =>
    intro i N c K ax ay hi hN hc I R
    obtain ⟨N, rfl⟩ : ∃ M, N = M + 1 := ⟨N - 1, by omega⟩
    rw [wX_gather_7]
    dsimp only
    refine br_f (nI_ge (b := 24) (by omega) (by omega)) (wk_bbit (by omega) (fun b0 => nm_r (nI_1 i) (ih (i + 1) N c K ax ay (by omega) (by omega) (by omega) I fun r => (R r).trans ?_)) (fun b1 => ?_))
    · constructor
      · rintro ⟨k, h1, h2⟩
        exact ⟨k, by omega, h2⟩
      · rintro ⟨k, h1, h2, h3⟩
        have : k ≠ i := fun z => by subst z; rw [b0] at h2; exact absurd h2 (by decide)
        exact ⟨k, by omega, h2, h3⟩
    · obtain ⟨e1, l1⟩ := hv i (by omega) b1
      rw [nI_clamp (show i < 2 ^ 31 by omega), e1]
      refine ⟨vp_in_nI (by omega) (by omega), wx_key l1 (ga_enter (by omega) (ga_kvl l1) I fun c' K' ax' ay' hc' I' R' => ?_)⟩
      dsimp only
      refine nm_r (nI_1 i) (ih (i + 1) N c' K' ax' ay' (by omega) (by omega) (by omega) I' fun r => (R' r).trans ?_)
      constructor
      · rintro (h | h)
        · obtain ⟨k, h1, h2⟩ := (R r).mp h
          exact ⟨k, by omega, h2⟩
        · exact ⟨i, by omega, b1, h.symm⟩
      · rintro ⟨k, h1, h2, h3⟩
        by_cases c1 : k = i
        · subst c1; exact Or.inr h3.symm
        · exact Or.inl ((R r).mpr ⟨k, by omega, h2, h3⟩)
/-- the set of the places of the points whose bits are set -/
theorem ga_gather {v : Nat → Nat} {st : Int32} (hv : ∀ k, k < 24 → bt st k = true → a_placeOf k = nI (v k) ∧ v k < 4096) {post : SX → Prop} (hp : ∀ n P ax ay, wk_XP n P ax ay → (∀ i j, i < j → j < n → ge_key (P i) < ge_key (P j)) → ge_St P n = (fun r => ∃ k, k < 24 ∧ bt st k = true ∧ wk_pt (v k) = r) → post (f_present, nI n, f_size, f_keptSize, f_waiting, a_placeOf, ax, ay, a_hull, a_kept, a_found, a_order, a_waitA, a_waitB, a_nextLow, a_beforeLow, a_nextHigh, a_beforeHigh)) : wpX_gather post (f_present, f_count, f_size, f_keptSize, f_waiting, a_placeOf, a_x, a_y, a_hull, a_kept, a_found, a_order, a_waitA, a_waitB, a_nextLow, a_beforeLow, a_nextHigh, a_beforeHigh) st := by
  unfold wpX_gather
  refine ⟨25, ga_loop hv (fun c K ax ay hc I R => ?_) 24 0 25 0 (fun _ => 0) a_x a_y (by omega) (by omega) (by omega) ⟨fun j hj => absurd hj (by omega), fun i j _ hj => absurd hj (by omega)⟩ (fun r => ⟨fun ⟨j, hj, _⟩ => absurd hj (by omega), fun ⟨j, hj, _⟩ => absurd hj (by omega)⟩)⟩
  obtain ⟨I1, inc⟩ := I
  refine hp c (fun j => (((K j / 64 : Nat) : Int), ((K j % 64 : Nat) : Int))) ax ay ⟨hc, fun i hi => ?_⟩ (fun i j hij hj => ?_) ?_
  · have := I1 i hi
    show ax i = wk_i ((K i / 64 : Nat) : Int) ∧ ay i = wk_i ((K i % 64 : Nat) : Int) ∧ 0 ≤ ((K i / 64 : Nat) : Int) ∧ ((K i / 64 : Nat) : Int) ≤ 63 ∧ 0 ≤ ((K i % 64 : Nat) : Int) ∧ ((K i % 64 : Nat) : Int) ≤ 63
    rw [← wk_n, ← wk_n]
    exact ⟨this.2.1, this.2.2, by omega, by omega, by omega, by omega⟩
  · have := inc i j hij hj
    show 64 * ((K i / 64 : Nat) : Int) + ((K i % 64 : Nat) : Int) < 64 * ((K j / 64 : Nat) : Int) + ((K j % 64 : Nat) : Int)
    omega
  · funext r
    apply propext
    constructor
    · rintro ⟨j, hj, e⟩
      obtain ⟨k, k1, k2, k3⟩ := (R (K j)).mp ⟨j, hj, rfl⟩
      refine ⟨k, k1, k2, ?_⟩
      rw [← e]
      have := (hv k k1 k2).2
      unfold ga_kv at k3
      show (((v k % 64 : Nat) : Int), ((v k / 64 : Nat) : Int)) = (((K j / 64 : Nat) : Int), ((K j % 64 : Nat) : Int))
      exact Prod.ext (by show ((v k % 64 : Nat) : Int) = ((K j / 64 : Nat) : Int); omega) (by show ((v k / 64 : Nat) : Int) = ((K j % 64 : Nat) : Int); omega)
    · rintro ⟨k, k1, k2, e⟩
      obtain ⟨j, hj, e2⟩ := (R (ga_kv (v k))).mpr ⟨k, k1, k2, rfl⟩
      refine ⟨j, hj, ?_⟩
      rw [← e]
      have := (hv k k1 k2).2
      unfold ga_kv at e2
      show (((K j / 64 : Nat) : Int), ((K j % 64 : Nat) : Int)) = (((v k % 64 : Nat) : Int), ((v k / 64 : Nat) : Int))
      exact Prod.ext (by show ((K j / 64 : Nat) : Int) = ((v k % 64 : Nat) : Int); omega) (by show ((K j % 64 : Nat) : Int) = ((v k / 64 : Nat) : Int); omega)
end
end
section
/-! solve: whatever the engine, the hull of the set -/
def hu_H (S : Int × Int → Prop) (m : Nat) (h : Nat → Int × Int) : Prop :=
  (m = 0 ∧ ∀ r, ¬ S r) ∨ (m = 1 ∧ ∀ r, S r ↔ r = h 0) ∨ (ge_CH S m h ∧ ∀ r, S r → ge_key (h 0) ≤ ge_key r)
theorem ge_key_inj {S : Int × Int → Prop} (hb : ge_bd S) {p q : Int × Int} (hp : S p) (hq : S q) (e : ge_key p = ge_key q) : p = q := by
  have a := hb p hp
  have b := hb q hq
  unfold ge_key at e
  exact Prod.ext (by omega) (by omega)
theorem hu_Hu {S : Int × Int → Prop} (hb : ge_bd S) {m m' : Nat} {h h' : Nat → Int × Int} (H : hu_H S m h) (H' : hu_H S m' h') : m = m' ∧ ∀ k, k < m → h k = h' k := by
  have two : ∀ {m : Nat} {h : Nat → Int × Int} {p : Int × Int}, ge_CH S m h → (∀ r, S r ↔ r = p) → False := fun {m h p} C s => by
    have a := (s _).mp (ge_ch_S C 0)
    have b := (s _).mp (ge_ch_S C 1)
    exact C.2.2.2 0 1 (by omega) (by have := C.1; omega) (a.trans b.symm)
  rcases H with ⟨e, s⟩ | ⟨e, s⟩ | ⟨C, s⟩ <;> rcases H' with ⟨e', s'⟩ | ⟨e', s'⟩ | ⟨C', s'⟩
  · exact ⟨by omega, fun k hk => absurd hk (by omega)⟩
  · exact absurd ((s' _).mpr rfl) (s _)
  · exact absurd (ge_ch_S C' 0) (s _)
  · exact absurd ((s _).mpr rfl) (s' _)
  · refine ⟨by omega, fun k hk => ?_⟩
    rw [show k = 0 by omega]
    exact (s' _).mp ((s _).mpr rfl)
  · exact absurd s (two C')
  · exact absurd (ge_ch_S C 0) (s' _)
  · exact absurd s' (two C)
  · have S0 := ge_ch_S C 0
    have S0' := ge_ch_S C' 0
    have a := s _ S0'
    have b := s' _ S0
    have U := ge_uniq C C' (ge_key_inj hb S0 S0' (by omega))
    exact ⟨U.1, fun k _ => U.2 k⟩
theorem hu_mkQ {n : Nat} {P : Nat → Int × Int} (hn : 2 ≤ n) (B : ge_bd (ge_St P n)) (so : ∀ i j, i < j → j < n → ge_key (P i) < ge_key (P j)) : ∃ m q, hu_Q n P m q := by
  obtain ⟨k, rfl⟩ : ∃ k, n = k + 2 := ⟨n - 2, by omega⟩
  obtain ⟨m, h, H⟩ := ge_hull B (fun i j a b e => by have := so i j a b; rw [e] at this; omega)
  have S0 : ge_St P (k + 2) (P 0) := ⟨0, by omega, rfl⟩
  have ex : ge_ex (ge_St P (k + 2)) (P 0) := by
    refine ⟨fun r => ge_key r - ge_key (P 0), ge_af_sub _ ge_af_key, by show ge_key _ - ge_key _ = 0; omega, ?_⟩
    rintro r ⟨i, hi, e⟩ hr
    have : i ≠ 0 := fun z => hr (by rw [← e, z])
    have := so 0 i (by omega) hi
    rw [e] at this
    show 0 < ge_key r - ge_key (P 0)
    omega
  obtain ⟨s, hs, e⟩ := ge_isv H B S0 ex
  have H' := ge_ch_sh H s
  obtain ⟨q, hq⟩ : ∃ q : Nat → Nat, ∀ j, q j < k + 2 ∧ P (q j) = h (j + s) := ⟨fun j => Classical.choose (ge_ch_S H' j), fun j => Classical.choose_spec (ge_ch_S H' j)⟩
  refine ⟨m, q, so, fun j => (hq j).1, ?_, ge_CHc H' (fun j => (hq j).2.symm)⟩
  have e0 := (hq 0).2
  rw [Nat.zero_add, e] at e0
  apply Classical.byContradiction
  intro z
  have := so 0 (q 0) (by omega) (hq 0).1
  rw [e0] at this
  omega
theorem hu_Q_H {n : Nat} {P : Nat → Int × Int} {m : Nat} {q : Nat → Nat} (Q : hu_Q n P m q) : hu_H (ge_St P n) m (fun k => P (q k)) := by
  refine Or.inr (Or.inr ⟨Q.2.2.2, ?_⟩)
  rintro r ⟨i, hi, e⟩
  show ge_key (P (q 0)) ≤ ge_key r
  rw [Q.2.2.1, ← e]
  by_cases c : i = 0
  · rw [c]; exact Int.le_refl _
  · have := Q.1 0 i (by omega) hi
    omega
/-- what solve leaves -/
def wk_H (f_present : Int32) (a_placeOf a_found : Nat → Int32) (n : Nat) (P : Nat → Int × Int) (m : Nat) (q : Nat → Nat) (u : SX) : Prop :=
  match u with
  | (g_present, g_count, g_size, _, _, b_placeOf, b_x, b_y, b_hull, _, b_found, _, _, _, _, _, _, _) => g_present = f_present ∧ b_placeOf = a_placeOf ∧ b_found = a_found ∧ g_count = nI n ∧ wk_XP n P b_x b_y ∧ g_size = nI m ∧ ∀ k, k < m → b_hull k = nI (q k) ∧ q k < n
def wk_S (st : Int32) (v : Nat → Nat) : Int × Int → Prop := fun r => ∃ k, k < 24 ∧ bt st k = true ∧ wk_pt (v k) = r
theorem wk_Sb {st : Int32} {v : Nat → Nat} (hv : ∀ k, k < 24 → bt st k = true → v k < 4096) : ge_bd (wk_S st v) := by
  rintro r ⟨k, k1, k2, e⟩
  rw [← e]
  exact wk_pt_b (hv k k1 k2)
section
variable {f_present f_count f_size f_keptSize f_waiting : Int32} {a_placeOf a_x a_y a_hull a_kept a_found a_order a_waitA a_waitB a_nextLow a_beforeLow a_nextHigh a_beforeHigh : Nat → Int32}
theorem wx_solve {v : Nat → Nat} {st : Int32} {e : Nat} (he : e < 6) (hv : ∀ k, k < 24 → bt st k = true → a_placeOf k = nI (v k) ∧ v k < 4096) {post : SX → Prop} (hp : ∀ n P m q u', n ≤ 24 → m ≤ n → (∀ i j, i < j → j < n → ge_key (P i) < ge_key (P j)) → ge_St P n = wk_S st v → hu_H (wk_S st v) m (fun k => P (q k)) → wk_H f_present a_placeOf a_found n P m q u' → post u') : wpX_solve post (f_present, f_count, f_size, f_keptSize, f_waiting, a_placeOf, a_x, a_y, a_hull, a_kept, a_found, a_order, a_waitA, a_waitB, a_nextLow, a_beforeLow, a_nextHigh, a_beforeHigh) (nI e) st := by
  unfold wpX_solve
  dsimp only
  refine ga_gather hv fun n P ax ay X so es => ?_
  dsimp only
  have hn := X.1
  by_cases n2 : 2 ≤ n
  · refine br_t (nI_le (a := 2) n2 (by omega)) ?_
    obtain ⟨m, q, Q⟩ := hu_mkQ n2 (wk_XPb X) so
    have hH := hu_Q_H Q
    have es' : ge_St P n = wk_S st v := es
    rw [es'] at hH
    have G : ∀ u', wk_G f_present (nI n) a_placeOf ax ay a_found m q u' → post u' := fun u' g => by
      refine hp n P m q u' hn (hu_mn Q) so es hH ?_
      obtain ⟨g1, g2, g3, g4, g5, b1, b2, b3, b4, b5, b6, b7, b8, b9, b10, b11, b12, b13⟩ := u'
      obtain ⟨h1, h2, h3, h4, h5, h6, h7, h8⟩ := g
      exact ⟨h1, h4, h7, h2, by rw [h5, h6]; exact X, h3, fun k hk => ⟨h8 k hk, Q.2.1 k⟩⟩
    rcases (show e = 0 ∨ e = 1 ∨ e = 2 ∨ e = 3 ∨ e = 4 ∨ e = 5 by omega) with rfl | rfl | rfl | rfl | rfl | rfl
    · exact br_f (by decide) (br_f (by decide) (br_t rfl (e0_wrap X Q G)))
    · exact br_f (by decide) (br_f (by decide) (br_f (by decide) (br_t rfl (e1_around X Q G))))
    · exact br_f (by decide) (br_f (by decide) (br_f (by decide) (br_f (by decide) (br_t rfl (e2_twice X Q G)))))
    · exact br_f (by decide) (br_f (by decide) (br_f (by decide) (br_f (by decide) (br_f (by decide) (br_t rfl (e3_part X Q G))))))
    · exact br_f (by decide) (br_f (by decide) (br_f (by decide) (br_f (by decide) (br_f (by decide) (br_f (by decide) (br_t rfl (e4_merge X Q G)))))))
    · exact br_f (by decide) (br_t (by decide) (e5_insAll X Q G))
  · refine br_f (nI_ge (b := 2) (by omega) (by omega)) (nm_r (e' := upd a_hull 0 (nI 0)) (by rw [show (0 : Int32) = nI 0 from rfl, wk_bn' (by omega)]) ?_)
    refine hp n P n (fun _ => 0) _ hn (Nat.le_refl _) so es ?_ ⟨rfl, rfl, rfl, rfl, X, rfl, fun k hk => ⟨?_, by show 0 < n; omega⟩⟩
    · have es' : ge_St P n = wk_S st v := es
      rw [← es']
      by_cases n0 : n = 0
      · subst n0
        exact Or.inl ⟨rfl, fun r ⟨i, hi, _⟩ => absurd hi (by omega)⟩
      · have n1 : n = 1 := by omega
        subst n1
        refine Or.inr (Or.inl ⟨rfl, fun r => ⟨fun ⟨i, hi, e⟩ => ?_, fun e => ⟨0, by omega, e.symm⟩⟩⟩)
        rw [← e, show i = 0 by omega]
    · rw [show k = 0 by omega]; exact pk_us
end
end
section
/-! the reference: turns, and whether a place is free -/
def wy_S (L : Nat → Bool) (v : Nat → Nat) : Int × Int → Prop := fun r => ∃ k, k < 24 ∧ L k = true ∧ wk_pt (v k) = r
theorem wy_Sb {L : Nat → Bool} {v : Nat → Nat} (hv : ∀ k, k < 24 → L k = true → v k < 4096) : ge_bd (wy_S L v) := by
  rintro r ⟨k, k1, k2, e⟩
  rw [← e]
  exact wk_pt_b (hv k k1 k2)
theorem wy_b : ge_bd (fun r => ∃ v, v < 4096 ∧ wk_pt v = r) := by
  rintro r ⟨v, h, e⟩
  rw [← e]
  exact wk_pt_b h
section
variable {f_many : Int32} {a_spots a_left a_list : Nat → Int32}
theorem wy_turn {p q r : Nat} (hp : p < 4096) (hq : q < 4096) (hr : r < 4096) {post : Int32 → Prop} (h : post (wk_i (ge_cr (wk_pt p) (wk_pt q) (wk_pt r)))) : wpY_turn post (f_many, a_spots, a_left, a_list) (nI p) (nI q) (nI r) := by
  unfold wpY_turn
  dsimp only
  rw [wk_r64 (by omega), wk_r64 (by omega), wk_r64 (by omega), wk_d64 (by omega), wk_d64 (by omega), wk_d64 (by omega)]
  refine ⟨wk_64, wk_64, wk_64, wk_64, wk_64, wk_64, wk_64, wk_64, ?_⟩
  simp only [wk_n, wk_sub, wk_mul]
  exact h
theorem wy_turn_any {p q r : Int32} {post : Int32 → Prop} (h : ∀ z, post z) : wpY_turn post (f_many, a_spots, a_left, a_list) p q r := by
  unfold wpY_turn
  dsimp only
  exact ⟨wk_64, wk_64, wk_64, wk_64, wk_64, wk_64, wk_64, wk_64, h _⟩
theorem wy_square {p q : Nat} (hp : p < 4096) (hq : q < 4096) {post : Int32 → Prop} (h : post (wk_i (ge_sq (wk_pt p) (wk_pt q)))) : wpY_square post (f_many, a_spots, a_left, a_list) (nI p) (nI q) := by
  unfold wpY_square
  dsimp only
  rw [wk_r64 (by omega), wk_r64 (by omega), wk_d64 (by omega), wk_d64 (by omega)]
  refine ⟨wk_64, wk_64, nm_e ⟨wk_64, wk_64, nm_e ?_⟩⟩
  simp only [wk_n, wk_sub, wk_mul, wk_add]
  exact h
theorem wy_behind {p q r : Nat} (hp : p < 4096) (hq : q < 4096) (hr : r < 4096) {post : Int32 → Prop} (h0 : 0 ≤ ge_dt (wk_pt p) (wk_pt q) (wk_pt r) → post 0) (h1 : ge_dt (wk_pt p) (wk_pt q) (wk_pt r) < 0 → post 1) : wpY_behind post (f_many, a_spots, a_left, a_list) (nI p) (nI q) (nI r) := by
  have b := ge_dtb wy_b (p := wk_pt p) (q := wk_pt q) (r := wk_pt r) ⟨p, hp, rfl⟩ ⟨q, hq, rfl⟩ ⟨r, hr, rfl⟩
  unfold wpY_behind
  dsimp only
  rw [wk_r64 (by omega), wk_r64 (by omega), wk_r64 (by omega), wk_d64 (by omega), wk_d64 (by omega), wk_d64 (by omega)]
  refine ⟨wk_64, wk_64, wk_64, wk_64, wk_64, wk_64, wk_64, wk_64, ?_⟩
  simp only [wk_n, wk_sub, wk_mul, wk_add]
  exact wk_ble 0 (ge_dt (wk_pt p) (wk_pt q) (wk_pt r)) h0 h1
theorem wy_behind_any {p q r : Int32} {post : Int32 → Prop} (h0 : post 0) (h1 : post 1) : wpY_behind post (f_many, a_spots, a_left, a_list) p q r := by
  unfold wpY_behind
  dsimp only
  exact ⟨wk_64, wk_64, wk_64, wk_64, wk_64, wk_64, wk_64, wk_64, br_c (fun _ => h0) (fun _ => h1)⟩
theorem wy_is {k : Nat} (hk : k < 24) {post : Int32 → Prop} (h0 : a_spots k = 0 → post 0) (h1 : a_spots k ≠ 0 → post 1) : wpY_is post (f_many, a_spots, a_left, a_list) (nI k) := by
  unfold wpY_is
  dsimp only
  rw [nI_clamp (show k < 2 ^ 31 by omega)]
  exact br_f (nI_pos (by omega)) (br_f (nI_ge (b := 24) hk (by omega)) ⟨vp_in_nI hk (by omega), br_c h0 h1⟩)
theorem wy_isn {x : Int32} {post : Int32 → Prop} (hx : x < 0 ∨ nI 24 ≤ x) (h0 : post 0) : wpY_is post (f_many, a_spots, a_left, a_list) x := by
  unfold wpY_is
  dsimp only
  exact br_c (fun _ => h0) (fun c => br_t (hx.resolve_left c) h0)
theorem wy_isPlace {v : Nat} {post : Int32 → Prop} (h : v < 4096) (h1 : post 1) : wpY_isPlace post (f_many, a_spots, a_left, a_list) (nI v) := by
  unfold wpY_isPlace
  dsimp only
  exact br_f (nI_pos (by omega)) (br_f (nI_nlt (b := v) (a := 4095) (by omega) (by omega)) h1)
theorem wy_isPlacen {x : Int32} {post : Int32 → Prop} (hx : x < 0 ∨ nI 4096 ≤ x) (h0 : post 0) : wpY_isPlace post (f_many, a_spots, a_left, a_list) x := by
  unfold wpY_isPlace
  dsimp only
  refine br_c (fun _ => h0) (fun c => br_t ?_ h0)
  have := hx.resolve_left c
  rw [Int32.le_iff_toInt_le, show (nI 4096).toInt = 4096 by decide] at this
  rw [Int32.lt_iff_toInt_lt, show (4095 : Int32).toInt = 4095 by decide]
  omega
theorem wy_engine {v : Nat} {post : Int32 → Prop} (h : v < 6) (h1 : post 1) : wpY_engine post (f_many, a_spots, a_left, a_list) (nI v) := by
  unfold wpY_engine
  dsimp only
  exact br_f (nI_pos (by omega)) (br_f (nI_nlt (b := v) (a := 5) (by omega) (by omega)) h1)
theorem wy_enginen {x : Int32} {post : Int32 → Prop} (hx : x < 0 ∨ nI 6 ≤ x) (h0 : post 0) : wpY_engine post (f_many, a_spots, a_left, a_list) x := by
  unfold wpY_engine
  dsimp only
  refine br_c (fun _ => h0) (fun c => br_t ?_ h0)
  have := hx.resolve_left c
  rw [Int32.le_iff_toInt_le, show (nI 6).toInt = 6 by decide] at this
  rw [Int32.lt_iff_toInt_lt, show (5 : Int32).toInt = 5 by decide]
  omega
def wy_LF (L : Nat → Bool) (v : Nat → Nat) (a_spots a_left : Nat → Int32) : Prop :=
  ∀ k, k < 24 → a_left k = (if L k = true then 1 else 0) ∧ (L k = true → a_spots k = nI (v k + 1) ∧ v k < 4096)
def wy_Fr (L : Nat → Bool) (v : Nat → Nat) (p q i : Nat) : Prop :=
  ∀ k, k < i → L k = true → 0 < ge_cr (wk_pt p) (wk_pt q) (wk_pt (v k)) ∨ (ge_cr (wk_pt p) (wk_pt q) (wk_pt (v k)) = 0 ∧ 0 ≤ ge_dt (wk_pt p) (wk_pt q) (wk_pt (v k)))
theorem wy_nb0 : narrow .boolean (.int 0) = .int 0 := narrow_b0
theorem wy_nb1 : narrow .boolean (.int 1) = .int 1 := narrow_b1
theorem wy_free {L : Nat → Bool} {v : Nat → Nat} (F : wy_LF L v a_spots a_left) {p q : Nat} (hp : p < 4096) (hq : q < 4096) {post : Int32 → Prop} (h1 : wy_Fr L v p q 24 → post 1) (h0 : ¬ wy_Fr L v p q 24 → post 0) : wpY_free post (f_many, a_spots, a_left, a_list) (nI p) (nI q) := by
  have out : ∀ N i, ¬ wy_Fr L v p q 24 → wY_free_5 post (nI p) (nI q) f_many a_spots a_left a_list (N + 1) 0 i := fun N i h => by
    rw [wY_free_5]
    exact br_c (fun _ => ⟨wy_nb0, h0 h⟩) (fun _ => br_t rfl ⟨wy_nb0, h0 h⟩)
  have A : ∀ d i N, i + d = 24 → d < N → wy_Fr L v p q i → wY_free_5 post (nI p) (nI q) f_many a_spots a_left a_list (N + 1) 1 (nI i) := by
    intro d
    induction d with
    | zero =>
      intro i N hi hN h
      have e : i = 24 := by omega
      subst e
      rw [wY_free_5]
      exact br_t (nI_le (a := 24) (by omega) (by omega)) ⟨wy_nb1, h1 h⟩
    | succ d ih =>
      intro i N hi hN h
      obtain ⟨N, rfl⟩ : ∃ M, N = M + 1 := ⟨N - 1, by omega⟩
      obtain ⟨l1, l2⟩ := F i (by omega)
      have v24 := vp_in_nI (n := i) (N := 24) (by omega) (by omega)
      rw [wY_free_5]
      dsimp only
      rw [nI_clamp (show i < 2 ^ 31 by omega), l1]
      have good : (L i = true → 0 < ge_cr (wk_pt p) (wk_pt q) (wk_pt (v i)) ∨ (ge_cr (wk_pt p) (wk_pt q) (wk_pt (v i)) = 0 ∧ 0 ≤ ge_dt (wk_pt p) (wk_pt q) (wk_pt (v i)))) → wY_free_5 post (nI p) (nI q) f_many a_spots a_left a_list (N + 1) 1 (nI i + 1) := fun g => by
        rw [nI_1]
        exact ih (i + 1) N (by omega) (by omega) (lt_s h g)
      by_cases c : L i = true
      · obtain ⟨s1, s2⟩ := l2 c
        rw [if_pos c, s1]
        have e1 : nI (v i + 1) - 1 = nI (v i) := nI_pred _
        rw [e1]
        have b := ge_crb wy_b (p := wk_pt p) (q := wk_pt q) (r := wk_pt (v i)) ⟨p, hp, rfl⟩ ⟨q, hq, rfl⟩ ⟨v i, s2, rfl⟩
        refine br_f (nI_ge (b := 24) (by omega) (by omega)) (br_f (by decide) ⟨v24, nm_e ⟨v24, br_f (by decide) (wy_turn hp hq s2 ?_)⟩⟩)
        unfold wY_free_49
        have bad : ¬ (0 < ge_cr (wk_pt p) (wk_pt q) (wk_pt (v i)) ∨ (ge_cr (wk_pt p) (wk_pt q) (wk_pt (v i)) = 0 ∧ 0 ≤ ge_dt (wk_pt p) (wk_pt q) (wk_pt (v i)))) → ¬ wy_Fr L v p q 24 := fun n f => n (f i (by omega) c)
        refine wk_blt 0 (ge_cr (wk_pt p) (wk_pt q) (wk_pt (v i))) (fun z => nm_e (good fun _ => Or.inl z)) (fun z => wk_beq (ge_cr (wk_pt p) (wk_pt q) (wk_pt (v i))) 0 (fun y => wy_behind hp hq s2 (fun w => br_t rfl (nm_e (good fun _ => Or.inr ⟨y, w⟩))) (fun w => br_f (by decide) (nm_e (out N _ (bad (by omega)))))) (fun y => nm_e (out N _ (bad (by omega)))))
      · rw [if_neg c]
        refine br_f (nI_ge (b := 24) (by omega) (by omega)) (br_f (by decide) ⟨v24, nm_e ⟨v24, br_t rfl ?_⟩⟩)
        unfold wY_free_49
        exact br_t (by decide) (nm_e (good fun z => absurd z c))
  unfold wpY_free
  exact ⟨26, A 24 0 25 (by omega) (by omega) (fun k hk => absurd hk (by omega))⟩
theorem wy_free_any {p q : Int32} {post : Int32 → Prop} (h1 : post 1) (h0 : post 0) : wpY_free post (f_many, a_spots, a_left, a_list) p q := by
  have out : ∀ N i, wY_free_5 post p q f_many a_spots a_left a_list (N + 1) 0 i := fun N i => by
    rw [wY_free_5]
    exact br_c (fun _ => ⟨wy_nb0, h0⟩) (fun _ => br_t rfl ⟨wy_nb0, h0⟩)
  have A : ∀ d i N, i + d = 24 → d < N → wY_free_5 post p q f_many a_spots a_left a_list (N + 1) 1 (nI i) := by
    intro d
    induction d with
    | zero =>
      intro i N hi hN
      have e : i = 24 := by omega
      subst e
      rw [wY_free_5]
      exact br_t (nI_le (a := 24) (by omega) (by omega)) ⟨wy_nb1, h1⟩
    | succ d ih =>
      intro i N hi hN
      obtain ⟨N, rfl⟩ : ∃ M, N = M + 1 := ⟨N - 1, by omega⟩
      have v24 := vp_in_nI (n := i) (N := 24) (by omega) (by omega)
      have good : wY_free_5 post p q f_many a_spots a_left a_list (N + 1) 1 (nI i + 1) := by
        rw [nI_1]
        exact ih (i + 1) N (by omega) (by omega)
      have m49 : ∀ z0 x5, wY_free_49 post (wY_free_5 post p q f_many a_spots a_left a_list (N + 1)) p q (nI i) x5 z0 f_many a_spots a_left a_list := fun z0 x5 => by
        unfold wY_free_49
        exact br_c (fun _ => nm_e good) (fun _ => br_c (fun _ => wy_behind_any (br_t rfl (nm_e good)) (br_f (by decide) (nm_e (out N _)))) (fun _ => nm_e (out N _)))
      rw [wY_free_5]
      exact br_f (nI_ge (b := 24) (by omega) (by omega)) (br_f (by decide) ⟨v24, nm_e ⟨v24, br_c (fun _ => m49 _ _) (fun _ => wy_turn_any fun z => m49 _ _)⟩⟩)
  unfold wpY_free
  exact ⟨26, A 24 0 25 (by omega) (by omega)⟩
end
end
section
/-! the reference: whether a point is a corner -/
def wy_fl (f : Int32) (A : Prop) : Prop := (f = 1 ∧ A) ∨ (f = 0 ∧ ¬ A)
def wy_Al (L : Nat → Bool) (v : Nat → Nat) (k i : Nat) : Prop := ∀ j, j < i → L j = true → v j = v k
def wy_Fo (L : Nat → Bool) (v : Nat → Nat) (k i : Nat) : Prop := ∃ j, j < i ∧ L j = true ∧ v j ≠ v k ∧ wy_Fr L v (v k) (v j) 24
def wy_A2 (L : Nat → Bool) (v : Nat → Nat) (k i : Nat) : Prop := wy_Al L v k 24 ∧ ∀ j, j < i → L j = false
def wy_F2 (L : Nat → Bool) (v : Nat → Nat) (k i : Nat) : Prop := wy_Fo L v k 24 ∧ ∀ j, j < i → ¬ (L j = true ∧ v j = v k)
def wy_IC (L : Nat → Bool) (v : Nat → Nat) (k : Nat) : Prop := wy_A2 L v k k ∨ wy_F2 L v k k
theorem wy_fl1 {f : Int32} {A B : Prop} (h : wy_fl f A) (e : A ↔ B) : wy_fl f B := by
  rcases h with ⟨h1, h2⟩ | ⟨h1, h2⟩
  · exact Or.inl ⟨h1, e.mp h2⟩
  · exact Or.inr ⟨h1, fun z => h2 (e.mpr z)⟩
section
variable {f_many : Int32} {a_spots a_left a_list : Nat → Int32}
theorem wy_ic115 {L : Nat → Bool} {v : Nat → Nat} (F : wy_LF L v a_spots a_left) {k : Nat} (hk : k < 24) (Lk : L k = true) {post : Int32 → Prop} (h1 : wy_IC L v k → post 1) (h0 : ¬ wy_IC L v k → post 0) : ∀ (d j N : Nat) (fa fo : Int32), j + d = k → d < N → wy_fl fa (wy_A2 L v k j) → wy_fl fo (wy_F2 L v k j) → wY_isCorner_115 post (nI k) f_many a_spots a_left a_list N fa fo (nI j) := by
  obtain ⟨k1, k2⟩ := F k hk
  obtain ⟨k3, k4⟩ := k2 Lk
  intro d
  induction d with
  | zero =>
    intro j N fa fo hj hN ha hf
    obtain ⟨N, rfl⟩ : ∃ M, N = M + 1 := ⟨N - 1, by omega⟩
    have e : j = k := by omega
    subst e
    rw [wY_isCorner_115]
    dsimp only
    rw [nI_clamp (show j < 2 ^ 31 by omega), k1, if_pos Lk]
    refine br_t (nI_le (Nat.le_refl _) (by omega)) ⟨vp_in_nI hk (by omega), br_f (by decide) ?_⟩
    rcases ha with ⟨rfl, ha⟩ | ⟨rfl, ha⟩
    · exact br_f (by decide) (h1 (Or.inl ha))
    · rcases hf with ⟨rfl, hf⟩ | ⟨rfl, hf⟩
      · exact br_t rfl (br_f (by decide) (h1 (Or.inr hf)))
      · exact br_t rfl (br_t rfl (h0 fun z => z.elim ha hf))
  | succ d ih =>
    intro j N fa fo hj hN ha hf
    obtain ⟨N, rfl⟩ : ∃ M, N = M + 1 := ⟨N - 1, by omega⟩
    obtain ⟨j1, j2⟩ := F j (by omega)
    have v24 := vp_in_nI (n := j) (N := 24) (by omega) (by omega)
    have vk := vp_in_nI (n := k) (N := 24) (by omega) (by omega)
    have I := ih (j + 1) N
    rw [← nI_1] at I
    have aT : L j = true → ¬ wy_A2 L v k (j + 1) := fun c z => by
      have := z.2 j (by omega); rw [this] at c; exact absurd c (by decide)
    have aF : L j ≠ true → (wy_A2 L v k j ↔ wy_A2 L v k (j + 1)) := fun c => ⟨fun z => ⟨z.1, lt_s z.2 (by simpa using c)⟩, fun z => ⟨z.1, fun i hi => z.2 i (by omega)⟩⟩
    have aN : ¬ wy_A2 L v k j → ¬ wy_A2 L v k (j + 1) := fun c z => c ⟨z.1, fun i hi => z.2 i (by omega)⟩
    have fN : ¬ wy_F2 L v k j → ¬ wy_F2 L v k (j + 1) := fun c z => c ⟨z.1, fun i hi => z.2 i (by omega)⟩
    have fT : (L j = true ∧ v j = v k) → ¬ wy_F2 L v k (j + 1) := fun c z => z.2 j (by omega) c
    have fF : ¬ (L j = true ∧ v j = v k) → wy_F2 L v k j → wy_F2 L v k (j + 1) := fun c z => ⟨z.1, lt_s z.2 c⟩
    have m157 : ∀ z0, wy_fl z0 (wy_F2 L v k (j + 1)) → wY_isCorner_157 post (wY_isCorner_115 post (nI k) f_many a_spots a_left a_list N) (nI k) fa (nI j) z0 f_many a_spots a_left a_list := fun z0 hz => by
      unfold wY_isCorner_157
      rw [nI_clamp (show j < 2 ^ 31 by omega), j1]
      rcases ha with ⟨rfl, ha⟩ | ⟨rfl, ha⟩
      · by_cases c : L j = true
        · rw [if_pos c]
          exact br_f (by decide) ⟨v24, br_f (by decide) (nm_e (I 0 z0 (by omega) (by omega) (Or.inr ⟨rfl, aT c⟩) hz))⟩
        · rw [if_neg c]
          exact br_f (by decide) ⟨v24, br_t rfl (nm_e (I 1 z0 (by omega) (by omega) (Or.inl ⟨rfl, (aF c).mp ha⟩) hz))⟩
      · exact br_t rfl (nm_e (I 0 z0 (by omega) (by omega) (Or.inr ⟨rfl, aN ha⟩) hz))
    rw [wY_isCorner_115]
    dsimp only
    rw [nI_clamp (show j < 2 ^ 31 by omega), nI_clamp (show k < 2 ^ 31 by omega), j1, k3]
    refine br_f (nI_ge (by omega) (by omega)) ?_
    rcases hf with ⟨rfl, hf⟩ | ⟨rfl, hf⟩
    · by_cases c : L j = true
      · rw [if_pos c, (j2 c).1]
        have lj := (j2 c).2
        refine br_f (by decide) ⟨v24, br_f (by decide) ⟨v24, vk, pk_eq (v j + 1) (v k + 1) (fun e => ?_) (fun e => ?_)⟩⟩
        · exact m157 0 (Or.inr ⟨rfl, fT ⟨c, by omega⟩⟩)
        · exact m157 1 (Or.inl ⟨rfl, fF (fun z => e (by omega)) hf⟩)
      · rw [if_neg c]
        refine br_f (by decide) ⟨v24, br_t rfl ?_⟩
        exact m157 1 (Or.inl ⟨rfl, fF (fun z => c z.1) hf⟩)
    · exact br_t rfl (m157 0 (Or.inr ⟨rfl, fN hf⟩))
theorem wy_ic17 {L : Nat → Bool} {v : Nat → Nat} (F : wy_LF L v a_spots a_left) {k : Nat} (hk : k < 24) (Lk : L k = true) {post : Int32 → Prop} (h1 : wy_IC L v k → post 1) (h0 : ¬ wy_IC L v k → post 0) : ∀ (d j N : Nat) (fa fo : Int32), j + d = 24 → d < N → wy_fl fa (wy_Al L v k j) → wy_fl fo (wy_Fo L v k j) → wY_isCorner_17 post (nI k) (nI (v k)) f_many a_spots a_left a_list N fa fo (nI j) := by
  obtain ⟨k1, k2⟩ := F k hk
  obtain ⟨k3, k4⟩ := k2 Lk
  intro d
  induction d with
  | zero =>
    intro j N fa fo hj hN ha hf
    obtain ⟨N, rfl⟩ : ∃ M, N = M + 1 := ⟨N - 1, by omega⟩
    have e : j = 24 := by omega
    subst e
    rw [wY_isCorner_17]
    refine br_t (nI_le (a := 24) (by omega) (by omega)) ⟨k + 1, wy_ic115 F hk Lk h1 h0 k 0 (k + 1) fa fo (by omega) (by omega) (wy_fl1 ha ⟨fun z => ⟨z, fun i hi => absurd hi (by omega)⟩, fun z => z.1⟩) (wy_fl1 hf ⟨fun z => ⟨z, fun i hi => absurd hi (by omega)⟩, fun z => z.1⟩)⟩
  | succ d ih =>
    intro j N fa fo hj hN ha hf
    obtain ⟨N, rfl⟩ : ∃ M, N = M + 1 := ⟨N - 1, by omega⟩
    obtain ⟨j1, j2⟩ := F j (by omega)
    have v24 := vp_in_nI (n := j) (N := 24) (by omega) (by omega)
    have vk := vp_in_nI (n := k) (N := 24) (by omega) (by omega)
    have I := ih (j + 1) N
    rw [← nI_1] at I
    have aN : ¬ wy_Al L v k j → ¬ wy_Al L v k (j + 1) := fun c z => c fun i hi => z i (by omega)
    have fY : wy_Fo L v k j → wy_Fo L v k (j + 1) := fun ⟨i, hi, r⟩ => ⟨i, by omega, r⟩
    have same : (L j = true → v j = v k) → (¬ wy_Fo L v k j → ¬ wy_Fo L v k (j + 1)) := fun c n ⟨i, hi, r1, r2, r3⟩ => by
      by_cases e : i = j
      · subst e; exact r2 (c r1)
      · exact n ⟨i, by omega, r1, r2, r3⟩
    -- not another
    have m54 : (L j = true → v j = v k) → wY_isCorner_54 post (wY_isCorner_17 post (nI k) (nI (v k)) f_many a_spots a_left a_list N) (nI k) (nI (v k)) fa fo (nI j) f_many a_spots a_left a_list := fun c => by
      unfold wY_isCorner_54 wY_isCorner_55
      have m71 : ∀ z0, wy_fl z0 (wy_Al L v k (j + 1)) → wY_isCorner_71 post (wY_isCorner_17 post (nI k) (nI (v k)) f_many a_spots a_left a_list N) (nI k) (nI (v k)) fo (nI j) 0 z0 f_many a_spots a_left a_list := fun z0 hz => by
        unfold wY_isCorner_71
        rcases hf with ⟨rfl, hf⟩ | ⟨rfl, hf⟩
        · exact br_f (by decide) (nm_e (I z0 1 (by omega) (by omega) hz (Or.inl ⟨rfl, fY hf⟩)))
        · exact br_t rfl (br_t rfl (nm_e (I z0 0 (by omega) (by omega) hz (Or.inr ⟨rfl, same c hf⟩))))
      rcases ha with ⟨rfl, ha⟩ | ⟨rfl, ha⟩
      · exact br_f (by decide) (br_t rfl (m71 1 (Or.inl ⟨rfl, lt_s ha c⟩)))
      · refine br_t rfl ?_
        unfold wY_isCorner_70
        exact m71 0 (Or.inr ⟨rfl, aN ha⟩)
    rw [wY_isCorner_17]
    dsimp only
    rw [nI_clamp (show j < 2 ^ 31 by omega), nI_clamp (show k < 2 ^ 31 by omega), j1, k3]
    refine br_f (nI_ge (b := 24) (by omega) (by omega)) ⟨v24, ?_⟩
    by_cases c : L j = true
    · obtain ⟨s1, s2⟩ := j2 c
      rw [if_pos c, s1]
      refine br_f (by decide) ⟨v24, vk, pk_eq (v j + 1) (v k + 1) (fun e => m54 fun _ => by omega) (fun e => ?_)⟩
      have ne : v j ≠ v k := fun z => e (by omega)
      have nal : ¬ wy_Al L v k (j + 1) := fun z => ne (z j (by omega) c)
      unfold wY_isCorner_55
      have m71 : wY_isCorner_71 post (wY_isCorner_17 post (nI k) (nI (v k)) f_many a_spots a_left a_list N) (nI k) (nI (v k)) fo (nI j) 1 0 f_many a_spots a_left a_list := by
        unfold wY_isCorner_71
        rcases hf with ⟨rfl, hf⟩ | ⟨rfl, hf⟩
        · exact br_f (by decide) (nm_e (I 0 1 (by omega) (by omega) (Or.inr ⟨rfl, nal⟩) (Or.inl ⟨rfl, fY hf⟩)))
        · rw [nI_clamp (show j < 2 ^ 31 by omega), s1, show nI (v j + 1) - 1 = nI (v j) from nI_pred _]
          refine br_t rfl (br_f (by decide) ⟨v24, wy_free F k4 s2 (fun z => ?_) (fun z => ?_)⟩)
          · exact br_f (by decide) (nm_e (I 0 1 (by omega) (by omega) (Or.inr ⟨rfl, nal⟩) (Or.inl ⟨rfl, j, by omega, c, ne, z⟩)))
          · refine br_t rfl (nm_e (I 0 0 (by omega) (by omega) (Or.inr ⟨rfl, nal⟩) (Or.inr ⟨rfl, ?_⟩)))
            rintro ⟨i, hi, r1, r2, r3⟩
            by_cases ei : i = j
            · subst ei; exact z r3
            · exact hf ⟨i, by omega, r1, r2, r3⟩
      rcases ha with ⟨rfl, ha⟩ | ⟨rfl, ha⟩
      · refine br_f (by decide) (br_f (by decide) ?_)
        unfold wY_isCorner_70
        exact m71
      · refine br_t rfl ?_
        unfold wY_isCorner_70
        exact m71
    · rw [if_neg c]
      exact br_t rfl (m54 fun z => absurd z c)
theorem wy_isCorner {L : Nat → Bool} {v : Nat → Nat} (F : wy_LF L v a_spots a_left) {k : Nat} (hk : k < 24) (Lk : L k = true) {post : Int32 → Prop} (h1 : wy_IC L v k → post 1) (h0 : ¬ wy_IC L v k → post 0) : wpY_isCorner post (f_many, a_spots, a_left, a_list) (nI k) := by
  obtain ⟨k1, k2⟩ := F k hk
  obtain ⟨k3, k4⟩ := k2 Lk
  unfold wpY_isCorner
  refine ⟨vp_in_nI hk (by omega), nm_r (e' := nI (v k)) (by rw [nI_clamp (by omega), k3]; exact nI_pred _) ⟨25, ?_⟩⟩
  exact wy_ic17 F hk Lk h1 h0 24 0 25 1 0 (by omega) (by omega) (Or.inl ⟨rfl, fun j hj => absurd hj (by omega)⟩) (Or.inr ⟨rfl, fun ⟨j, hj, _⟩ => absurd hj (by omega)⟩)
theorem wy_isCorner_n {L : Nat → Bool} {v : Nat → Nat} (F : wy_LF L v a_spots a_left) {k : Nat} (hk : k < 24) (Lk : L k ≠ true) {post : Int32 → Prop} (h0 : post 0) : wpY_isCorner post (f_many, a_spots, a_left, a_list) (nI k) := by
  obtain ⟨k1, k2⟩ := F k hk
  rw [if_neg Lk] at k1
  have vk := vp_in_nI (n := k) (N := 24) (by omega) (by omega)
  have A : ∀ (d j N : Nat) (fa fo : Int32), j + d = k → d < N → wY_isCorner_115 post (nI k) f_many a_spots a_left a_list N fa fo (nI j) := by
    intro d
    induction d with
    | zero =>
      intro j N fa fo hj hN
      obtain ⟨N, rfl⟩ : ∃ M, N = M + 1 := ⟨N - 1, by omega⟩
      rw [wY_isCorner_115]
      dsimp only
      rw [nI_clamp (show k < 2 ^ 31 by omega), k1]
      exact br_t (nI_le (by omega) (by omega)) ⟨vk, br_t rfl h0⟩
    | succ d ih =>
      intro j N fa fo hj hN
      obtain ⟨N, rfl⟩ : ∃ M, N = M + 1 := ⟨N - 1, by omega⟩
      have v24 := vp_in_nI (n := j) (N := 24) (by omega) (by omega)
      have I := fun a b => ih (j + 1) N a b (by omega) (by omega)
      rw [← nI_1] at I
      have m157 : ∀ z0, wY_isCorner_157 post (wY_isCorner_115 post (nI k) f_many a_spots a_left a_list N) (nI k) fa (nI j) z0 f_many a_spots a_left a_list := fun z0 => by
        unfold wY_isCorner_157
        exact br_c (fun _ => nm_e (I _ _)) (fun _ => ⟨v24, br_c (fun _ => nm_e (I _ _)) (fun _ => nm_e (I _ _))⟩)
      rw [wY_isCorner_115]
      exact br_f (nI_ge (by omega) (by omega)) (br_c (fun _ => m157 0) (fun _ => ⟨v24, br_c (fun _ => m157 1) (fun _ => ⟨v24, vk, br_c (fun _ => m157 0) (fun _ => m157 1)⟩)⟩))
  have A17 : ∀ (d j N : Nat) (p fa fo : Int32), j + d = 24 → d < N → wY_isCorner_17 post (nI k) p f_many a_spots a_left a_list N fa fo (nI j) := by
    intro d
    induction d with
    | zero =>
      intro j N p fa fo hj hN
      obtain ⟨N, rfl⟩ : ∃ M, N = M + 1 := ⟨N - 1, by omega⟩
      have e : j = 24 := by omega
      subst e
      rw [wY_isCorner_17]
      exact br_t (nI_le (a := 24) (by omega) (by omega)) ⟨k + 1, A k 0 (k + 1) fa fo (by omega) (by omega)⟩
    | succ d ih =>
      intro j N p fa fo hj hN
      obtain ⟨N, rfl⟩ : ∃ M, N = M + 1 := ⟨N - 1, by omega⟩
      have v24 := vp_in_nI (n := j) (N := 24) (by omega) (by omega)
      have I := fun a b => ih (j + 1) N p a b (by omega) (by omega)
      rw [← nI_1] at I
      have m71 : ∀ x6 z0, wY_isCorner_71 post (wY_isCorner_17 post (nI k) p f_many a_spots a_left a_list N) (nI k) p fo (nI j) x6 z0 f_many a_spots a_left a_list := fun x6 z0 => by
        unfold wY_isCorner_71
        exact br_c (fun _ => br_c (fun _ => nm_e (I _ _)) (fun _ => ⟨v24, wy_free_any (br_f (by decide) (nm_e (I _ _))) (br_t rfl (nm_e (I _ _)))⟩)) (fun _ => nm_e (I _ _))
      have m55 : ∀ z0, wY_isCorner_55 post (wY_isCorner_17 post (nI k) p f_many a_spots a_left a_list N) (nI k) p fa fo (nI j) z0 f_many a_spots a_left a_list := fun z0 => by
        unfold wY_isCorner_55 wY_isCorner_70
        exact br_c (fun _ => m71 _ _) (fun _ => br_c (fun _ => m71 _ _) (fun _ => m71 _ _))
      rw [wY_isCorner_17]
      refine br_f (nI_ge (b := 24) (by omega) (by omega)) ⟨v24, br_c (fun _ => ?_) (fun _ => ⟨v24, vk, br_c (fun _ => ?_) (fun _ => m55 1)⟩)⟩
      · unfold wY_isCorner_54
        exact m55 0
      · unfold wY_isCorner_54
        exact m55 0
  unfold wpY_isCorner
  exact ⟨vk, nm_e ⟨25, A17 24 0 25 _ 1 0 (by omega) (by omega)⟩⟩
end
end
section
/-! the reference: its corners, in their order -/
def wy_pm (m : Nat) (t : Nat → Nat) : Prop := (∀ p, p < m → t p < m) ∧ (∀ p r, p < r → r < m → t p ≠ t r) ∧ (∀ k, k < m → ∃ p, p < m ∧ t p = k)
theorem wy_pm_sw {m : Nat} {t : Nat → Nat} (T : wy_pm m t) {j : Nat} (hj : j + 1 < m) : wy_pm m (fun p => if p = j then t (j + 1) else if p = j + 1 then t j else t p) := by
  obtain ⟨t1, t2, t3⟩ := T
  refine ⟨fun p hp => ?_, fun p r h1 h2 => ?_, fun k hk => ?_⟩
  · show (if p = j then t (j + 1) else if p = j + 1 then t j else t p) < m
    split
    · exact t1 _ hj
    · split
      · exact t1 _ (by omega)
      · exact t1 _ hp
  · show (if p = j then t (j + 1) else if p = j + 1 then t j else t p) ≠ (if r = j then t (j + 1) else if r = j + 1 then t j else t r)
    have a := t2 p r h1 h2
    have b := t2 j (j + 1) (by omega) hj
    by_cases p1 : p = j
    · rw [if_pos p1, if_neg (show ¬ r = j by omega)]
      by_cases r1 : r = j + 1
      · rw [if_pos r1]; exact fun z => b z.symm
      · rw [if_neg r1]; exact t2 (j + 1) r (by omega) h2
    · rw [if_neg p1]
      by_cases p2 : p = j + 1
      · rw [if_pos p2, if_neg (show ¬ r = j by omega), if_neg (show ¬ r = j + 1 by omega)]
        exact t2 j r (by omega) h2
      · rw [if_neg p2]
        by_cases r1 : r = j
        · rw [if_pos r1]; exact t2 p (j + 1) (by omega) hj
        · rw [if_neg r1]
          by_cases r2 : r = j + 1
          · rw [if_pos r2]; exact t2 p j (by omega) (by omega)
          · rw [if_neg r2]; exact a
  · obtain ⟨p, hp, e⟩ := t3 k hk
    by_cases p1 : p = j
    · exact ⟨j + 1, hj, by show (if j + 1 = j then _ else if j + 1 = j + 1 then t j else _) = k; rw [if_neg (by omega), if_pos rfl, ← p1, e]⟩
    · by_cases p2 : p = j + 1
      · exact ⟨j, by omega, by show (if j = j then t (j + 1) else _) = k; rw [if_pos rfl, ← p2, e]⟩
      · exact ⟨p, hp, by show (if p = j then _ else if p = j + 1 then _ else t p) = k; rw [if_neg p1, if_neg p2, e]⟩
theorem wy_pm_i {m : Nat} {t : Nat → Nat} (T : wy_pm m t) {i : Nat} (hi : i < m) (lo : ∀ p, p < i → t p = p) (mn : ∀ p, i ≤ p → p < m → t i ≤ t p) : t i = i := by
  obtain ⟨t1, t2, t3⟩ := T
  obtain ⟨p, hp, e⟩ := t3 i hi
  have a : i ≤ p := by
    apply Nat.le_of_not_lt
    intro z
    have := lo p z
    omega
  have b := mn p a hp
  apply Classical.byContradiction
  intro c
  have l : t i < i := by omega
  exact t2 (t i) i l hi (lo _ l)

section
variable {f_many : Int32} {a_spots a_left a_list : Nat → Int32}
theorem wy_arr17 {m : Nat} (hm : m ≤ 24) {c : Nat → Nat} (hc : ∀ j, j < m → c j < 4096) (inj : ∀ i j, i < j → j < m → c i ≠ c j) (ho : ∀ i j, 0 < i → i < j → j < m → 0 < ge_cr (wk_pt (c 0)) (wk_pt (c i)) (wk_pt (c j))) {i : Nat} (hi : i < m) {post : SY → Prop} {J2 : Int32 → (Nat → Int32) → (Nat → Int32) → (Nat → Int32) → Prop} (hJ : ∀ (t : Nat → Nat) (list : Nat → Int32), wy_pm m t → (∀ p, p < m → list p = nI (c (t p))) → (∀ p, p < i + 1 → t p = p) → J2 (nI (i + 1)) a_spots a_left list) : ∀ (e j N : Nat) (t : Nat → Nat) (list : Nat → Int32), j = i + e → e < N → j < m → wy_pm m t → (∀ p, p < m → list p = nI (c (t p))) → (∀ p, p < i → t p = p) → (∀ p, j ≤ p → p < m → t j ≤ t p) → wY_arrange_17 post J2 (nI (c 0)) (nI i) (nI m) N (nI j) a_spots a_left list := by
  have ceq : ∀ i j, i < m → j < m → (nI (c i) = nI (c j) ↔ i = j) := fun i j h1 h2 => by
    have a := hc i h1
    have b := hc j h2
    rw [nI_eq (by omega) (by omega)]
    constructor
    · intro z
      rcases Nat.lt_trichotomy i j with w | w | w
      · exact absurd z (inj i j w h2)
      · exact w
      · exact absurd z.symm (inj j i w h1)
    · intro z; rw [z]
  intro e
  induction e with
  | zero =>
    intro j N t list hj hN jm T hl lo mn
    obtain ⟨N, rfl⟩ : ∃ M, N = M + 1 := ⟨N - 1, by omega⟩
    have e : j = i := by omega
    subst e
    rw [wY_arrange_17]
    exact br_t (nI_le (Nat.le_refl _) (by omega)) (nm_r (nI_1 j) (hJ t list T hl (lt_s lo (wy_pm_i T hi lo mn))))
  | succ e ih =>
    intro j N t list hj hN jm T hl lo mn
    obtain ⟨N, rfl⟩ : ∃ M, N = M + 1 := ⟨N - 1, by omega⟩
    obtain ⟨j, rfl⟩ : ∃ k, j = k + 1 := ⟨j - 1, by omega⟩
    have ta := T.1 j (by omega)
    have tb := T.1 (j + 1) jm
    have tn := T.2.1 j (j + 1) (by omega) jm
    have ca := hc _ ta
    have cb := hc _ tb
    have c0 := hc 0 (by omega)
    have va := vp_in_nI (n := j) (N := 24) (by omega) (by omega)
    have vb := vp_in_nI (n := j + 1) (N := 24) (by omega) (by omega)
    have no : t j < t (j + 1) → wY_arrange_68 post J2 (wY_arrange_17 post J2 (nI (c 0)) (nI i) (nI m) N) (nI (c 0)) (nI i) (nI (j + 1)) (nI (c (t j))) (nI (c (t (j + 1)))) (nI m) a_spots a_left list := fun z => by
      unfold wY_arrange_68 wY_arrange_69 wY_arrange_90
      rw [nI_pred, nI_clamp (show j < 2 ^ 31 by omega), nI_clamp (show j + 1 < 2 ^ 31 by omega), pk_m1]
      refine br_t rfl ⟨va, nm_e (br_t rfl ⟨vb, nm_e (nm_e (ih j N t _ (by omega) (by omega) (by omega) T (fun p hp => ?_) lo (fun p p1 p2 => ?_)))⟩)⟩
      · by_cases e1 : p = j + 1
        · subst e1; exact pk_us
        · rw [pk_un e1]
          by_cases e2 : p = j
          · subst e2; exact pk_us
          · rw [pk_un e2]; exact hl p hp
      · by_cases e1 : p = j
        · rw [e1]; exact Nat.le_refl _
        · have := mn p (by omega) p2
          omega
    have yes : t (j + 1) < t j → wY_arrange_64 post J2 (wY_arrange_17 post J2 (nI (c 0)) (nI i) (nI m) N) (nI (c 0)) (nI i) (nI (j + 1)) (nI (c (t j))) (nI (c (t (j + 1)))) (nI m) a_spots a_left list := fun z => by
      unfold wY_arrange_64 wY_arrange_69 wY_arrange_90
      rw [nI_pred, nI_clamp (show j < 2 ^ 31 by omega), nI_clamp (show j + 1 < 2 ^ 31 by omega), pk_m1]
      refine br_f (by decide) ⟨va, nm_e (br_f (by decide) ⟨vb, nm_e (nm_e (ih j N (fun p => if p = j then t (j + 1) else if p = j + 1 then t j else t p) _ (by omega) (by omega) (by omega) (wy_pm_sw T jm) (fun p hp => ?_) (fun p hp => ?_) (fun p p1 p2 => ?_)))⟩)⟩
      · show upd (upd list j (nI (c (t (j + 1))))) (j + 1) (nI (c (t j))) p = nI (c (if p = j then t (j + 1) else if p = j + 1 then t j else t p))
        by_cases e1 : p = j + 1
        · subst e1; rw [pk_us, if_neg (by omega), if_pos rfl]
        · rw [pk_un e1]
          by_cases e2 : p = j
          · subst e2; rw [pk_us, if_pos rfl]
          · rw [pk_un e2, if_neg e2, if_neg e1]; exact hl p hp
      · show (if p = j then t (j + 1) else if p = j + 1 then t j else t p) = p
        rw [if_neg (by omega), if_neg (by omega)]; exact lo p hp
      · show (if j = j then t (j + 1) else _) ≤ (if p = j then t (j + 1) else if p = j + 1 then t j else t p)
        rw [if_pos rfl]
        by_cases e1 : p = j
        · rw [if_pos e1]; exact Nat.le_refl _
        · rw [if_neg e1]
          by_cases e2 : p = j + 1
          · rw [if_pos e2]; omega
          · rw [if_neg e2]; exact mn p (by omega) p2
    rw [wY_arrange_17]
    refine br_f (nI_ge (by omega) (by omega)) ?_
    refine ⟨by rw [nI_pred]; exact va, nm_r (e' := nI (c (t j))) (by rw [nI_pred, nI_clamp (by omega)]; exact hl j (by omega)) ⟨vb, nm_r (e' := nI (c (t (j + 1)))) (by rw [nI_clamp (by omega)]; exact hl (j + 1) jm) ?_⟩⟩
    refine br_c (fun z => yes ?_) (fun z => ?_)
    · have := (ceq _ 0 tb (by omega)).mp z
      omega
    · have n1 : t (j + 1) ≠ 0 := fun w => z ((ceq _ 0 tb (by omega)).mpr w)
      refine br_c (fun y => no ?_) (fun y => ?_)
      · have := (ceq _ 0 ta (by omega)).mp y
        omega
      · have n0 : t j ≠ 0 := fun w => y ((ceq _ 0 ta (by omega)).mpr w)
        refine wy_turn c0 ca cb ?_
        have b := ge_crb wy_b (p := wk_pt (c 0)) (q := wk_pt (c (t j))) (r := wk_pt (c (t (j + 1)))) ⟨_, c0, rfl⟩ ⟨_, ca, rfl⟩ ⟨_, cb, rfl⟩
        refine wk_ble 0 (ge_cr (wk_pt (c 0)) (wk_pt (c (t j))) (wk_pt (c (t (j + 1))))) (fun x => no ?_) (fun x => yes ?_)
        · apply Nat.lt_of_not_le
          intro w
          have := ho (t (j + 1)) (t j) (by omega) (by omega) ta
          rw [ge_sw2] at this
          omega
        · apply Nat.lt_of_not_le
          intro w
          have := ho (t j) (t (j + 1)) (by omega) (by omega) tb
          omega
theorem wy_arrange {m : Nat} (hm : m ≤ 24) {c : Nat → Nat} (hc : ∀ j, j < m → c j < 4096) (inj : ∀ i j, i < j → j < m → c i ≠ c j) (ho : ∀ i j, 0 < i → i < j → j < m → 0 < ge_cr (wk_pt (c 0)) (wk_pt (c i)) (wk_pt (c j))) {x1 : Int32} (hx : 0 < m → x1 = nI (c 0)) {t : Nat → Nat} (T : wy_pm m t) (hl : ∀ p, p < m → a_list p = nI (c (t p))) {post : SY → Prop} (hp : ∀ list, (∀ p, p < m → list p = nI (c p)) → post (nI m, a_spots, a_left, list)) : wpY_arrange post (nI m, a_spots, a_left, a_list) x1 := by
  have A : ∀ (d i N : Nat) (t : Nat → Nat) (list : Nat → Int32), i + d = m → d < N → wy_pm m t → (∀ p, p < m → list p = nI (c (t p))) → (∀ p, p < i → t p = p) → wY_arrange_2 post x1 (nI m) N (nI i) a_spots a_left list := by
    intro d
    induction d with
    | zero =>
      intro i N t list hi hN T hl lo
      obtain ⟨N, rfl⟩ : ∃ M, N = M + 1 := ⟨N - 1, by omega⟩
      rw [wY_arrange_2]
      exact br_t (nI_le (by omega) (by omega)) (hp list fun p h => by rw [hl p h, lo p (by omega)])
    | succ d ih =>
      intro i N t list hi hN T hl lo
      obtain ⟨N, rfl⟩ : ∃ M, N = M + 1 := ⟨N - 1, by omega⟩
      rw [wY_arrange_2]
      have en : nI m - 1 = nI (m - 1) := by
        obtain ⟨k, rfl⟩ : ∃ k, m = k + 1 := ⟨m - 1, by omega⟩
        exact nI_pred k
      refine br_f (nI_ge (by omega) (by omega)) (nm_r en ⟨m, ?_⟩)
      rw [hx (by omega)] at ih ⊢
      refine wy_arr17 hm hc inj ho (by omega) (fun t' list' T' hl' lo' => ih (i + 1) N t' list' (by omega) (by omega) T' hl' lo') (m - 1 - i) (m - 1) m t list (by omega) (by omega) (by omega) T hl lo (fun p p1 p2 => ?_)
      rw [show p = m - 1 by omega]
      exact Nat.le_refl _
  unfold wpY_arrange
  exact ⟨m + 1, A m 0 (m + 1) t a_list (by omega) (by omega) T hl (fun p h => absurd h (by omega))⟩
/-- the corners are listed -/
theorem wy_find90 {L : Nat → Bool} {v : Nat → Nat} (F : wy_LF L v a_spots a_left) {x1 : Int32} {post : SY → Prop} (hp : ∀ (M : Nat) (w : Nat → Nat) (list : Nat → Int32), M ≤ 24 → (∀ i, i < M → list i = nI (w i) ∧ ∃ j, j < 24 ∧ L j = true ∧ wy_IC L v j ∧ w i = v j) → (∀ j, j < 24 → L j = true → wy_IC L v j → ∃ i, i < M ∧ w i = v j) → (∀ i j, i < j → j < M → w i ≠ w j) → wpY_arrange post (nI M, a_spots, a_left, list) x1) : ∀ (d k N M : Nat) (w : Nat → Nat) (list : Nat → Int32), k + d = 24 → d < N → M ≤ k → (∀ i, i < M → list i = nI (w i) ∧ ∃ j, j < k ∧ L j = true ∧ wy_IC L v j ∧ w i = v j) → (∀ j, j < k → L j = true → wy_IC L v j → ∃ i, i < M ∧ w i = v j) → (∀ i j, i < j → j < M → w i ≠ w j) → wY_findCorners_90 post x1 N (nI k) (nI M) a_spots a_left list := by
  intro d
  induction d with
  | zero =>
    intro k N M w list hk hN hM h1 h2 h3
    obtain ⟨N, rfl⟩ : ∃ M, N = M + 1 := ⟨N - 1, by omega⟩
    have e : k = 24 := by omega
    subst e
    rw [wY_findCorners_90]
    exact br_t (nI_le (a := 24) (by omega) (by omega)) (hp M w list hM h1 h2 h3)
  | succ d ih =>
    intro k N M w list hk hN hM h1 h2 h3
    obtain ⟨N, rfl⟩ : ∃ M, N = M + 1 := ⟨N - 1, by omega⟩
    obtain ⟨k1, k2⟩ := F k (by omega)
    have skip : ¬ (L k = true ∧ wy_IC L v k) → ∀ x2, x2 = nI k + 1 → wY_findCorners_90 post x1 N x2 (nI M) a_spots a_left list := fun n => nm_r (nI_1 k) (ih (k + 1) N M w list (by omega) (by omega) (by omega) (fun i hi => ⟨(h1 i hi).1, by
        obtain ⟨j, j1, j2⟩ := (h1 i hi).2
        exact ⟨j, by omega, j2⟩⟩) (fun j hj l ic => by
        by_cases e : j = k
        · subst e; exact absurd ⟨l, ic⟩ n
        · exact h2 j (by omega) l ic) h3)
    rw [wY_findCorners_90]
    refine br_f (nI_ge (b := 24) (by omega) (by omega)) ?_
    by_cases c : L k = true
    · obtain ⟨k3, k4⟩ := k2 c
      refine wy_isCorner F (by omega) c (fun ic => br_f (by decide) ?_) (fun ic => br_t rfl (skip fun z => ic z.2))
      refine ⟨vp_in_nI (by omega) (by omega), vp_in_nI (by omega) (by omega), nm_r (e' := upd list M (nI (v k))) (by rw [nI_clamp (by omega), nI_clamp (by omega), k3]; congr 1; exact nI_pred _) (nm_r (nI_1 M) (nm_r (nI_1 k) (ih (k + 1) N (M + 1) (fun i => if i = M then v k else w i) _ (by omega) (by omega) (by omega) (fun i hi => ?_) (fun j hj l icj => ?_) (fun i j a b => ?_))))⟩
      · show upd list M (nI (v k)) i = nI (if i = M then v k else w i) ∧ ∃ j, j < k + 1 ∧ L j = true ∧ wy_IC L v j ∧ (if i = M then v k else w i) = v j
        by_cases e : i = M
        · subst e
          rw [pk_us, if_pos rfl]
          exact ⟨rfl, k, by omega, c, ic, rfl⟩
        · rw [pk_un e, if_neg e]
          obtain ⟨g1, j, g2, g3⟩ := h1 i (by omega)
          exact ⟨g1, j, by omega, g3⟩
      · by_cases e : j = k
        · exact ⟨M, by omega, by show (if M = M then v k else _) = v j; rw [if_pos rfl, e]⟩
        · obtain ⟨i, i1, i2⟩ := h2 j (by omega) l icj
          exact ⟨i, by omega, by show (if i = M then _ else w i) = v j; rw [if_neg (by omega), i2]⟩
      · show (if i = M then v k else w i) ≠ (if j = M then v k else w j)
        rw [if_neg (by omega)]
        by_cases e : j = M
        · rw [if_pos e]
          obtain ⟨_, j', g2, g3, _, g5⟩ := h1 i (by omega)
          rw [g5]
          intro z
          rcases ic with q | q
          · have := q.2 j' g2
            rw [g3] at this
            exact absurd this (by decide)
          · exact q.2 j' g2 ⟨g3, z⟩
        · rw [if_neg e]; exact h3 i j a (by omega)
    · exact wy_isCorner_n F (by omega) c (br_t rfl (skip fun z => c z.1))
/-- the first corner's place -/
theorem wy_find9 {L : Nat → Bool} {v : Nat → Nat} (F : wy_LF L v a_spots a_left) {post : SY → Prop} (hp : ∀ x1, (x1 = -1 ∧ ∀ j, j < 24 → L j ≠ true) ∨ (∃ f, f < 4096 ∧ x1 = nI f ∧ (∃ j, j < 24 ∧ L j = true ∧ v j = f) ∧ ∀ j, j < 24 → L j = true → ga_kv f ≤ ga_kv (v j)) → wY_findCorners_90 post x1 25 (nI 0) f_many a_spots a_left a_list) : ∀ (d k N : Nat) (x1 : Int32), k + d = 24 → d < N → ((x1 = -1 ∧ ∀ j, j < k → L j ≠ true) ∨ (∃ f, f < 4096 ∧ x1 = nI f ∧ (∃ j, j < k ∧ L j = true ∧ v j = f) ∧ ∀ j, j < k → L j = true → ga_kv f ≤ ga_kv (v j))) → wY_findCorners_9 post f_many a_spots a_left a_list N x1 (nI k) := by
  intro d
  induction d with
  | zero =>
    intro k N x1 hk hN h
    obtain ⟨N, rfl⟩ : ∃ M, N = M + 1 := ⟨N - 1, by omega⟩
    have e : k = 24 := by omega
    subst e
    rw [wY_findCorners_9]
    exact br_t (nI_le (a := 24) (by omega) (by omega)) ⟨25, hp x1 h⟩
  | succ d ih =>
    intro k N x1 hk hN h
    obtain ⟨N, rfl⟩ : ∃ M, N = M + 1 := ⟨N - 1, by omega⟩
    obtain ⟨k1, k2⟩ := F k (by omega)
    have v24 := vp_in_nI (n := k) (N := 24) (by omega) (by omega)
    have I := ih (k + 1) N
    rw [← nI_1] at I
    rw [wY_findCorners_9]
    dsimp only
    rw [nI_clamp (show k < 2 ^ 31 by omega), k1]
    by_cases c : L k = true
    · obtain ⟨k3, k4⟩ := k2 c
      rw [if_pos c, k3]
      have take : (∀ j, j < k → L j = true → ga_kv (v k) ≤ ga_kv (v j)) → wY_findCorners_64 post (wY_findCorners_9 post f_many a_spots a_left a_list N) x1 (nI k) (nI (v k)) f_many a_spots a_left a_list := fun g => by
        unfold wY_findCorners_64 wY_findCorners_69
        exact br_f (by decide) (nm_e (I (nI (v k)) (by omega) (by omega) (Or.inr ⟨v k, k4, rfl, ⟨k, by omega, c, rfl⟩, fun j hj l => by
          by_cases e : j = k
          · rw [e]; exact Nat.le_refl _
          · exact g j (by omega) l⟩)))
      refine br_f (nI_ge (b := 24) (by omega) (by omega)) ⟨v24, nm_r (nI_pred (v k)) ⟨v24, br_f (by decide) ?_⟩⟩
      rcases h with ⟨rfl, h⟩ | ⟨f, f1, rfl, ⟨jf, f2, f3, f4⟩, f5⟩
      · exact br_t (by decide) (take fun j hj l => absurd l (h j hj))
      · have keep : ga_kv f ≤ ga_kv (v k) → wY_findCorners_68 post (wY_findCorners_9 post f_many a_spots a_left a_list N) (nI f) (nI k) (nI (v k)) f_many a_spots a_left a_list := fun g => by
          unfold wY_findCorners_68 wY_findCorners_69
          exact br_t rfl (nm_e (I (nI f) (by omega) (by omega) (Or.inr ⟨f, f1, rfl, ⟨jf, by omega, f3, f4⟩, fun j hj l => by
            by_cases e : j = k
            · rw [e]; exact g
            · exact f5 j (by omega) l⟩)))
        have take' : ga_kv (v k) ≤ ga_kv f → wY_findCorners_64 post (wY_findCorners_9 post f_many a_spots a_left a_list N) (nI f) (nI k) (nI (v k)) f_many a_spots a_left a_list := fun g => take fun j hj l => Nat.le_trans g (f5 j hj l)
        rw [wk_r64 (by omega), wk_r64 (by omega)]
        refine br_f (nI_pos (by omega)) ⟨wk_64, wk_64, pk_lt (v k % 64) (f % 64) (fun z => take' ?_) (fun z => ⟨wk_64, wk_64, pk_eq (v k % 64) (f % 64) (fun y => pk_le f (v k) (fun x => keep ?_) (fun x => take' ?_)) (fun y => keep ?_)⟩)⟩
        · unfold ga_kv; omega
        · unfold ga_kv; omega
        · unfold ga_kv; omega
        · unfold ga_kv; omega
    · rw [if_neg c]
      refine br_f (nI_ge (b := 24) (by omega) (by omega)) ⟨v24, nm_e ⟨v24, br_t rfl ?_⟩⟩
      unfold wY_findCorners_68 wY_findCorners_69
      refine br_t rfl (nm_e (I x1 (by omega) (by omega) ?_))
      rcases h with ⟨e, h⟩ | ⟨f, f1, f2, ⟨jf, f3, f4⟩, f5⟩
      · exact Or.inl ⟨e, lt_s h c⟩
      · refine Or.inr ⟨f, f1, f2, ⟨jf, by omega, f4⟩, fun j hj l => ?_⟩
        by_cases e : j = k
        · rw [e] at l; exact absurd l c
        · exact f5 j (by omega) l
end
end
section
/-! the reference: look gives the same hull -/
theorem ge_free_ex {S : Int × Int → Prop} (hb : ge_bd S) {p q : Int × Int} (hp : S p) (hq : S q) (hn : p ≠ q) (h : ∀ r, S r → 0 < ge_cr p q r ∨ (ge_cr p q r = 0 ∧ 0 ≤ ge_dt p q r)) : ge_ex S p := by
  refine ⟨fun r => 100000 * ge_cr p q r + ge_dt p q r, ge_af_add (ge_af_mul _ (ge_af_cr p q)) (ge_af_dt p q), ?_, fun r hr hne => ?_⟩
  · have := ge_cr1 p q
    have := ge_dt1 p q
    show 100000 * ge_cr p q p + ge_dt p q p = 0
    omega
  · have B := ge_dtb hb hp hq hr
    show 0 < 100000 * ge_cr p q r + ge_dt p q r
    rcases h r hr with c | ⟨c, d⟩
    · omega
    · have : ge_dt p q r ≠ 0 := fun z => hne (ge_eq0 hn c z)
      omega
theorem wy_cho {Q : Nat → Nat → Prop} {m : Nat} (h : ∀ i, i < m → ∃ j, Q i j) : ∃ f : Nat → Nat, ∀ i, i < m → Q i (f i) := by
  refine ⟨fun i => if q : i < m then Classical.choose (h i q) else 0, fun i hi => ?_⟩
  have := Classical.choose_spec (h i hi)
  dsimp only
  rw [dif_pos hi]
  exact this
theorem wy_kv (v : Nat) : ge_key (wk_pt v) = (ga_kv v : Int) := by
  unfold ge_key wk_pt ga_kv
  show 64 * ((v % 64 : Nat) : Int) + ((v / 64 : Nat) : Int) = ((v % 64 * 64 + v / 64 : Nat) : Int)
  omega
theorem wy_icv {L : Nat → Bool} {v : Nat → Nat} (hv : ∀ k, k < 24 → L k = true → v k < 4096) {m : Nat} {h : Nat → Int × Int} (H : hu_H (wy_S L v) m h) {k : Nat} (hk : k < 24) (Lk : L k = true) (ic : wy_IC L v k) : ∃ i, i < m ∧ h i = wk_pt (v k) := by
  have Sk : wy_S L v (wk_pt (v k)) := ⟨k, hk, Lk, rfl⟩
  rcases H with ⟨_, s⟩ | ⟨e, s⟩ | ⟨C, s⟩
  · exact absurd Sk (s _)
  · exact ⟨0, by omega, ((s _).mp Sk).symm⟩
  · rcases ic with a | f
    · exfalso
      have al : ∀ r, wy_S L v r → r = wk_pt (v k) := by
        rintro r ⟨j, j1, j2, e⟩
        rw [← e, a.1 j j1 j2]
      exact C.2.2.2 0 1 (by omega) (by have := C.1; omega) ((al _ (ge_ch_S C 0)).trans (al _ (ge_ch_S C 1)).symm)
    · obtain ⟨⟨j, j1, j2, j3, j4⟩, _⟩ := f
      have B := wy_Sb hv
      have ex := ge_free_ex B Sk (q := wk_pt (v j)) ⟨j, j1, j2, rfl⟩ (fun z => j3 (wk_pt_inj z).symm) (by
        rintro r ⟨i, i1, i2, e⟩
        rw [← e]
        exact j4 i i1 i2)
      exact ge_isv C B Sk ex
theorem wy_vic {L : Nat → Bool} {v : Nat → Nat} {m : Nat} {h : Nat → Int × Int} (H : hu_H (wy_S L v) m h) {i : Nat} (hi : i < m) : ∃ k, k < 24 ∧ L k = true ∧ wy_IC L v k ∧ wk_pt (v k) = h i := by
  have Si : wy_S L v (h i) := by
    rcases H with ⟨e, _⟩ | ⟨e, s⟩ | ⟨C, _⟩
    · omega
    · rw [show i = 0 by omega]; exact (s _).mpr rfl
    · exact ge_ch_S C i
  obtain ⟨k, ⟨k1, k2, k3⟩, mn⟩ := pk_least (fun k => k < 24 ∧ L k = true ∧ wk_pt (v k) = h i) Si
  refine ⟨k, k1, k2, ?_, k3⟩
  rcases H with ⟨e, _⟩ | ⟨e, s⟩ | ⟨C, _⟩
  · omega
  · have i0 : i = 0 := by omega
    subst i0
    refine Or.inl ⟨fun j j1 j2 => wk_pt_inj ?_, fun j hj => ?_⟩
    · rw [k3]; exact (s _).mp ⟨j, j1, j2, rfl⟩
    · apply Classical.byContradiction
      intro z
      have z' : L j = true := by simpa using z
      exact mn j hj ⟨by omega, z', (s _).mp ⟨j, by omega, z', rfl⟩⟩
  · have N := C.2.2.1 i
    obtain ⟨j, j1, j2, j3⟩ := ge_ch_S C (i + 1)
    refine Or.inr ⟨⟨j, j1, j2, fun z => N.2.2.1 (by rw [← k3, ← j3, z]), fun r r1 r2 => ?_⟩, fun r hr z => mn r hr ⟨by omega, z.1, by rw [z.2, k3]⟩⟩
    rw [k3, j3]
    rcases N.2.2.2 (wk_pt (v r)) ⟨r, r1, r2, rfl⟩ with c | ⟨c, d, _⟩
    · exact Or.inl c
    · exact Or.inr ⟨c, d⟩
section
variable {f_many : Int32} {a_spots a_left a_list : Nat → Int32}
theorem wy_find {L : Nat → Bool} {v : Nat → Nat} (F : wy_LF L v a_spots a_left) {m : Nat} {h : Nat → Int × Int} (H : hu_H (wy_S L v) m h) {post : SY → Prop} (hp : ∀ (list : Nat → Int32) (c : Nat → Nat), m ≤ 24 → (∀ i, i < m → list i = nI (c i) ∧ c i < 4096 ∧ wk_pt (c i) = h i) → post (nI m, a_spots, a_left, list)) : wpY_findCorners post (f_many, a_spots, a_left, a_list) := by
  have hv : ∀ k, k < 24 → L k = true → v k < 4096 := fun k k1 k2 => ((F k k1).2 k2).2
  have B := wy_Sb hv
  unfold wpY_findCorners
  refine ⟨25, wy_find9 F (fun x1 hx => ?_) 24 0 25 (-1) (by omega) (by omega) (Or.inl ⟨rfl, fun j hj => absurd hj (by omega)⟩)⟩
  refine wy_find90 F (fun M w list hM h1 h2 h3 => ?_) 24 0 25 0 (fun _ => 0) a_list (by omega) (by omega) (by omega) (fun i hi => absurd hi (by omega)) (fun j hj => absurd hj (by omega)) (fun i j _ hj => absurd hj (by omega))
  obtain ⟨kk, hkk⟩ : ∃ kk : Nat → Nat, ∀ i, i < m → kk i < 24 ∧ L (kk i) = true ∧ wy_IC L v (kk i) ∧ wk_pt (v (kk i)) = h i :=
    wy_cho fun i hi => wy_vic H hi
  obtain ⟨t, ht⟩ : ∃ t : Nat → Nat, ∀ i, i < M → t i < m ∧ h (t i) = wk_pt (w i) := wy_cho (Q := fun i j => j < m ∧ h j = wk_pt (w i)) fun i hi => by
    obtain ⟨_, j, j1, j2, j3, j4⟩ := h1 i hi
    rw [j4]; exact wy_icv hv H j1 j2 j3
  have hinj : ∀ i j, i < j → j < m → h i ≠ h j := fun i j a b => by
    rcases H with ⟨e, _⟩ | ⟨e, s⟩ | ⟨C, _⟩
    · omega
    · omega
    · exact C.2.2.2 i j a (by omega)
  have tinj : ∀ i j, i < j → j < M → t i ≠ t j := fun i j a b e => by
    have x := (ht i (by omega)).2
    rw [e, (ht j b).2] at x
    exact h3 i j a b (wk_pt_inj x.symm)
  have tsur : ∀ k, k < m → ∃ p, p < M ∧ t p = k := fun k hk => by
    obtain ⟨k1, k2, k3, k4⟩ := hkk k hk
    obtain ⟨i, i1, i2⟩ := h2 _ k1 k2 k3
    refine ⟨i, i1, ?_⟩
    have x := ht i i1
    rw [i2, k4] at x
    rcases Nat.lt_trichotomy (t i) k with c | c | c
    · exact absurd x.2 (hinj _ _ c hk)
    · exact c
    · exact absurd x.2.symm (hinj _ _ c x.1)
  have l1 : M ≤ m := hu_inj_le M m t (fun i hi => (ht i hi).1) tinj
  have l2 : m ≤ M := by
    obtain ⟨u, hu⟩ : ∃ u : Nat → Nat, ∀ k, k < m → u k < M ∧ t (u k) = k := wy_cho tsur
    refine hu_inj_le m M u (fun k hk => (hu k hk).1) (fun i j a b e => ?_)
    have x := (hu i (by omega)).2
    rw [e, (hu j b).2] at x
    omega
  have eM : M = m := by omega
  subst eM
  have ck : ∀ i, i < M → v (kk i) < 4096 := fun i hi => hv _ (hkk i hi).1 (hkk i hi).2.1
  refine wy_arrange (c := fun i => v (kk i)) hM ck (fun i j a b e => ?_) (fun i j a b c => ?_) (fun m0 => ?_) ⟨fun p hp => (ht p hp).1, tinj, tsur⟩ (fun p hp => ?_) (fun list' hl => hp list' (fun i => v (kk i)) hM (fun i hi => ⟨hl i hi, ck i hi, (hkk i hi).2.2.2⟩))
  · have x := (hkk i (by omega)).2.2.2
    have y := (hkk j b).2.2.2
    have e' : v (kk i) = v (kk j) := e
    rw [e', y] at x
    exact hinj i j a b x.symm
  · show 0 < ge_cr (wk_pt (v (kk 0))) (wk_pt (v (kk i))) (wk_pt (v (kk j)))
    rw [(hkk 0 (by omega)).2.2.2, (hkk i (by omega)).2.2.2, (hkk j c).2.2.2]
    rcases H with ⟨e, _⟩ | ⟨e, s⟩ | ⟨C, _⟩
    · omega
    · omega
    · exact ge_tri C B a b (by omega)
  · show x1 = nI (v (kk 0))
    obtain ⟨k1, k2, k3, k4⟩ := hkk 0 m0
    rcases hx with ⟨_, z⟩ | ⟨f, f1, rfl, ⟨j, j1, j2, j3⟩, f3⟩
    · exact absurd k2 (z _ k1)
    · congr 1
      apply wk_pt_inj
      rw [k4]
      have Sf : wy_S L v (wk_pt f) := ⟨j, j1, j2, by rw [j3]⟩
      rcases H with ⟨e, _⟩ | ⟨e, s⟩ | ⟨C, s⟩
      · omega
      · exact (s _).mp Sf
      · refine ge_key_inj B Sf (ge_ch_S C 0) ?_
        have a := s _ Sf
        have b := f3 _ k1 k2
        rw [← k4, wy_kv, wy_kv] at a ⊢
        omega
  · rw [(h1 p hp).1]
    congr 1
    apply wk_pt_inj
    rw [← (ht p hp).2]
    exact (hkk _ (ht p hp).1).2.2.2.symm
/-- what look needs of the spots -/
def wy_SP (B : Nat → Bool) (v : Nat → Nat) (a_spots : Nat → Int32) : Prop :=
  ∀ k, k < 24 → (B k = true → a_spots k = nI (v k + 1) ∧ v k < 4096) ∧ (B k ≠ true → a_spots k = 0)
theorem wy_isB {B : Nat → Bool} {v : Nat → Nat} (SP : wy_SP B v a_spots) {k : Nat} (hk : k < 24) {post : Int32 → Prop} (h1 : B k = true → post 1) (h0 : B k ≠ true → post 0) : wpY_is post (f_many, a_spots, a_left, a_list) (nI k) := by
  obtain ⟨s1, s2⟩ := SP k hk
  refine wy_is hk (fun z => h0 fun b => ?_) (fun z => h1 ?_)
  · obtain ⟨s3, s4⟩ := s1 b
    rw [s3] at z
    exact nI_ne0 (by omega) (by omega) z
  · apply Classical.byContradiction
    intro b
    exact z (s2 b)
theorem wy_look {B : Nat → Bool} {v : Nat → Nat} (SP : wy_SP B v a_spots) {m : Nat} {h : Nat → Int × Int} (H : hu_H (wy_S B v) m h) {post : SY → Prop} (hp : ∀ (left list : Nat → Int32) (c : Nat → Nat), m ≤ 24 → wy_LF B v a_spots left → (∀ i, i < m → list i = nI (c i) ∧ c i < 4096 ∧ wk_pt (c i) = h i) → post (nI m, a_spots, left, list)) : wpY_look post (f_many, a_spots, a_left, a_list) := by
  have A : ∀ (d i N : Nat) (left : Nat → Int32), i + d = 24 → d < N → (∀ j, j < i → left j = (if B j = true then 1 else 0)) → wY_look_2 post f_many N (nI i) a_spots left a_list := by
    intro d
    induction d with
    | zero =>
      intro i N left hi hN hl
      obtain ⟨N, rfl⟩ : ∃ M, N = M + 1 := ⟨N - 1, by omega⟩
      have e : i = 24 := by omega
      subst e
      have F : wy_LF B v a_spots left := fun k hk => ⟨hl k hk, (SP k hk).1⟩
      rw [wY_look_2]
      refine br_t (nI_le (a := 24) (by omega) (by omega)) (wy_find F H fun list c hm hc => ?_)
      exact hp left list c hm F hc
    | succ d ih =>
      intro i N left hi hN hl
      obtain ⟨N, rfl⟩ : ∃ M, N = M + 1 := ⟨N - 1, by omega⟩
      have v24 := vp_in_nI (n := i) (N := 24) (by omega) (by omega)
      have go : ∀ z : Int32, z = (if B i = true then 1 else 0) → wY_look_2 post f_many N (nI i + 1) a_spots (upd left i z) a_list := fun z hz => by
        rw [nI_1]
        refine ih (i + 1) N _ (by omega) (by omega) fun j hj => ?_
        by_cases e : j = i
        · subst e; rw [pk_us, hz]
        · rw [pk_un e]; exact hl j (by omega)
      rw [wY_look_2]
      dsimp only
      rw [nI_clamp (show i < 2 ^ 31 by omega)]
      refine br_f (nI_ge (b := 24) (by omega) (by omega)) (wy_isB SP (by omega) (fun b => ⟨v24, ?_⟩) (fun b => ⟨v24, ?_⟩))
      · rw [wk_f1]
        exact nm_e (nm_e (go 1 (by rw [if_pos b])))
      · rw [wk_f0]
        exact nm_e (nm_e (go 0 (by rw [if_neg b])))
  unfold wpY_look
  exact ⟨25, A 24 0 25 a_left (by omega) (by omega) (fun j hj => absurd hj (by omega))⟩
end
end
section
/-! the relation, and the calls on points -/
def rl_R (pr : Int32) (po sp : Nat → Int32) : Prop :=
  (∀ k, 24 ≤ k → k < 32 → bt pr k = false) ∧ ∃ v : Nat → Nat, ∀ k, k < 24 → (bt pr k = true → po k = nI (v k) ∧ sp k = nI (v k + 1) ∧ v k < 4096) ∧ (bt pr k = false → sp k = 0)
def i_Rel (k : Nat) (u : SX) (v : SY) : Prop := rl_R u.1 u.2.2.2.2.2.1 v.2.1
theorem i_up {k : Nat} {u : SX} {v : SY} (h : i_Rel k u v) : i_Rel (k + 3) u v := h
theorem i_vc0 : wpX_init (fun u => wpY_init (fun v => i_Rel 0 u v)) := by
  unfold wpX_init wpY_init
  exact ⟨fun k _ _ => b_0 k, fun _ => 0, fun k _ => ⟨fun z => by
    have z' : bt 0 k = true := z
    rw [b_0] at z'
    exact absurd z' (by decide), fun _ => rfl⟩⟩
section
variable {f_present f_count f_size f_keptSize f_waiting : Int32} {a_placeOf a_x a_y a_hull a_kept a_found a_order a_waitA a_waitB a_nextLow a_beforeLow a_nextHigh a_beforeHigh : Nat → Int32} {f_many : Int32} {a_spots a_left a_list : Nat → Int32}
theorem rx_add {p : Nat} (hp : p < 4096) {post : Int32 → SX → Prop} (h1 : ∀ f, f < 24 → bt f_present f = false → (∀ j, j < f → bt f_present j = true) → post (nI f) (f_present ||| ((1 : Int32) <<< (nI f &&& 31)), f_count, f_size, f_keptSize, f_waiting, upd a_placeOf f (nI p), a_x, a_y, a_hull, a_kept, a_found, a_order, a_waitA, a_waitB, a_nextLow, a_beforeLow, a_nextHigh, a_beforeHigh)) (h2 : (∀ j, j < 24 → bt f_present j = true) → post (-20000) (f_present, f_count, f_size, f_keptSize, f_waiting, a_placeOf, a_x, a_y, a_hull, a_kept, a_found, a_order, a_waitA, a_waitB, a_nextLow, a_beforeLow, a_nextHigh, a_beforeHigh)) : wpX_add post (f_present, f_count, f_size, f_keptSize, f_waiting, a_placeOf, a_x, a_y, a_hull, a_kept, a_found, a_order, a_waitA, a_waitB, a_nextLow, a_beforeLow, a_nextHigh, a_beforeHigh) (nI p) := by
  have A : ∀ (d i N : Nat), i + d = 24 → d < N → (∀ j, j < i → bt f_present j = true) → wX_add_13 post (nI p) f_present f_count f_size f_keptSize f_waiting a_placeOf a_x a_y a_hull a_kept a_found a_order a_waitA a_waitB a_nextLow a_beforeLow a_nextHigh a_beforeHigh N (nI i) := by
    intro d
    induction d with
    | zero =>
      intro i N hi hN h
      obtain ⟨N, rfl⟩ : ∃ M, N = M + 1 := ⟨N - 1, by omega⟩
      have e : i = 24 := by omega
      subst e
      rw [wX_add_13]
      exact br_t (nI_le (a := 24) (by omega) (by omega)) (h2 h)
    | succ d ih =>
      intro i N hi hN h
      obtain ⟨N, rfl⟩ : ∃ M, N = M + 1 := ⟨N - 1, by omega⟩
      rw [wX_add_13]
      refine br_f (nI_ge (b := 24) (by omega) (by omega)) (wx_has (by omega) (fun b => br_t rfl ?_) (fun b => br_f (by decide) ?_))
      · exact nm_e ⟨vp_in_nI (by omega) (by omega), nm_r (e' := upd a_placeOf i (nI p)) (by rw [nI_clamp (by omega), wk_ns (by omega)]) (h1 i (by omega) b h)⟩
      · exact nm_r (nI_1 i) (ih (i + 1) N (by omega) (by omega) (lt_s h b))
  unfold wpX_add
  dsimp only
  exact wx_isPlace hp (br_f (by decide) ⟨25, A 24 0 25 (by omega) (by omega) (fun j hj => absurd hj (by omega))⟩)
theorem ry_add {p f : Nat} (hp : p < 4096) (hf : f < 24) (h0 : a_spots f = 0) (hl : ∀ j, j < f → a_spots j ≠ 0) {post : Int32 → SY → Prop} (h : post (nI f) (f_many, upd a_spots f (nI (p + 1)), a_left, a_list)) : wpY_add post (f_many, a_spots, a_left, a_list) (nI p) := by
  have A : ∀ (d i N : Nat), i + d = f → d < N → wY_add_14 post (nI p) f_many a_spots a_left a_list N (nI i) := by
    intro d
    induction d with
    | zero =>
      intro i N hi hN
      obtain ⟨N, rfl⟩ : ∃ M, N = M + 1 := ⟨N - 1, by omega⟩
      have e : i = f := by omega
      subst e
      rw [wY_add_14]
      dsimp only
      rw [nI_clamp (show i < 2 ^ 31 by omega), nI_1]
      have v := vp_in_nI (n := i) (N := 24) (by omega) (by omega)
      exact br_f (nI_ge (b := 24) (by omega) (by omega)) ⟨v, br_t h0 ⟨v, nm_e h⟩⟩
    | succ d ih =>
      intro i N hi hN
      obtain ⟨N, rfl⟩ : ∃ M, N = M + 1 := ⟨N - 1, by omega⟩
      rw [wY_add_14]
      dsimp only
      rw [nI_clamp (show i < 2 ^ 31 by omega)]
      have v := vp_in_nI (n := i) (N := 24) (by omega) (by omega)
      exact br_f (nI_ge (b := 24) (by omega) (by omega)) ⟨v, br_f (hl i (by omega)) (nm_r (nI_1 i) (ih (i + 1) N (by omega) (by omega)))⟩
  unfold wpY_add
  dsimp only
  exact wy_isPlace hp (br_f (by decide) ⟨f + 1, A f 0 (f + 1) (by omega) (by omega)⟩)
theorem ry_addn {p : Nat} (hp : p < 4096) (hl : ∀ j, j < 24 → a_spots j ≠ 0) {post : Int32 → SY → Prop} (h : post (-20000) (f_many, a_spots, a_left, a_list)) : wpY_add post (f_many, a_spots, a_left, a_list) (nI p) := by
  have A : ∀ (d i N : Nat), i + d = 24 → d < N → wY_add_14 post (nI p) f_many a_spots a_left a_list N (nI i) := by
    intro d
    induction d with
    | zero =>
      intro i N hi hN
      obtain ⟨N, rfl⟩ : ∃ M, N = M + 1 := ⟨N - 1, by omega⟩
      have e : i = 24 := by omega
      subst e
      rw [wY_add_14]
      exact br_t (nI_le (a := 24) (by omega) (by omega)) h
    | succ d ih =>
      intro i N hi hN
      obtain ⟨N, rfl⟩ : ∃ M, N = M + 1 := ⟨N - 1, by omega⟩
      rw [wY_add_14]
      dsimp only
      rw [nI_clamp (show i < 2 ^ 31 by omega)]
      have v := vp_in_nI (n := i) (N := 24) (by omega) (by omega)
      exact br_f (nI_ge (b := 24) (by omega) (by omega)) ⟨v, br_f (hl i (by omega)) (nm_r (nI_1 i) (ih (i + 1) N (by omega) (by omega)))⟩
  unfold wpY_add
  dsimp only
  exact wy_isPlace hp (br_f (by decide) ⟨25, A 24 0 25 (by omega) (by omega)⟩)
theorem rl_nz {pr : Int32} {po sp : Nat → Int32} {v : Nat → Nat} (R : ∀ k, k < 24 → (bt pr k = true → po k = nI (v k) ∧ sp k = nI (v k + 1) ∧ v k < 4096) ∧ (bt pr k = false → sp k = 0)) {k : Nat} (hk : k < 24) (b : bt pr k = true) : sp k ≠ 0 := by
  obtain ⟨_, s, l⟩ := (R k hk).1 b
  rw [s]
  exact nI_ne0 (by omega) (by omega)
/-- an int is a place, or not -/
theorem rl_pl (x : Int32) (n : Nat) (hn : n < 2 ^ 31) : (x < 0 ∨ nI n ≤ x) ∨ ∃ p, p < n ∧ x = nI p := by
  rcases pk_ix x hn with h | h | h
  · exact Or.inl (Or.inl h)
  · exact Or.inl (Or.inr h)
  · exact Or.inr h
end
theorem i_vc_add {k : Nat} {u : SX} {v : SY} (I : i_Rel k u v) (hk : k + 3 ≤ 1536) (v1 : Int32) : wpX_add (fun r u' => wpY_add (fun r' v' => r' = r ∧ i_Rel (k + 3) u' v') v v1) u v1 := by
  obtain ⟨f_present, f_count, f_size, f_keptSize, f_waiting, a_placeOf, a_x, a_y, a_hull, a_kept, a_found, a_order, a_waitA, a_waitB, a_nextLow, a_beforeLow, a_nextHigh, a_beforeHigh⟩ := u
  obtain ⟨f_many, a_spots, a_left, a_list⟩ := v
  have I' : rl_R f_present a_placeOf a_spots := I
  obtain ⟨hi, v, R⟩ := I'
  rcases rl_pl v1 4096 (by omega) with h | ⟨p, hp, rfl⟩
  · unfold wpX_add
    dsimp only
    refine wx_isPlacen h (br_t rfl ?_)
    unfold wpY_add
    dsimp only
    exact wy_isPlacen h (br_t rfl ⟨rfl, I⟩)
  · refine rx_add hp (fun f hf b bl => ?_) (fun b => ?_)
    · refine ry_add hp hf ((R f hf).2 b) (fun j hj => rl_nz R (by omega) (bl j hj)) ⟨rfl, ?_⟩
      show rl_R (f_present ||| ((1 : Int32) <<< (nI f &&& 31))) (upd a_placeOf f (nI p)) (upd a_spots f (nI (p + 1)))
      refine ⟨fun j j1 j2 => ?_, fun j => if j = f then p else v j, fun j hj => ?_⟩
      · rw [wk_seto _ (by omega) j2, hi j j1 j2]
        simp
        omega
      · rw [wk_seto _ (by omega) (by omega)]
        show ((bt f_present j || decide (j = f)) = true → upd a_placeOf f (nI p) j = nI (if j = f then p else v j) ∧ upd a_spots f (nI (p + 1)) j = nI ((if j = f then p else v j) + 1) ∧ (if j = f then p else v j) < 4096) ∧ ((bt f_present j || decide (j = f)) = false → upd a_spots f (nI (p + 1)) j = 0)
        by_cases e : j = f
        · subst e
          rw [if_pos rfl, pk_us, pk_us]
          exact ⟨fun _ => ⟨rfl, rfl, hp⟩, fun z => by simp at z⟩
        · rw [if_neg e, pk_un e, pk_un e]
          simp only [e, decide_false, Bool.or_false]
          exact R j hj
    · exact ry_addn hp (fun j hj => rl_nz R hj (b j hj)) ⟨rfl, I⟩
theorem i_vc_remove {k : Nat} {u : SX} {v : SY} (I : i_Rel k u v) (hk : k + 3 ≤ 1536) (v1 : Int32) : wpX_remove (fun r u' => wpY_remove (fun r' v' => r' = r ∧ i_Rel (k + 3) u' v') v v1) u v1 := by
  obtain ⟨f_present, f_count, f_size, f_keptSize, f_waiting, a_placeOf, a_x, a_y, a_hull, a_kept, a_found, a_order, a_waitA, a_waitB, a_nextLow, a_beforeLow, a_nextHigh, a_beforeHigh⟩ := u
  obtain ⟨f_many, a_spots, a_left, a_list⟩ := v
  have I' : rl_R f_present a_placeOf a_spots := I
  obtain ⟨hi, v, R⟩ := I'
  unfold wpX_remove
  dsimp only
  rcases rl_pl v1 24 (by omega) with h | ⟨p, hp, rfl⟩
  · refine wx_hasn h (br_t rfl ?_)
    unfold wpY_remove
    dsimp only
    exact wy_isn h (br_t rfl ⟨rfl, I⟩)
  · refine wx_has hp (fun b => br_t rfl ?_) (fun b => br_f (by decide) ?_)
    · unfold wpY_remove
      dsimp only
      exact wy_is hp (fun _ => br_t rfl ⟨rfl, I⟩) (fun z => absurd ((R p hp).2 b) z)
    · obtain ⟨s1, s2, s3⟩ := (R p hp).1 b
      have vp := vp_in_nI (n := p) (N := 24) hp (by omega)
      refine nm_e ⟨vp, ?_⟩
      unfold wpY_remove
      dsimp only
      refine wy_is hp (fun z => absurd z (rl_nz R hp b)) (fun _ => br_f (by decide) ?_)
      rw [nI_clamp (show p < 2 ^ 31 by omega), s1, s2]
      refine ⟨vp, nm_r (nI_pred (v p)) ⟨vp, nm_e ⟨rfl, ?_⟩⟩⟩
      show rl_R (f_present &&& (((1 : Int32) <<< (nI p &&& 31)) ^^^ (-1))) a_placeOf (upd a_spots p 0)
      refine ⟨fun j j1 j2 => ?_, v, fun j hj => ?_⟩
      · rw [wk_clr _ (by omega) j2, hi j j1 j2]; rfl
      · rw [wk_clr _ (by omega) (by omega)]
        by_cases e : j = p
        · subst e
          rw [pk_us]
          exact ⟨fun z => by simp at z, fun _ => rfl⟩
        · rw [pk_un e]
          simp only [e, decide_false, Bool.not_false, Bool.and_true]
          exact R j hj
theorem rl_SP {pr : Int32} {po sp : Nat → Int32} {v : Nat → Nat} (R : ∀ k, k < 24 → (bt pr k = true → po k = nI (v k) ∧ sp k = nI (v k + 1) ∧ v k < 4096) ∧ (bt pr k = false → sp k = 0)) : wy_SP (bt pr) v sp := fun k hk => ⟨fun b => ((R k hk).1 b).2, fun b => (R k hk).2 (by simpa using b)⟩
theorem ry_points {pr : Int32} {v : Nat → Nat} {f_many : Int32} {a_spots a_left a_list : Nat → Int32} (SP : wy_SP (bt pr) v a_spots) (hi : ∀ k, 24 ≤ k → k < 32 → bt pr k = false) {post : Int32 → Prop} (h : post pr) : wpY_points post (f_many, a_spots, a_left, a_list) := by
  have A : ∀ (d i N : Nat) (x : Int32), i + d = 24 → d < N → (∀ j, j < 32 → bt x j = (decide (j < i) && bt pr j)) → wY_points_4 post f_many a_spots a_left a_list N x (nI i) := by
    intro d
    induction d with
    | zero =>
      intro i N x hi' hN hx
      obtain ⟨N, rfl⟩ : ∃ M, N = M + 1 := ⟨N - 1, by omega⟩
      have e : i = 24 := by omega
      subst e
      rw [wY_points_4]
      have ex : x = pr := by
        apply b_ext
        intro j hj
        rw [hx j hj]
        by_cases c : j < 24
        · simp [c]
        · rw [hi j (by omega) hj]; simp
      exact br_t (nI_le (a := 24) (by omega) (by omega)) (ex ▸ h)
    | succ d ih =>
      intro i N x hi' hN hx
      obtain ⟨N, rfl⟩ : ∃ M, N = M + 1 := ⟨N - 1, by omega⟩
      rw [wY_points_4]
      refine br_f (nI_ge (b := 24) (by omega) (by omega)) (wy_isB SP (by omega) (fun b => br_f (by decide) ?_) (fun b => br_t rfl ?_))
      · refine nm_e (nm_r (nI_1 i) (ih (i + 1) N _ (by omega) (by omega) fun j hj => ?_))
        rw [wk_seto x (by omega) hj, hx j hj]
        by_cases c : j = i
        · subst c; simp [b]
        · by_cases c2 : j < i
          · simp [c2, show j < i + 1 by omega, c]
          · simp [c2, show ¬ j < i + 1 by omega, c]
      · refine nm_r (nI_1 i) (ih (i + 1) N _ (by omega) (by omega) fun j hj => ?_)
        rw [hx j hj]
        by_cases c : j = i
        · subst c
          have : bt pr j = false := by simpa using b
          rw [this]; simp
        · by_cases c2 : j < i
          · simp [c2, show j < i + 1 by omega]
          · simp [c2, show ¬ j < i + 1 by omega]
  unfold wpY_points
  exact ⟨25, A 24 0 25 0 (by omega) (by omega) (fun j hj => by rw [b_0]; simp)⟩
theorem i_vc_points {k : Nat} {u : SX} {v : SY} (I : i_Rel k u v) (hk : k + 3 ≤ 1536) : wpX_points (fun r => wpY_points (fun r' => r' = r ∧ i_Rel (k + 3) u v) v) u := by
  obtain ⟨f_present, f_count, f_size, f_keptSize, f_waiting, a_placeOf, a_x, a_y, a_hull, a_kept, a_found, a_order, a_waitA, a_waitB, a_nextLow, a_beforeLow, a_nextHigh, a_beforeHigh⟩ := u
  obtain ⟨f_many, a_spots, a_left, a_list⟩ := v
  have I' : rl_R f_present a_placeOf a_spots := I
  obtain ⟨hi, v, R⟩ := I'
  unfold wpX_points
  dsimp only
  exact ry_points (rl_SP R) hi ⟨rfl, I⟩
end
section
/-! corners, corner, agree, area -/
theorem hu_ex0 {B : Nat → Bool} {v : Nat → Nat} (hv : ∀ k, k < 24 → B k = true → v k < 4096) : ∀ i, i ≤ 24 → (∀ r, ¬ ∃ k, k < i ∧ B k = true ∧ wk_pt (v k) = r) ∨ (∃ p, ∀ r, (∃ k, k < i ∧ B k = true ∧ wk_pt (v k) = r) ↔ r = p) ∨ (∃ m h, ge_CH (fun r => ∃ k, k < i ∧ B k = true ∧ wk_pt (v k) = r) m h) := by
  intro i
  induction i with
  | zero => exact fun _ => Or.inl fun r ⟨k, hk, _⟩ => absurd hk (by omega)
  | succ i ih =>
    intro hi
    have I := ih (by omega)
    by_cases c : B i = true ∧ ¬ ∃ k, k < i ∧ B k = true ∧ wk_pt (v k) = wk_pt (v i)
    · obtain ⟨b, nw⟩ := c
      have es : (fun r => ∃ k, k < i + 1 ∧ B k = true ∧ wk_pt (v k) = r) = ge_in (fun r => ∃ k, k < i ∧ B k = true ∧ wk_pt (v k) = r) (wk_pt (v i)) := by
        funext r
        apply propext
        constructor
        · rintro ⟨k, k1, k2, k3⟩
          by_cases e : k = i
          · subst e; exact Or.inr k3.symm
          · exact Or.inl ⟨k, by omega, k2, k3⟩
        · rintro (⟨k, k1, k2, k3⟩ | e)
          · exact ⟨k, by omega, k2, k3⟩
          · exact ⟨i, by omega, b, e.symm⟩
      have es' : ∀ r, (∃ k, k < i + 1 ∧ B k = true ∧ wk_pt (v k) = r) ↔ ge_in (fun r => ∃ k, k < i ∧ B k = true ∧ wk_pt (v k) = r) (wk_pt (v i)) r := fun r => by
        have := congrFun es r
        rw [← this]
      rw [es]
      rcases I with I | ⟨p, I⟩ | ⟨m, h, I⟩
      · refine Or.inr (Or.inl ⟨wk_pt (v i), fun r => (es' r).trans ⟨fun z => z.elim (fun w => absurd w (I r)) id, fun z => Or.inr z⟩⟩)
      · have np : p ≠ wk_pt (v i) := fun z => nw ((I _).mpr z.symm)
        refine Or.inr (Or.inr ⟨2, _, ge_two np (Or.inl ((I p).mpr rfl)) (Or.inr rfl) fun r hr => ?_⟩)
        rcases hr with hr | hr
        · have e := (I r).mp hr
          subst e
          exact ⟨ge_cr1 _ _, by rw [ge_dt1]; exact Int.le_refl _, by rw [ge_dt1]; exact ge_sqn _ _⟩
        · subst hr
          exact ⟨ge_cr2 _ _, by rw [ge_dt2]; exact ge_sqn _ _, by rw [ge_dt2]; exact Int.le_refl _⟩
      · refine Or.inr (Or.inr (ge_insE I ?_ nw))
        rintro r ⟨k, k1, k2, k3⟩
        rw [← k3]
        exact wk_pt_b (hv k (by omega) k2)
    · have es : ∀ r, (∃ k, k < i + 1 ∧ B k = true ∧ wk_pt (v k) = r) ↔ (∃ k, k < i ∧ B k = true ∧ wk_pt (v k) = r) := fun r => by
        constructor
        · rintro ⟨k, k1, k2, k3⟩
          by_cases e : k = i
          · subst e
            apply Classical.byContradiction
            intro z
            exact c ⟨k2, by rw [k3]; exact z⟩
          · exact ⟨k, by omega, k2, k3⟩
        · rintro ⟨k, k1, k2⟩
          exact ⟨k, by omega, k2⟩
      have ef : (fun r => ∃ k, k < i + 1 ∧ B k = true ∧ wk_pt (v k) = r) = (fun r => ∃ k, k < i ∧ B k = true ∧ wk_pt (v k) = r) := funext fun r => propext (es r)
      rw [ef]
      rcases I with I | ⟨p, I⟩ | I
      · exact Or.inl fun r z => I r ((es r).mp z)
      · exact Or.inr (Or.inl ⟨p, fun r => (es r).trans (I r)⟩)
      · exact Or.inr (Or.inr I)
theorem hu_ex {B : Nat → Bool} {v : Nat → Nat} (hv : ∀ k, k < 24 → B k = true → v k < 4096) : ∃ m h, hu_H (wy_S B v) m h := by
  have Bd := wy_Sb hv
  rcases hu_ex0 hv 24 (Nat.le_refl _) with I | ⟨p, I⟩ | ⟨m, h, I⟩
  · exact ⟨0, fun _ => (0, 0), Or.inl ⟨rfl, I⟩⟩
  · exact ⟨1, fun _ => p, Or.inr (Or.inl ⟨rfl, I⟩)⟩
  · have I' : ge_CH (wy_S B v) m h := I
    obtain ⟨k, hk, mx⟩ := ge_max I' Bd (ge_af_neg ge_af_key)
    refine ⟨m, fun j => h (j + k), Or.inr (Or.inr ⟨ge_ch_sh I' k, fun r hr => ?_⟩)⟩
    have := mx r hr
    show ge_key (h (0 + k)) ≤ ge_key r
    rw [Nat.zero_add]
    omega
theorem rl_su {n n' : Nat} {P P' : Nat → Int × Int} (so : ∀ i j, i < j → j < n → ge_key (P i) < ge_key (P j)) (so' : ∀ i j, i < j → j < n' → ge_key (P' i) < ge_key (P' j)) (es : ge_St P n = ge_St P' n') : ∀ i, i < n → i < n' ∧ P i = P' i := by
  intro i
  induction i using Nat.strongRecOn with
  | _ i ih =>
    intro hi
    have a : ge_St P' n' (P i) := es ▸ ⟨i, hi, rfl⟩
    obtain ⟨j, hj, e⟩ := a
    rcases Nat.lt_trichotomy j i with c | c | c
    · have := ih j c (by omega)
      have k := so j i c hi
      rw [this.2, e] at k
      omega
    · subst c; exact ⟨hj, e.symm⟩
    · have b : ge_St P n (P' i) := es ▸ ⟨i, by omega, rfl⟩
      obtain ⟨l, hl, el⟩ := b
      have k := so' i j c hj
      rw [e, ← el] at k
      have li : l < i := by
        apply Nat.lt_of_not_le
        intro z
        by_cases w : l = i
        · rw [w] at k; omega
        · have := so i l (by omega) hl
          omega
      have := ih l li hl
      have k2 := so' l i li (by omega)
      rw [← this.2, el] at k2
      omega
def rl_ar (h : Nat → Int × Int) : Nat → Int
  | 0 => 0
  | k + 1 => rl_ar h k + ge_cr (h 0) (h (k + 1)) (h (k + 2))
section
variable {f_present f_count f_size f_keptSize f_waiting : Int32} {a_placeOf a_x a_y a_hull a_kept a_found a_order a_waitA a_waitB a_nextLow a_beforeLow a_nextHigh a_beforeHigh : Nat → Int32} {f_many : Int32} {a_spots a_left a_list : Nat → Int32}
theorem rx_solve {v : Nat → Nat} {st : Int32} {e : Nat} (he : e < 6) (hv : ∀ k, k < 24 → bt st k = true → a_placeOf k = nI (v k) ∧ v k < 4096) {post : SX → Prop} (hp : ∀ (n : Nat) (P : Nat → Int × Int) (m : Nat) (q : Nat → Nat) (f_keptSize f_waiting : Int32) (a_x a_y a_hull a_kept a_order a_waitA a_waitB a_nextLow a_beforeLow a_nextHigh a_beforeHigh : Nat → Int32), n ≤ 24 → m ≤ n → (∀ i j, i < j → j < n → ge_key (P i) < ge_key (P j)) → ge_St P n = wy_S (bt st) v → hu_H (wy_S (bt st) v) m (fun k => P (q k)) → wk_XP n P a_x a_y → (∀ k, k < m → a_hull k = nI (q k) ∧ q k < n) → post (f_present, nI n, nI m, f_keptSize, f_waiting, a_placeOf, a_x, a_y, a_hull, a_kept, a_found, a_order, a_waitA, a_waitB, a_nextLow, a_beforeLow, a_nextHigh, a_beforeHigh)) : wpX_solve post (f_present, f_count, f_size, f_keptSize, f_waiting, a_placeOf, a_x, a_y, a_hull, a_kept, a_found, a_order, a_waitA, a_waitB, a_nextLow, a_beforeLow, a_nextHigh, a_beforeHigh) (nI e) st := by
  refine wx_solve he hv fun n P m q u' hn hmn so es H W => ?_
  obtain ⟨g_present, g_count, g_size, g_keptSize, g_waiting, b_placeOf, b_x, b_y, b_hull, b_kept, b_found, b_order, b_waitA, b_waitB, b_nextLow, b_beforeLow, b_nextHigh, b_beforeHigh⟩ := u'
  obtain ⟨w1, w2, w3, w4, w5, w6, w7⟩ := W
  subst w1 w2 w3 w4 w6
  exact hp n P m q _ _ _ _ _ _ _ _ _ _ _ _ _ hn hmn so es H w5 w7
theorem rx_placeAt {n : Nat} {P : Nat → Int × Int} {m : Nat} {q : Nat → Nat} (X : wk_XP n P a_x a_y) (hm : m ≤ 24) (hq : ∀ k, k < m → a_hull k = nI (q k) ∧ q k < n) {i c : Nat} (hi : i < m) (hc : wk_pt c = P (q i)) {post : Int32 → Prop} (h : post (nI c)) : wpX_placeAt post (f_present, f_count, f_size, f_keptSize, f_waiting, a_placeOf, a_x, a_y, a_hull, a_kept, a_found, a_order, a_waitA, a_waitB, a_nextLow, a_beforeLow, a_nextHigh, a_beforeHigh) (nI i) := by
  have hn := X.1
  obtain ⟨q1, q2⟩ := hq i hi
  have x := X.2 _ q2
  have v1 := vp_in_nI (n := i) (N := 48) (by omega) (by omega)
  have v2 := vp_in_nI (n := q i) (N := 24) (by omega) (by omega)
  unfold wpX_placeAt
  dsimp only
  rw [nI_clamp (show i < 2 ^ 31 by omega), q1, nI_clamp (show q i < 2 ^ 31 by omega), x.1, x.2.1]
  refine ⟨v1, v2, v1, v2, ?_⟩
  have e : wk_i (P (q i)).1 + 64 * wk_i (P (q i)).2 = nI c := by
    rw [show (64 : Int32) = wk_i 64 from rfl, wk_mul, wk_add, wk_n, ← hc]
    congr 1
    unfold wk_pt
    show ((c % 64 : Nat) : Int) + 64 * ((c / 64 : Nat) : Int) = (c : Int)
    omega
  rw [e]
  exact h
theorem rx_areaNow {n : Nat} {P : Nat → Int × Int} {m : Nat} {q : Nat → Nat} (X : wk_XP n P a_x a_y) (hm : m ≤ 24) (hq : ∀ k, k < m → a_hull k = nI (q k) ∧ q k < n) {post : Int32 → Prop} (h : post (wk_i (rl_ar (fun k => P (q k)) (m - 2)))) : wpX_areaNow post (f_present, f_count, nI m, f_keptSize, f_waiting, a_placeOf, a_x, a_y, a_hull, a_kept, a_found, a_order, a_waitA, a_waitB, a_nextLow, a_beforeLow, a_nextHigh, a_beforeHigh) := by
  have hn := X.1
  have A : ∀ (d k N : Nat), k + d = m - 2 → d < N → wX_areaNow_4 post f_present f_count (nI m) f_keptSize f_waiting a_placeOf a_x a_y a_hull a_kept a_found a_order a_waitA a_waitB a_nextLow a_beforeLow a_nextHigh a_beforeHigh N (wk_i (rl_ar (fun k => P (q k)) k)) (nI (k + 1)) := by
    intro d
    induction d with
    | zero =>
      intro k N hk hN
      obtain ⟨N, rfl⟩ : ∃ M, N = M + 1 := ⟨N - 1, by omega⟩
      have e : k = m - 2 := by omega
      subst e
      rw [wX_areaNow_4]
      dsimp only
      rw [nI_1]
      exact br_t (nI_le (by omega) (by omega)) h
    | succ d ih =>
      intro k N hk hN
      obtain ⟨N, rfl⟩ : ∃ M, N = M + 1 := ⟨N - 1, by omega⟩
      have q0 := hq 0 (by omega)
      have q1 := hq (k + 1) (by omega)
      have q2 := hq (k + 2) (by omega)
      rw [wX_areaNow_4]
      dsimp only
      rw [nI_1, nI_clamp (show k + 1 < 2 ^ 31 by omega), nI_clamp (show k + 1 + 1 < 2 ^ 31 by omega), q0.1, q1.1, show a_hull (k + 1 + 1) = nI (q (k + 2)) from q2.1]
      refine br_f (nI_ge (by omega) (by omega)) ⟨vp_in_nI (by omega) (by omega), vp_in_nI (by omega) (by omega), wx_turn X q0.2 q1.2 q2.2 ?_⟩
      rw [wk_add]
      exact nm_e (nm_e (ih (k + 1) N (by omega) (by omega)))
  unfold wpX_areaNow
  exact ⟨m - 2 + 1, A (m - 2) 0 (m - 2 + 1) (by omega) (by omega)⟩
theorem ry_area {m : Nat} {h : Nat → Int × Int} {c : Nat → Nat} (hm : m ≤ 24) (hc : ∀ i, i < m → a_list i = nI (c i) ∧ c i < 4096 ∧ wk_pt (c i) = h i) {x1 : Int32} {post : Int32 → SY → Prop} (hp : wpY_engine (fun r => (r = 0 → post (-10000) (nI m, a_spots, a_left, a_list)) ∧ (¬ r = 0 → post (wk_i (rl_ar h (m - 2))) (nI m, a_spots, a_left, a_list))) (nI m, a_spots, a_left, a_list) x1) : ∀ (d k N : Nat), k + d = m - 2 → d < N → wY_area_8 post x1 (nI m) a_spots a_left a_list N (wk_i (rl_ar h k)) (nI (k + 2)) := by
  intro d
  induction d with
  | zero =>
    intro k N hk hN
    obtain ⟨N, rfl⟩ : ∃ M, N = M + 1 := ⟨N - 1, by omega⟩
    have e : k = m - 2 := by omega
    subst e
    rw [wY_area_8]
    exact br_t (nI_le (by omega) (by omega)) hp
  | succ d ih =>
    intro k N hk hN
    obtain ⟨N, rfl⟩ : ∃ M, N = M + 1 := ⟨N - 1, by omega⟩
    have c0 := hc 0 (by omega)
    have c1 := hc (k + 1) (by omega)
    have c2 := hc (k + 2) (by omega)
    rw [wY_area_8]
    dsimp only
    rw [show nI (k + 2) - 1 = nI (k + 1) from nI_pred _, nI_clamp (show k + 1 < 2 ^ 31 by omega), nI_clamp (show k + 2 < 2 ^ 31 by omega), c0.1, c1.1, c2.1]
    refine br_f (nI_ge (by omega) (by omega)) ⟨vp_in_nI (by omega) (by omega), vp_in_nI (by omega) (by omega), wy_turn c0.2.1 c1.2.1 c2.2.1 ?_⟩
    rw [c0.2.2, c1.2.2, c2.2.2, wk_add, nI_1]
    exact nm_e (nm_e (ih (k + 1) N (by omega) (by omega)))
theorem rx_ag89 {m : Nat} (hm : m ≤ 24) {q : Nat → Nat} (h1 : ∀ k, k < m → a_hull k = nI (q k)) (h2 : ∀ k, k < m → a_found k = nI (q k)) {post : Int32 → SX → Prop} (hp : post 1 (f_present, f_count, nI m, f_keptSize, f_waiting, a_placeOf, a_x, a_y, a_hull, a_kept, a_found, a_order, a_waitA, a_waitB, a_nextLow, a_beforeLow, a_nextHigh, a_beforeHigh)) : ∀ (d i N : Nat), i + d = m → d < N → wX_agree_89 post f_present f_count (nI m) f_keptSize f_waiting a_placeOf a_x a_y a_hull a_kept a_found a_order a_waitA a_waitB a_nextLow a_beforeLow a_nextHigh a_beforeHigh N 1 (nI i) := by
  intro d
  induction d with
  | zero =>
    intro i N hi hN
    obtain ⟨N, rfl⟩ : ∃ M, N = M + 1 := ⟨N - 1, by omega⟩
    rw [wX_agree_89]
    exact br_t (nI_le (by omega) (by omega)) ⟨wy_nb1, hp⟩
  | succ d ih =>
    intro i N hi hN
    obtain ⟨N, rfl⟩ : ∃ M, N = M + 1 := ⟨N - 1, by omega⟩
    rw [wX_agree_89]
    dsimp only
    rw [nI_clamp (show i < 2 ^ 31 by omega), h1 i (by omega), h2 i (by omega)]
    have v := vp_in_nI (n := i) (N := 48) (by omega) (by omega)
    exact br_f (nI_ge (by omega) (by omega)) (br_f (by decide) ⟨v, v, br_t rfl (nm_r (nI_1 i) (ih (i + 1) N (by omega) (by omega)))⟩)
theorem rx_ag33 {v : Nat → Nat} {e n m : Nat} {P : Nat → Int × Int} {q : Nat → Nat} (he : e < 6) (hv : ∀ k, k < 24 → bt f_present k = true → a_placeOf k = nI (v k) ∧ v k < 4096) (hm : m ≤ 24) (so : ∀ i j, i < j → j < n → ge_key (P i) < ge_key (P j)) (es : ge_St P n = wy_S (bt f_present) v) (H : hu_H (wy_S (bt f_present) v) m (fun k => P (q k))) (hq : ∀ k, k < m → a_hull k = nI (q k) ∧ q k < n) (hn : n ≤ 24) {post : Int32 → SX → Prop} (hp : ∀ (f_count f_size f_keptSize f_waiting : Int32) (a_x a_y a_hull a_kept a_found a_order a_waitA a_waitB a_nextLow a_beforeLow a_nextHigh a_beforeHigh : Nat → Int32), post 1 (f_present, f_count, f_size, f_keptSize, f_waiting, a_placeOf, a_x, a_y, a_hull, a_kept, a_found, a_order, a_waitA, a_waitB, a_nextLow, a_beforeLow, a_nextHigh, a_beforeHigh)) : ∀ (d i N : Nat) (found : Nat → Int32), i + d = m → d < N → (∀ j, j < i → found j = nI (q j)) → wX_agree_33 post (nI e) (nI m) f_present (nI n) (nI m) f_keptSize f_waiting N (nI i) a_placeOf a_x a_y a_hull a_kept found a_order a_waitA a_waitB a_nextLow a_beforeLow a_nextHigh a_beforeHigh := by
  intro d
  induction d with
  | zero =>
    intro i N found hi hN hf
    obtain ⟨N, rfl⟩ : ∃ M, N = M + 1 := ⟨N - 1, by omega⟩
    have ei : i = m := by omega
    subst ei
    rw [wX_agree_33]
    refine br_t (nI_le (Nat.le_refl _) (by omega)) ?_
    refine rx_solve he hv fun n' P' m' q' _ _ _ _ hull' _ _ _ _ _ _ _ _ hn' hmn' so' es' H' X' hq' => ?_
    dsimp only
    obtain ⟨em, eh⟩ := hu_Hu (wy_Sb fun k hk b => (hv k hk b).2) H H'
    subst em
    refine br_t rfl ⟨i + 1, rx_ag89 hm (q := q) (fun j hj => ?_) hf (hp _ _ _ _ _ _ _ _ _ _ _ _ _ _ _ _) i 0 (i + 1) (by omega) (by omega)⟩
    rw [(hq' j hj).1]
    have e1 : P (q j) = P' (q' j) := eh j hj
    have e2 := (rl_su so so' (es.trans es'.symm) (q j) (hq j hj).2)
    rw [e2.2] at e1
    congr 1
    rcases Nat.lt_trichotomy (q j) (q' j) with c | c | c
    · have := so' _ _ c (hq' j hj).2
      rw [e1] at this; omega
    · exact c.symm
    · have := so' _ _ c e2.1
      rw [e1] at this; omega
  | succ d ih =>
    intro i N found hi hN hf
    obtain ⟨N, rfl⟩ : ∃ M, N = M + 1 := ⟨N - 1, by omega⟩
    have qi := hq i (by omega)
    rw [wX_agree_33]
    dsimp only
    rw [nI_clamp (show i < 2 ^ 31 by omega), qi.1, wk_bn' (by omega)]
    have v48 := vp_in_nI (n := i) (N := 48) (by omega) (by omega)
    refine br_f (nI_ge (by omega) (by omega)) ⟨v48, v48, nm_e (nm_r (nI_1 i) (ih (i + 1) N _ (by omega) (by omega) fun j hj => ?_))⟩
    by_cases c : j = i
    · subst c; exact pk_us
    · rw [pk_un c]; exact hf j (by omega)
end
theorem rl_hv {pr : Int32} {po sp : Nat → Int32} {v : Nat → Nat} (R : ∀ k, k < 24 → (bt pr k = true → po k = nI (v k) ∧ sp k = nI (v k + 1) ∧ v k < 4096) ∧ (bt pr k = false → sp k = 0)) : ∀ k, k < 24 → bt pr k = true → po k = nI (v k) ∧ v k < 4096 := fun k hk b => ⟨((R k hk).1 b).1, ((R k hk).1 b).2.2⟩
theorem i_vc_corners {k : Nat} {u : SX} {v : SY} (I : i_Rel k u v) (hk : k + 3 ≤ 1536) (v1 : Int32) : wpX_corners (fun r u' => wpY_corners (fun r' v' => r' = r ∧ i_Rel (k + 3) u' v') v v1) u v1 := by
  obtain ⟨f_present, f_count, f_size, f_keptSize, f_waiting, a_placeOf, a_x, a_y, a_hull, a_kept, a_found, a_order, a_waitA, a_waitB, a_nextLow, a_beforeLow, a_nextHigh, a_beforeHigh⟩ := u
  obtain ⟨f_many, a_spots, a_left, a_list⟩ := v
  have I' : rl_R f_present a_placeOf a_spots := I
  have I2 := I'
  obtain ⟨hi, v, R⟩ := I'
  unfold wpX_corners
  dsimp only
  rcases rl_pl v1 6 (by omega) with h | ⟨p, hp, rfl⟩
  · refine wx_isEnginen h (br_t rfl ?_)
    obtain ⟨m, hh, H⟩ := hu_ex (B := bt f_present) (v := v) (fun k hk b => (rl_hv R k hk b).2)
    unfold wpY_corners
    dsimp only
    refine wy_look (rl_SP R) H fun left list c hm F hc => ?_
    exact wy_enginen h (br_t rfl ⟨rfl, I2⟩)
  · refine wx_isEngine hp (br_f (by decide) ?_)
    refine rx_solve hp (rl_hv R) fun n P m q _ _ a_x a_y a_hull _ _ _ _ _ _ _ _ hn hmn so es H X hq => ?_
    dsimp only
    unfold wpY_corners
    dsimp only
    refine wy_look (rl_SP R) H fun left list c hm F hc => ?_
    exact wy_engine hp (br_f (by decide) ⟨rfl, I2⟩)
theorem i_vc_corner {k : Nat} {u : SX} {v : SY} (I : i_Rel k u v) (hk : k + 3 ≤ 1536) (v1 : Int32) (v2 : Int32) : wpX_corner (fun r u' => wpY_corner (fun r' v' => r' = r ∧ i_Rel (k + 3) u' v') v v1 v2) u v1 v2 := by
  obtain ⟨f_present, f_count, f_size, f_keptSize, f_waiting, a_placeOf, a_x, a_y, a_hull, a_kept, a_found, a_order, a_waitA, a_waitB, a_nextLow, a_beforeLow, a_nextHigh, a_beforeHigh⟩ := u
  obtain ⟨f_many, a_spots, a_left, a_list⟩ := v
  have I' : rl_R f_present a_placeOf a_spots := I
  have I2 := I'
  obtain ⟨hi, v, R⟩ := I'
  unfold wpX_corner
  dsimp only
  rcases rl_pl v1 6 (by omega) with h | ⟨p, hp, rfl⟩
  · refine wx_isEnginen h (br_t rfl ?_)
    obtain ⟨m, hh, H⟩ := hu_ex (B := bt f_present) (v := v) (fun k hk b => (rl_hv R k hk b).2)
    unfold wpY_corner
    dsimp only
    refine wy_look (rl_SP R) H fun left list c hm F hc => ?_
    exact wy_enginen h (br_t rfl ⟨rfl, I2⟩)
  · refine wx_isEngine hp (br_f (by decide) ?_)
    refine rx_solve hp (rl_hv R) fun n P m q _ _ a_x a_y a_hull _ _ _ _ _ _ _ _ hn hmn so es H X hq => ?_
    dsimp only
    rcases rl_pl v2 m (by omega) with h | ⟨i, hi', rfl⟩
    · have out : wpY_corner (fun r' v' => r' = -10000 ∧ rl_R f_present a_placeOf v'.2.1) (f_many, a_spots, a_left, a_list) (nI p) v2 := by
        unfold wpY_corner
        dsimp only
        refine wy_look (rl_SP R) H fun left list c hm F hc => wy_engine hp (br_f (by decide) ?_)
        exact br_c (fun _ => ⟨rfl, I2⟩) (fun c => br_t (h.resolve_left c) ⟨rfl, I2⟩)
      exact br_c (fun _ => out) (fun c => br_t (h.resolve_left c) out)
    · refine br_f (nI_pos (by omega)) (br_f (nI_ge hi' (by omega)) ?_)
      obtain ⟨cc, hcc⟩ : ∃ c, wk_pt c = P (q i) := by
        have : ge_St P n (P (q i)) := ⟨q i, (hq i hi').2, rfl⟩
        rw [es] at this
        obtain ⟨j, _, _, e⟩ := this
        exact ⟨v j, e⟩
      refine rx_placeAt X (by omega) hq hi' hcc ?_
      unfold wpY_corner
      dsimp only
      refine wy_look (rl_SP R) H fun left list c hm F hc => wy_engine hp (br_f (by decide) ?_)
      have ci := hc i hi'
      dsimp only
      rw [nI_clamp (show i < 2 ^ 31 by omega), ci.1]
      refine br_f (nI_pos (by omega)) (br_f (nI_ge hi' (by omega)) ⟨vp_in_nI (by omega) (by omega), ?_, I2⟩)
      congr 1
      apply wk_pt_inj
      rw [ci.2.2, hcc]
theorem i_vc_area {k : Nat} {u : SX} {v : SY} (I : i_Rel k u v) (hk : k + 3 ≤ 1536) (v1 : Int32) : wpX_area (fun r u' => wpY_area (fun r' v' => r' = r ∧ i_Rel (k + 3) u' v') v v1) u v1 := by
  obtain ⟨f_present, f_count, f_size, f_keptSize, f_waiting, a_placeOf, a_x, a_y, a_hull, a_kept, a_found, a_order, a_waitA, a_waitB, a_nextLow, a_beforeLow, a_nextHigh, a_beforeHigh⟩ := u
  obtain ⟨f_many, a_spots, a_left, a_list⟩ := v
  have I' : rl_R f_present a_placeOf a_spots := I
  have I2 := I'
  obtain ⟨hi, v, R⟩ := I'
  unfold wpX_area
  dsimp only
  rcases rl_pl v1 6 (by omega) with h | ⟨p, hp, rfl⟩
  · refine wx_isEnginen h (br_t rfl ?_)
    obtain ⟨m, hh, H⟩ := hu_ex (B := bt f_present) (v := v) (fun k hk b => (rl_hv R k hk b).2)
    unfold wpY_area
    dsimp only
    refine wy_look (rl_SP R) H fun left list c hm F hc => ⟨m + 1, ?_⟩
    exact ry_area hm hc (wy_enginen h (br_t rfl ⟨rfl, I2⟩)) (m - 2) 0 (m + 1) (by omega) (by omega)
  · refine wx_isEngine hp (br_f (by decide) ?_)
    refine rx_solve hp (rl_hv R) fun n P m q _ _ a_x a_y a_hull _ _ _ _ _ _ _ _ hn hmn so es H X hq => ?_
    dsimp only
    refine rx_areaNow X (by omega) hq ?_
    unfold wpY_area
    dsimp only
    refine wy_look (rl_SP R) H fun left list c hm F hc => ⟨m + 1, ?_⟩
    exact ry_area hm hc (wy_engine hp (br_f (by decide) ⟨rfl, I2⟩)) (m - 2) 0 (m + 1) (by omega) (by omega)
theorem i_vc_agree {k : Nat} {u : SX} {v : SY} (I : i_Rel k u v) (hk : k + 3 ≤ 1536) (v1 : Int32) (v2 : Int32) : wpX_agree (fun r u' => wpY_agree (fun r' => r' = r ∧ i_Rel (k + 3) u' v) v v1 v2) u v1 v2 := by
  obtain ⟨f_present, f_count, f_size, f_keptSize, f_waiting, a_placeOf, a_x, a_y, a_hull, a_kept, a_found, a_order, a_waitA, a_waitB, a_nextLow, a_beforeLow, a_nextHigh, a_beforeHigh⟩ := u
  obtain ⟨f_many, a_spots, a_left, a_list⟩ := v
  have I' : rl_R f_present a_placeOf a_spots := I
  have I2 := I'
  obtain ⟨hi, v, R⟩ := I'
  unfold wpX_agree
  dsimp only
  rcases rl_pl v1 6 (by omega) with h | ⟨p, hp, rfl⟩
  · refine wx_isEnginen h (br_t rfl ?_)
    unfold wpY_agree
    dsimp only
    exact wy_enginen h (br_t rfl ⟨rfl, I2⟩)
  · refine wx_isEngine hp (br_f (by decide) ?_)
    rcases rl_pl v2 6 (by omega) with h | ⟨p', hp', rfl⟩
    · refine wx_isEnginen h (br_t rfl ?_)
      unfold wpY_agree
      dsimp only
      exact wy_engine hp (br_f (by decide) (wy_enginen h (br_t rfl ⟨rfl, I2⟩)))
    · refine wx_isEngine hp' (br_f (by decide) ?_)
      refine rx_solve hp (rl_hv R) fun n P m q _ _ a_x a_y a_hull _ _ _ _ _ _ _ _ hn hmn so es H X hq => ?_
      dsimp only
      refine ⟨m + 1, rx_ag33 hp' (rl_hv R) (by omega) so es H hq hn (fun _ _ _ _ _ _ _ _ _ _ _ _ _ _ _ _ => ?_) m 0 (m + 1) a_found (by omega) (by omega) (fun j hj => absurd hj (by omega))⟩
      unfold wpY_agree
      dsimp only
      exact wy_engine hp (br_f (by decide) (wy_engine hp' (br_f (by decide) ⟨rfl, I2⟩)))
end
section
/-! where a place is -/
def wh_in (m : Nat) (h : Nat → Int × Int) (p : Int × Int) : Prop :=
  (m = 1 ∧ p = h 0) ∨ (m = 2 ∧ ge_cr (h 0) (h 1) p = 0 ∧ 0 ≤ ge_dt (h 0) (h 1) p ∧ ge_dt (h 0) (h 1) p ≤ ge_sq (h 0) (h 1)) ∨ (3 ≤ m ∧ ∀ k, 0 ≤ ge_cr (h k) (h (k + 1)) p)
def wh_st (m : Nat) (h : Nat → Int × Int) (p : Int × Int) : Prop := 3 ≤ m ∧ ∀ k, 0 < ge_cr (h k) (h (k + 1)) p
def wh_V (m : Nat) (h : Nat → Int × Int) (p : Int × Int) (r : Nat) : Prop :=
  (¬ wh_in m h p ∧ r = 0) ∨ (wh_in m h p ∧ ¬ wh_st m h p ∧ r = 1) ∨ (wh_st m h p ∧ r = 2)
theorem wh_si {m : Nat} {h : Nat → Int × Int} {p : Int × Int} (s : wh_st m h p) : wh_in m h p := Or.inr (Or.inr ⟨s.1, fun k => Int.le_of_lt (s.2 k)⟩)
theorem wh_ex (m : Nat) (h : Nat → Int × Int) (p : Int × Int) : ∃ r, r ≤ 2 ∧ wh_V m h p r := by
  by_cases a : wh_in m h p
  · by_cases b : wh_st m h p
    · exact ⟨2, by omega, Or.inr (Or.inr ⟨b, rfl⟩)⟩
    · exact ⟨1, by omega, Or.inr (Or.inl ⟨a, b, rfl⟩)⟩
  · exact ⟨0, by omega, Or.inl ⟨a, rfl⟩⟩
theorem wh_0 {m : Nat} {h : Nat → Int × Int} {p : Int × Int} {r : Nat} (V : wh_V m h p r) (n : ¬ wh_in m h p) : r = 0 := by
  rcases V with ⟨_, e⟩ | ⟨a, _, _⟩ | ⟨a, _⟩
  · exact e
  · exact absurd a n
  · exact absurd (wh_si a) n
theorem wh_1 {m : Nat} {h : Nat → Int × Int} {p : Int × Int} {r : Nat} (V : wh_V m h p r) (i : wh_in m h p) (n : ¬ wh_st m h p) : r = 1 := by
  rcases V with ⟨a, _⟩ | ⟨_, _, e⟩ | ⟨a, _⟩
  · exact absurd i a
  · exact e
  · exact absurd a n
theorem wh_2 {m : Nat} {h : Nat → Int × Int} {p : Int × Int} {r : Nat} (V : wh_V m h p r) (s : wh_st m h p) : r = 2 := by
  rcases V with ⟨a, _⟩ | ⟨_, a, _⟩ | ⟨_, e⟩
  · exact absurd (wh_si s) a
  · exact absurd s a
  · exact e
theorem wh_in3 {m : Nat} {h : Nat → Int × Int} {p : Int × Int} (h3 : 3 ≤ m) (i : wh_in m h p) : ∀ k, 0 ≤ ge_cr (h k) (h (k + 1)) p := by
  rcases i with ⟨e, _⟩ | ⟨e, _⟩ | ⟨_, a⟩
  · omega
  · omega
  · exact a
/-- sides of all edges from those below m -/
theorem wh_all {S : Int × Int → Prop} {m : Nat} {h : Nat → Int × Int} (H : ge_CH S m h) {p : Int × Int} (k : Nat) : ge_cr (h k) (h (k + 1)) p = ge_cr (h (k % m)) (h (k % m + 1)) p := by
  have h2 := H.1
  have e1 := ge_per H k
  have e2 : h (k + 1) = h (k % m + 1) := by
    rcases ge_mod1 (show 0 < m by omega) k with ⟨c, e⟩ | ⟨c, e⟩
    · rw [ge_per H (k + 1), e]
    · rw [ge_per H (k + 1), e, c, show m - 1 + 1 = 0 + m by omega, H.2.1]
  rw [← e1, ← e2]
theorem wh_edge1 {S : Int × Int → Prop} {m : Nat} {h : Nat → Int × Int} (H : ge_CH S m h) {p : Int × Int} {k : Nat} (c : ge_cr (h k) (h (k + 1)) p = 0) (d0 : 0 ≤ ge_dt (h k) (h (k + 1)) p) (d1 : ge_dt (h k) (h (k + 1)) p ≤ ge_sq (h k) (h (k + 1))) : ∀ j, 0 ≤ ge_cr (h j) (h (j + 1)) p := by
  intro j
  have e := ge_seg (ge_af_cr (h j) (h (j + 1))) (h k) (h (k + 1)) p c
  have x := Int.mul_nonneg (show 0 ≤ ge_sq (h k) (h (k + 1)) - ge_dt (h k) (h (k + 1)) p by omega) (ge_nx_ge (H.2.2.1 j) (ge_ch_S H k))
  have y := Int.mul_nonneg d0 (ge_nx_ge (H.2.2.1 j) (ge_ch_S H (k + 1)))
  exact ge_nn (ge_sqp (H.2.2.1 k).2.2.1) e (by omega)
theorem wh_edge2 {S : Int × Int → Prop} {m : Nat} {h : Nat → Int × Int} (H : ge_CH S m h) (hb : ge_bd S) (h3 : 3 ≤ m) {p : Int × Int} (ha : ∀ j, 0 ≤ ge_cr (h j) (h (j + 1)) p) {k : Nat} (c : ge_cr (h k) (h (k + 1)) p = 0) : 0 ≤ ge_dt (h k) (h (k + 1)) p ∧ ge_dt (h k) (h (k + 1)) p ≤ ge_sq (h k) (h (k + 1)) := by
  have key : ∀ k, ge_cr (h (k + 1)) (h (k + 2)) p = 0 → 0 ≤ ge_dt (h (k + 1)) (h (k + 2)) p ∧ ge_dt (h (k + 1)) (h (k + 2)) p ≤ ge_sq (h (k + 1)) (h (k + 2)) := fun k c => by
    have N : ge_nx S (h (k + 1)) (h (k + 2)) := H.2.2.1 (k + 1)
    have a0 := ha k
    have a2 : 0 ≤ ge_cr (h (k + 2)) (h (k + 3)) p := ha (k + 2)
    have D := ge_str H hb (i := k) (j := k + 2) (by omega) (by omega)
    have D2 : 0 < ge_cr (h (k + 2)) (h (k + 3)) (h (k + 1)) := by
      have := ge_str H hb (i := k + 2) (j := k + 1 + m) (by omega) (by omega)
      rwa [H.2.1 (k + 1)] at this
    have e1 := ge_seg (ge_af_cr (h k) (h (k + 1))) (h (k + 1)) (h (k + 2)) p c
    have e2 := ge_seg (ge_af_cr (h (k + 2)) (h (k + 3))) (h (k + 1)) (h (k + 2)) p c
    rw [ge_cr2, Int.mul_zero, Int.zero_add] at e1
    rw [ge_cr1, Int.mul_zero, Int.add_zero] at e2
    have w := Int.le_of_lt (ge_sqp N.2.2.1)
    have x := Int.mul_nonneg w a0
    have y := Int.mul_nonneg w a2
    have p1 := ge_nn D (c := ge_dt (h (k + 1)) (h (k + 2)) p) (by rw [Int.mul_comm, ← e1]) x
    have p2 := ge_nn D2 (c := ge_sq (h (k + 1)) (h (k + 2)) - ge_dt (h (k + 1)) (h (k + 2)) p) (by rw [Int.mul_comm, ← e2]) y
    exact ⟨p1, by omega⟩
  have := key (k + m - 1) (by
    rw [show k + m - 1 + 1 = k + m by omega, show k + m - 1 + 2 = k + 1 + m by omega, H.2.1, H.2.1]; exact c)
  rw [show k + m - 1 + 1 = k + m by omega, show k + m - 1 + 2 = k + 1 + m by omega, H.2.1, H.2.1] at this
  exact this
theorem wh_tri {S : Int × Int → Prop} {m : Nat} {h : Nat → Int × Int} (H : ge_CH S m h) (hb : ge_bd S) {p : Int × Int} {i : Nat} (i1 : 1 ≤ i) (im : i + 1 < m) (ci : 0 ≤ ge_cr (h 0) (h i) p) (ci1 : ge_cr (h 0) (h (i + 1)) p ≤ 0) (si : 0 ≤ ge_cr (h i) (h (i + 1)) p) : (∀ j, 0 ≤ ge_cr (h j) (h (j + 1)) p) ∧ (0 < ge_cr (h i) (h (i + 1)) p → ∀ j, 1 ≤ j → j + 1 < m → 0 < ge_cr (h j) (h (j + 1)) p) := by
  have D := ge_tri H hb (i := 0) (j := i) (k := i + 1) (by omega) (by omega) (by omega)
  have sw := ge_sw (h 0) (h (i + 1)) p
  refine ⟨fun j => ?_, fun s j j1 jm => ?_⟩
  · have e := ge_bary (ge_af_cr (h j) (h (j + 1))) (h 0) (h i) (h (i + 1)) p
    have x1 := Int.mul_nonneg si (ge_nx_ge (H.2.2.1 j) (ge_ch_S H 0))
    have x2 := Int.mul_nonneg (show 0 ≤ ge_cr (h (i + 1)) (h 0) p by omega) (ge_nx_ge (H.2.2.1 j) (ge_ch_S H i))
    have x3 := Int.mul_nonneg ci (ge_nx_ge (H.2.2.1 j) (ge_ch_S H (i + 1)))
    exact ge_nn D e (by omega)
  · have e := ge_bary (ge_af_cr (h j) (h (j + 1))) (h 0) (h i) (h (i + 1)) p
    have f0 : 0 < ge_cr (h j) (h (j + 1)) (h 0) := by
      have := ge_str H hb (i := j) (j := 0 + m) (by omega) (by omega)
      rwa [H.2.1] at this
    have x1 := Int.mul_pos s f0
    have x2 := Int.mul_nonneg (show 0 ≤ ge_cr (h (i + 1)) (h 0) p by omega) (ge_nx_ge (H.2.2.1 j) (ge_ch_S H i))
    have x3 := Int.mul_nonneg ci (ge_nx_ge (H.2.2.1 j) (ge_ch_S H (i + 1)))
    exact ge_pos D e (by omega)
/-- between, by the dot at the place -/
theorem wh_btw {a b p : Int × Int} (hn : a ≠ b) (c : ge_cr a b p = 0) : ge_dt p a b ≤ 0 ↔ 0 ≤ ge_dt a b p ∧ ge_dt a b p ≤ ge_sq a b := by
  have e : ge_dt p a b = ge_sq a p - ge_dt a b p := by unfold ge_dt ge_sq; grind
  have E := ge_sqp hn
  have L := ge_lag a b p
  rw [c] at L
  have id : ge_sq a b * ge_dt p a b = ge_dt a b p * (ge_dt a b p - ge_sq a b) := by rw [e]; grind
  generalize ge_dt a b p = s at *
  generalize ge_sq a b = x at *
  constructor
  · intro h
    have n := Int.mul_nonpos_of_nonneg_of_nonpos (Int.le_of_lt E) h
    rw [id] at n
    constructor
    · apply Int.le_of_not_gt
      intro z
      have := Int.mul_pos_of_neg_of_neg z (show s - x < 0 by omega)
      omega
    · apply Int.le_of_not_gt
      intro z
      have := Int.mul_pos (show 0 < s by omega) (show 0 < s - x by omega)
      omega
  · intro ⟨h0, h1⟩
    exact ge_np E id (Int.mul_nonpos_of_nonneg_of_nonpos h0 (by omega))
theorem ge_dtb2 {S : Int × Int → Prop} (hb : ge_bd S) {p q r : Int × Int} (hp : 0 ≤ p.1 ∧ p.1 ≤ 63 ∧ 0 ≤ p.2 ∧ p.2 ≤ 63) (hq : S q) (hr : S r) : -7938 ≤ ge_dt p q r ∧ ge_dt p q r ≤ 7938 := by
  have b := hb q hq
  have c := hb r hr
  have x := ge_mb (a := q.1 - p.1) (b := r.1 - p.1) (by omega) (by omega) (by omega) (by omega)
  have y := ge_mb (a := q.2 - p.2) (b := r.2 - p.2) (by omega) (by omega) (by omega) (by omega)
  unfold ge_dt; omega
theorem ge_crb2 {S : Int × Int → Prop} (hb : ge_bd S) {p q r : Int × Int} (hp : S p) (hq : S q) (hr : 0 ≤ r.1 ∧ r.1 ≤ 63 ∧ 0 ≤ r.2 ∧ r.2 ≤ 63) : -7938 ≤ ge_cr p q r ∧ ge_cr p q r ≤ 7938 := by
  have a := hb p hp
  have b := hb q hq
  have x := ge_mb (a := q.1 - p.1) (b := r.2 - p.2) (by omega) (by omega) (by omega) (by omega)
  have y := ge_mb (a := q.2 - p.2) (b := r.1 - p.1) (by omega) (by omega) (by omega) (by omega)
  unfold ge_cr; omega
section
variable {f_present f_count f_size f_keptSize f_waiting : Int32} {a_placeOf a_x a_y a_hull a_kept a_found a_order a_waitA a_waitB a_nextLow a_beforeLow a_nextHigh a_beforeHigh : Nat → Int32} {f_many : Int32} {a_spots a_left a_list : Nat → Int32} {n : Nat} {P : Nat → Int × Int} {m : Nat} {q : Nat → Nat}
theorem rx_turnTo (X : wk_XP n P a_x a_y) (hm : m ≤ 24) (hq : ∀ k, k < m → a_hull k = nI (q k) ∧ q k < n) {p : Int × Int} {i j : Nat} (hi : i < m) (hj : j < m) {post : Int32 → Prop} (h : post (wk_i (ge_cr (P (q i)) (P (q j)) p))) : wpX_turnTo post (f_present, f_count, f_size, f_keptSize, f_waiting, a_placeOf, a_x, a_y, a_hull, a_kept, a_found, a_order, a_waitA, a_waitB, a_nextLow, a_beforeLow, a_nextHigh, a_beforeHigh) (nI i) (nI j) (wk_i p.1) (wk_i p.2) := by
  have hn := X.1
  obtain ⟨i1, i2⟩ := hq i hi
  obtain ⟨j1, j2⟩ := hq j hj
  have xi := X.2 _ i2
  have xj := X.2 _ j2
  have vi := vp_in_nI (n := q i) (N := 24) (by omega) (by omega)
  have vj := vp_in_nI (n := q j) (N := 24) (by omega) (by omega)
  unfold wpX_turnTo
  dsimp only
  rw [nI_clamp (show i < 2 ^ 31 by omega), nI_clamp (show j < 2 ^ 31 by omega), i1, j1]
  refine ⟨vp_in_nI (by omega) (by omega), nm_e ⟨vp_in_nI (by omega) (by omega), nm_e ⟨vj, vi, vi, nm_e ⟨vj, vi, vi, ?_⟩⟩⟩⟩
  rw [nI_clamp (show q i < 2 ^ 31 by omega), nI_clamp (show q j < 2 ^ 31 by omega), xi.1, xi.2.1, xj.1, xj.2.1]
  simp only [wk_sub, wk_mul]
  exact h
theorem rx_isBetween (X : wk_XP n P a_x a_y) (hm : m ≤ 24) (hq : ∀ k, k < m → a_hull k = nI (q k) ∧ q k < n) {p : Int × Int} (hp : 0 ≤ p.1 ∧ p.1 ≤ 63 ∧ 0 ≤ p.2 ∧ p.2 ≤ 63) {i j : Nat} (hi : i < m) (hj : j < m) {post : Int32 → Prop} (h1 : ge_dt p (P (q i)) (P (q j)) ≤ 0 → post 1) (h0 : 0 < ge_dt p (P (q i)) (P (q j)) → post 0) : wpX_isBetween post (f_present, f_count, f_size, f_keptSize, f_waiting, a_placeOf, a_x, a_y, a_hull, a_kept, a_found, a_order, a_waitA, a_waitB, a_nextLow, a_beforeLow, a_nextHigh, a_beforeHigh) (nI i) (nI j) (wk_i p.1) (wk_i p.2) := by
  have hn := X.1
  obtain ⟨i1, i2⟩ := hq i hi
  obtain ⟨j1, j2⟩ := hq j hj
  have xi := X.2 _ i2
  have xj := X.2 _ j2
  have vi := vp_in_nI (n := q i) (N := 24) (by omega) (by omega)
  have vj := vp_in_nI (n := q j) (N := 24) (by omega) (by omega)
  have bd := ge_dtb2 (wk_XPb X) hp (q := P (q i)) (r := P (q j)) ⟨_, i2, rfl⟩ ⟨_, j2, rfl⟩
  unfold wpX_isBetween
  dsimp only
  rw [nI_clamp (show i < 2 ^ 31 by omega), nI_clamp (show j < 2 ^ 31 by omega), i1, j1]
  refine ⟨vp_in_nI (by omega) (by omega), nm_e ⟨vp_in_nI (by omega) (by omega), nm_e ⟨vi, vj, vi, vj, nm_r (e' := wk_i (ge_dt p (P (q i)) (P (q j)))) ?_ (wk_blt 0 (ge_dt p (P (q i)) (P (q j))) h0 h1)⟩⟩⟩
  rw [nI_clamp (show q i < 2 ^ 31 by omega), nI_clamp (show q j < 2 ^ 31 by omega), xi.1, xi.2.1, xj.1, xj.2.1]
  simp only [wk_sub, wk_mul, wk_add]
  congr 1
  unfold ge_dt
  grind
theorem rx_locate (X : wk_XP n P a_x a_y) (hm : m ≤ 24) (hq : ∀ k, k < m → a_hull k = nI (q k) ∧ q k < n) {p : Int × Int} (hp : 0 ≤ p.1 ∧ p.1 ≤ 63 ∧ 0 ≤ p.2 ∧ p.2 ≤ 63) (h3 : 3 ≤ m) (c1 : 0 ≤ ge_cr (P (q 0)) (P (q 1)) p) (cl : ge_cr (P (q 0)) (P (q (m - 1))) p < 0) {post : Int32 → Prop} (h : ∀ i, 1 ≤ i → i + 1 < m → 0 ≤ ge_cr (P (q 0)) (P (q i)) p → ge_cr (P (q 0)) (P (q (i + 1))) p < 0 → post (nI i)) : wpX_locate post (f_present, f_count, nI m, f_keptSize, f_waiting, a_placeOf, a_x, a_y, a_hull, a_kept, a_found, a_order, a_waitA, a_waitB, a_nextLow, a_beforeLow, a_nextHigh, a_beforeHigh) (wk_i p.1) (wk_i p.2) := by
  have B := wk_XPb X
  have A : ∀ (d lo hi N : Nat), hi - lo ≤ d + 1 → d < N → 1 ≤ lo → lo < hi → hi < m → 0 ≤ ge_cr (P (q 0)) (P (q lo)) p → ge_cr (P (q 0)) (P (q hi)) p < 0 → wX_locate_10 post (wk_i p.1) (wk_i p.2) f_present f_count (nI m) f_keptSize f_waiting a_placeOf a_x a_y a_hull a_kept a_found a_order a_waitA a_waitB a_nextLow a_beforeLow a_nextHigh a_beforeHigh N (nI lo) (nI hi) := by
    intro d
    induction d with
    | zero =>
      intro lo hi N hd hN l1 lh hm' c0 ch
      obtain ⟨N, rfl⟩ : ∃ M, N = M + 1 := ⟨N - 1, by omega⟩
      have e : hi = lo + 1 := by omega
      subst e
      rw [wX_locate_10]
      dsimp only
      rw [pk_sub (by omega)]
      exact br_t (nI_le (b := 1) (by omega) (by omega)) (h lo l1 hm' c0 ch)
    | succ d ih =>
      intro lo hi N hd hN l1 lh hm' c0 ch
      obtain ⟨N, rfl⟩ : ∃ M, N = M + 1 := ⟨N - 1, by omega⟩
      rw [wX_locate_10]
      dsimp only
      rw [pk_sub (by omega)]
      by_cases e : hi = lo + 1
      · subst e
        exact br_t (nI_le (b := 1) (by omega) (by omega)) (h lo l1 hm' c0 ch)
      · refine br_f (nI_ge (a := 1) (by omega) (by omega)) ⟨wk_2, nm_r (e' := nI ((lo + hi) / 2)) (by rw [nI_add]; exact pk_div (d := 2) (by omega) (by omega) (by omega)) ?_⟩
        refine rx_turnTo (i := 0) X hm hq (by omega) (by omega) ?_
        have bd := ge_crb2 B (p := P (q 0)) (q := P (q ((lo + hi) / 2))) ⟨_, (hq 0 (by omega)).2, rfl⟩ ⟨_, (hq _ (show (lo + hi) / 2 < m by omega)).2, rfl⟩ hp
        unfold wX_locate_43 wX_locate_56
        refine wk_blt (ge_cr (P (q 0)) (P (q ((lo + hi) / 2))) p) 0 (fun z => br_t rfl (br_t rfl ?_)) (fun z => br_f (by decide) (br_f (by decide) ?_))
        · exact ih lo ((lo + hi) / 2) N (by omega) (by omega) l1 (by omega) (by omega) c0 z
        · exact ih ((lo + hi) / 2) hi N (by omega) (by omega) (by omega) (by omega) hm' z ch
  unfold wpX_locate
  have em : nI m - 1 = nI (m - 1) := by
    obtain ⟨k, rfl⟩ : ∃ k, m = k + 1 := ⟨m - 1, by omega⟩
    exact nI_pred k
  exact nm_r em ⟨m, A (m - 1) 1 (m - 1) m (by omega) (by omega) (by omega) (by omega) (by omega) c1 cl⟩
theorem rx_where (X : wk_XP n P a_x a_y) (hm : m ≤ 24) (hq : ∀ k, k < m → a_hull k = nI (q k) ∧ q k < n) {S : Int × Int → Prop} (hb : ge_bd S) (H : hu_H S m (fun k => P (q k))) {p : Int × Int} (hp : 0 ≤ p.1 ∧ p.1 ≤ 63 ∧ 0 ≤ p.2 ∧ p.2 ≤ 63) {r : Nat} (V : wh_V m (fun k => P (q k)) p r) {post : Int32 → Prop} (h : post (nI r)) : wpX_where post (f_present, f_count, nI m, f_keptSize, f_waiting, a_placeOf, a_x, a_y, a_hull, a_kept, a_found, a_order, a_waitA, a_waitB, a_nextLow, a_beforeLow, a_nextHigh, a_beforeHigh) (wk_i p.1) (wk_i p.2) := by
  have B := wk_XPb X
  have r0 : ¬ wh_in m (fun k => P (q k)) p → post 0 := fun n => by rw [wh_0 V n] at h; exact h
  have r1 : wh_in m (fun k => P (q k)) p → ¬ wh_st m (fun k => P (q k)) p → post 1 := fun i n => by rw [wh_1 V i n] at h; exact h
  have r2 : wh_st m (fun k => P (q k)) p → post 2 := fun s => by rw [wh_2 V s] at h; exact h
  unfold wpX_where
  dsimp only
  by_cases m0 : m = 0
  · subst m0
    refine br_t rfl (r0 fun i => ?_)
    rcases i with ⟨e, _⟩ | ⟨e, _⟩ | ⟨e, _⟩ <;> omega
  refine br_f (nI_ne0 (by omega) (by omega)) ?_
  have em : nI m - 1 = nI (m - 1) := by
    obtain ⟨k, rfl⟩ : ∃ k, m = k + 1 := ⟨m - 1, by omega⟩
    exact nI_pred k
  have bd : ∀ i j, i < m → j < m → -7938 ≤ ge_cr (P (q i)) (P (q j)) p ∧ ge_cr (P (q i)) (P (q j)) p ≤ 7938 := fun i j hi hj => ge_crb2 B ⟨_, (hq i hi).2, rfl⟩ ⟨_, (hq j hj).2, rfl⟩ hp
  by_cases h3 : 3 ≤ m
  · have C : ge_CH S m (fun k => P (q k)) := by
      rcases H with ⟨e, _⟩ | ⟨e, _⟩ | ⟨C, _⟩
      · omega
      · omega
      · exact C
    have pm : P (q m) = P (q 0) := by
      have e : P (q (0 + m)) = P (q 0) := C.2.1 0
      rwa [Nat.zero_add] at e
    have sl : ge_cr (P (q (m - 1))) (P (q (m - 1 + 1))) p = - ge_cr (P (q 0)) (P (q (m - 1))) p := by
      rw [show m - 1 + 1 = m by omega, pm, ge_sw]
    have b1 := bd 0 1 (by omega) (by omega)
    have b2 := bd 0 (m - 1) (by omega) (by omega)
    rw [em]
    refine br_t (nI_le (a := 3) h3 (by omega)) (rx_turnTo (i := 0) (j := 1) X hm hq (by omega) (by omega) (rx_turnTo (i := 0) X hm hq (by omega) (by omega) ?_))
    refine wk_blt (ge_cr (P (q 0)) (P (q 1)) p) 0 (fun z => r0 fun i => ?_) (fun z => ?_)
    · have : 0 ≤ ge_cr (P (q 0)) (P (q 1)) p := wh_in3 h3 i 0
      omega
    refine wk_ble (ge_cr (P (q 0)) (P (q (m - 1))) p) 0 (fun y => ?_) (fun y => r0 fun i => ?_)
    · refine wk_beq (ge_cr (P (q 0)) (P (q 1)) p) 0 (fun x => ?_) (fun x => ?_)
      · have nst : ¬ wh_st m (fun k => P (q k)) p := fun s => by
          have : 0 < ge_cr (P (q 0)) (P (q 1)) p := s.2 0
          omega
        have n01 : P (q 0) ≠ P (q 1) := C.2.2.2 0 1 (by omega) (by omega)
        refine rx_isBetween (i := 0) (j := 1) X hm hq hp (by omega) (by omega) (fun w => br_f (by decide) (r1 ?_ nst)) (fun w => br_t rfl (r0 fun i => ?_))
        · have bt := (wh_btw n01 x).mp w
          exact Or.inr (Or.inr ⟨h3, wh_edge1 C (k := 0) x bt.1 bt.2⟩)
        · have e := wh_edge2 C hb h3 (wh_in3 h3 i) (k := 0) x
          have := (wh_btw n01 x).mpr e
          omega
      · refine wk_beq (ge_cr (P (q 0)) (P (q (m - 1))) p) 0 (fun w => ?_) (fun w => ?_)
        · have nst : ¬ wh_st m (fun k => P (q k)) p := fun s => by
            have : 0 < ge_cr (P (q (m - 1))) (P (q (m - 1 + 1))) p := s.2 (m - 1)
            omega
          have n0 : P (q 0) ≠ P (q (m - 1)) := C.2.2.2 0 (m - 1) (by omega) (by omega)
          have d1 := ge_dtr (P (q 0)) (P (q (m - 1))) p
          have d2 := ge_sqs (P (q 0)) (P (q (m - 1)))
          have el : ge_cr (P (q (m - 1))) (P (q (m - 1 + 1))) p = 0 := by omega
          have e1 : P (q (m - 1 + 1)) = P (q 0) := by rw [show m - 1 + 1 = m by omega]; exact pm
          refine rx_isBetween (i := 0) X hm hq hp (by omega) (by omega) (fun v => br_f (by decide) (r1 ?_ nst)) (fun v => br_t rfl (r0 fun i => ?_))
          · have bt := (wh_btw n0 w).mp v
            refine Or.inr (Or.inr ⟨h3, wh_edge1 C (k := m - 1) el ?_ ?_⟩)
            · show 0 ≤ ge_dt (P (q (m - 1))) (P (q (m - 1 + 1))) p
              rw [e1]; omega
            · show ge_dt (P (q (m - 1))) (P (q (m - 1 + 1))) p ≤ ge_sq (P (q (m - 1))) (P (q (m - 1 + 1)))
              rw [e1]; omega
          · have e := wh_edge2 C hb h3 (wh_in3 h3 i) (k := m - 1) el
            have e' : 0 ≤ ge_dt (P (q (m - 1))) (P (q (m - 1 + 1))) p ∧ ge_dt (P (q (m - 1))) (P (q (m - 1 + 1))) p ≤ ge_sq (P (q (m - 1))) (P (q (m - 1 + 1))) := e
            rw [e1] at e'
            have := (wh_btw n0 w).mpr (by omega)
            omega
        · refine rx_locate X hm hq hp h3 z (by omega) fun i i1 im ci ci1 => ?_
          rw [nI_1]
          refine rx_turnTo X hm hq (by omega) im ?_
          have b3 := bd i (i + 1) (by omega) im
          refine wk_ble 0 (ge_cr (P (q i)) (P (q (i + 1))) p) (fun s => ?_) (fun s => r0 fun i' => ?_)
          · have T := wh_tri C hb i1 im ci (Int.le_of_lt ci1) s
            refine wk_beq (ge_cr (P (q i)) (P (q (i + 1))) p) 0 (fun s0 => r1 (Or.inr (Or.inr ⟨h3, T.1⟩)) fun st => ?_) (fun s0 => r2 ⟨h3, fun k => ?_⟩)
            · have : 0 < ge_cr (P (q i)) (P (q (i + 1))) p := st.2 i
              omega
            · have lm := Nat.mod_lt k (show 0 < m by omega)
              rw [wh_all C]
              by_cases k0 : k % m = 0
              · rw [k0]
                show 0 < ge_cr (P (q 0)) (P (q 1)) p
                omega
              · by_cases kl : k % m = m - 1
                · rw [kl]
                  show 0 < ge_cr (P (q (m - 1))) (P (q (m - 1 + 1))) p
                  omega
                · refine T.2 ?_ (k % m) (by omega) (by omega)
                  show 0 < ge_cr (P (q i)) (P (q (i + 1))) p
                  omega
          · have : 0 ≤ ge_cr (P (q i)) (P (q (i + 1))) p := wh_in3 h3 i' i
            omega
    · have : 0 ≤ ge_cr (P (q (m - 1))) (P (q (m - 1 + 1))) p := wh_in3 h3 i (m - 1)
      omega
  · have nst : ¬ wh_st m (fun k => P (q k)) p := fun s => h3 s.1
    refine br_f (nI_ge (b := 3) (by omega) (by omega)) (nm_r em ?_)
    have b0 := bd 0 (m - 1) (by omega) (by omega)
    refine rx_turnTo (i := 0) X hm hq (by omega) (by omega) ?_
    rcases (show m = 1 ∨ m = 2 by omega) with rfl | rfl
    · have b0' : -7938 ≤ ge_cr (P (q 0)) (P (q 0)) p ∧ ge_cr (P (q 0)) (P (q 0)) p ≤ 7938 := b0
      show _ ∧ _
      refine wk_beq (ge_cr (P (q 0)) (P (q 0)) p) 0 (fun _ => ?_) (fun x => absurd (ge_cr0 _ _) x)
      refine rx_isBetween (i := 0) (j := 0) X hm hq hp (by omega) (by omega) (fun w => br_f (by decide) (r1 (Or.inl ⟨rfl, ?_⟩) nst)) (fun w => br_t rfl (r0 fun i => ?_))
      · have e : ge_dt p (P (q 0)) (P (q 0)) = ge_sq p (P (q 0)) := ge_dt2 _ _
        have := ge_sqn p (P (q 0))
        exact ge_sqz (show ge_sq p (P (q 0)) = 0 by omega)
      · rcases i with ⟨_, e⟩ | ⟨e, _⟩ | ⟨e, _⟩
        · have e' : p = P (q 0) := e
          rw [← e', ge_dt2, ge_sq0] at w
          omega
        · omega
        · omega
    · have C : ge_CH S 2 (fun k => P (q k)) := by
        rcases H with ⟨e, _⟩ | ⟨e, _⟩ | ⟨C, _⟩
        · omega
        · omega
        · exact C
      have n01 : P (q 0) ≠ P (q 1) := C.2.2.2 0 1 (by omega) (by omega)
      have b0' : -7938 ≤ ge_cr (P (q 0)) (P (q 1)) p ∧ ge_cr (P (q 0)) (P (q 1)) p ≤ 7938 := b0
      show _ ∧ _
      refine wk_beq (ge_cr (P (q 0)) (P (q 1)) p) 0 (fun x => ?_) (fun x => r0 fun i => ?_)
      · refine rx_isBetween (i := 0) (j := 1) X hm hq hp (by omega) (by omega) (fun w => br_f (by decide) (r1 (Or.inr (Or.inl ⟨rfl, x, (wh_btw n01 x).mp w⟩)) nst)) (fun w => br_t rfl (r0 fun i => ?_))
        rcases i with ⟨e, _⟩ | ⟨_, _, e⟩ | ⟨e, _⟩
        · omega
        · have := (wh_btw n01 x).mpr e
          omega
        · omega
      · rcases i with ⟨e, _⟩ | ⟨_, e, _⟩ | ⟨e, _⟩
        · omega
        · exact x e
        · omega
theorem ry_where {h : Nat → Int × Int} {c : Nat → Nat} (hm : m ≤ 24) (hc : ∀ i, i < m → a_list i = nI (c i) ∧ c i < 4096 ∧ wk_pt (c i) = h i) {S : Int × Int → Prop} (H : hu_H S m h) {p : Nat} (hp : p < 4096) {r : Nat} (V : wh_V m h (wk_pt p) r) {post : Int32 → Prop} (hpost : post (nI r)) : wpY_where post (nI m, a_spots, a_left, a_list) (nI p) := by
  have r0 : ¬ wh_in m h (wk_pt p) → post 0 := fun n => by rw [wh_0 V n] at hpost; exact hpost
  have r1 : wh_in m h (wk_pt p) → ¬ wh_st m h (wk_pt p) → post 1 := fun i n => by rw [wh_1 V i n] at hpost; exact hpost
  have r2 : wh_st m h (wk_pt p) → post 2 := fun s => by rw [wh_2 V s] at hpost; exact hpost
  unfold wpY_where
  dsimp only
  by_cases h3 : 3 ≤ m
  · have C : ge_CH S m h := by
      rcases H with ⟨e, _⟩ | ⟨e, _⟩ | ⟨C, _⟩
      · omega
      · omega
      · exact C
    have all : ∀ {Q : Int → Prop}, (∀ k, k < m → Q (ge_cr (h k) (h (k + 1)) (wk_pt p))) → ∀ k, Q (ge_cr (h k) (h (k + 1)) (wk_pt p)) := fun {Q} f k => by
      rw [wh_all C]; exact f _ (Nat.mod_lt _ (by omega))
    have A : ∀ (d i N : Nat) (z : Int), i + d = m → d < N → z ≤ 1 → -7938 ≤ z → (∀ k, k < i → z ≤ ge_cr (h k) (h (k + 1)) (wk_pt p)) → (z = 1 ∨ ∃ k, k < i ∧ z = ge_cr (h k) (h (k + 1)) (wk_pt p)) → wY_where_114 post (nI p) (nI m) a_spots a_left a_list N (wk_i z) (nI i) := by
      intro d
      induction d with
      | zero =>
        intro i N z hi hN z1 z2 zl ze
        obtain ⟨N, rfl⟩ : ∃ M, N = M + 1 := ⟨N - 1, by omega⟩
        have e : i = m := by omega
        subst e
        rw [wY_where_114]
        refine br_t (nI_le (Nat.le_refl _) (by omega)) (wk_ble z 0 (fun y => wk_beq z 0 (fun x => ?_) (fun x => ?_)) (fun y => ?_))
        · rcases ze with ze | ⟨k, k1, k2⟩
          · omega
          · refine r1 (Or.inr (Or.inr ⟨h3, all (Q := fun t => 0 ≤ t) fun j hj => ?_⟩)) fun st => ?_
            · have := zl j hj; omega
            · have := st.2 k; omega
        · rcases ze with ze | ⟨k, k1, k2⟩
          · omega
          · refine r0 fun w => ?_
            have := wh_in3 h3 w k
            omega
        · refine r2 ⟨h3, all (Q := fun t => 0 < t) fun j hj => ?_⟩
          have := zl j hj; omega
      | succ d ih =>
        intro i N z hi hN z1 z2 zl ze
        obtain ⟨N, rfl⟩ : ∃ M, N = M + 1 := ⟨N - 1, by omega⟩
        have l := Nat.mod_lt (i + 1) (show 0 < m by omega)
        have c1 := hc i (by omega)
        have c2 := hc _ l
        rw [wY_where_114]
        dsimp only
        rw [nI_1, pk_rem (by omega) (by omega) (by omega), nI_clamp (show i < 2 ^ 31 by omega), nI_clamp (show (i + 1) % m < 2 ^ 31 by omega), c1.1, c2.1]
        have bd := ge_crb wy_b (p := wk_pt (c i)) (q := wk_pt (c ((i + 1) % m))) (r := wk_pt p) ⟨_, c1.2.1, rfl⟩ ⟨_, c2.2.1, rfl⟩ ⟨_, hp, rfl⟩
        refine br_f (nI_ge (by omega) (by omega)) ⟨vp_in_nI (by omega) (by omega), nI_ne0 (by omega) (by omega), vp_in_nI (by omega) (by omega), wy_turn c1.2.1 c2.2.1 hp ?_⟩
        have es : ge_cr (wk_pt (c i)) (wk_pt (c ((i + 1) % m))) (wk_pt p) = ge_cr (h i) (h (i + 1)) (wk_pt p) := by
          rw [c1.2.2, c2.2.2, ← ge_per C (i + 1)]
        rw [es] at bd ⊢
        refine wk_ble z (ge_cr (h i) (h (i + 1)) (wk_pt p)) (fun y => nm_e (ih (i + 1) N z (by omega) (by omega) z1 z2 (lt_s zl y) ?_)) (fun y => nm_e (ih (i + 1) N (ge_cr (h i) (h (i + 1)) (wk_pt p)) (by omega) (by omega) (by omega) (by omega) (lt_s (fun k hk => ?_) (Int.le_refl _)) (Or.inr ⟨i, by omega, rfl⟩)))
        · rcases ze with ze | ⟨k, k1, k2⟩
          · exact Or.inl ze
          · exact Or.inr ⟨k, by omega, k2⟩
        · have := zl k hk; omega
    exact br_t (nI_le (a := 3) h3 (by omega)) ⟨m + 1, A m 0 (m + 1) 1 (by omega) (by omega) (by omega) (by omega) (fun k hk => absurd hk (by omega)) (Or.inl rfl)⟩
  · have nst : ¬ wh_st m h (wk_pt p) := fun s => h3 s.1
    refine br_f (nI_ge (b := 3) (by omega) (by omega)) ?_
    have i94 : wh_in m h (wk_pt p) → wY_where_94 post (nI m) a_spots a_left a_list := fun i => by
      unfold wY_where_94 wY_where_99
      exact br_f (by decide) (r1 i nst)
    have i98 : ¬ wh_in m h (wk_pt p) → wY_where_98 post (nI m) a_spots a_left a_list := fun i => by
      unfold wY_where_98 wY_where_99
      exact br_t rfl (r0 i)
    refine pk_eq m 1 (fun e => ?_) (fun e => ?_)
    · subst e
      have c0 := hc 0 (by omega)
      rw [c0.1]
      refine pk_eq p (c 0) (fun e => i94 (Or.inl ⟨rfl, by rw [e, c0.2.2]⟩)) (fun e => ?_) (hb := by have := c0.2.1; omega)
      unfold wY_where_26
      refine br_f (by decide) (i98 fun i => ?_)
      rcases i with ⟨_, x⟩ | ⟨x, _⟩ | ⟨x, _⟩
      · exact e (wk_pt_inj (by rw [x, c0.2.2]))
      · omega
      · omega
    · unfold wY_where_26
      refine pk_eq m 2 (fun e2 => ?_) (fun e2 => i98 fun i => ?_)
      · subst e2
        have c0 := hc 0 (by omega)
        have c1 := hc 1 (by omega)
        rw [c0.1, c1.1]
        have bd := ge_crb wy_b (p := wk_pt (c 0)) (q := wk_pt (c 1)) (r := wk_pt p) ⟨_, c0.2.1, rfl⟩ ⟨_, c1.2.1, rfl⟩ ⟨_, hp, rfl⟩
        refine wy_turn c0.2.1 c1.2.1 hp ?_
        have dr := ge_dtr (wk_pt (c 0)) (wk_pt (c 1)) (wk_pt p)
        have no : ¬ (ge_cr (wk_pt (c 0)) (wk_pt (c 1)) (wk_pt p) = 0 ∧ 0 ≤ ge_dt (wk_pt (c 0)) (wk_pt (c 1)) (wk_pt p) ∧ 0 ≤ ge_dt (wk_pt (c 1)) (wk_pt (c 0)) (wk_pt p)) → ¬ wh_in 2 h (wk_pt p) := fun n i => by
          rcases i with ⟨x, _⟩ | ⟨_, x⟩ | ⟨x, _⟩
          · omega
          · rw [← c0.2.2, ← c1.2.2] at x
            exact n ⟨x.1, x.2.1, by omega⟩
          · omega
        refine wk_beq (ge_cr (wk_pt (c 0)) (wk_pt (c 1)) (wk_pt p)) 0 (fun x => wy_behind c0.2.1 c1.2.1 hp (fun y => br_t rfl (wy_behind c1.2.1 c0.2.1 hp (fun w => br_t rfl (i94 ?_)) (fun w => br_f (by decide) (i98 (no (by omega)))))) (fun y => br_f (by decide) (i98 (no (by omega))))) (fun x => i98 (no fun w => x w.1))
        refine Or.inr (Or.inl ⟨rfl, ?_⟩)
        rw [← c0.2.2, ← c1.2.2]
        exact ⟨x, y, by omega⟩
      · rcases i with ⟨x, _⟩ | ⟨x, _⟩ | ⟨x, _⟩ <;> omega
end
end
section
/-! border, holds, layer -/
theorem wh_u {m : Nat} {h : Nat → Int × Int} {p : Int × Int} {r r' : Nat} (V : wh_V m h p r) (V' : wh_V m h p r') : r = r' := by
  rcases V' with ⟨a, e⟩ | ⟨a, b, e⟩ | ⟨a, e⟩
  · rw [wh_0 V a, e]
  · rw [wh_1 V a b, e]
  · rw [wh_2 V a, e]
theorem wh_tr {S : Int × Int → Prop} (hb : ge_bd S) {m m' : Nat} {h h' : Nat → Int × Int} (H : hu_H S m h) (H' : hu_H S m' h') {p : Int × Int} {r : Nat} (V : wh_V m h p r) : wh_V m' h' p r := by
  obtain ⟨em, eh⟩ := hu_Hu hb H H'
  subst em
  rcases H with ⟨e, s⟩ | ⟨e, s⟩ | ⟨C, s⟩
  · subst e
    have n : ∀ h, ¬ wh_in 0 h p := fun h i => by rcases i with ⟨x, _⟩ | ⟨x, _⟩ | ⟨x, _⟩ <;> omega
    rw [wh_0 V (n _)]
    exact Or.inl ⟨n _, rfl⟩
  · subst e
    have e0 := eh 0 (by omega)
    have ii : ∀ {h h' : Nat → Int × Int}, h 0 = h' 0 → wh_in 1 h p → wh_in 1 h' p := fun e i => by
      rcases i with ⟨x, y⟩ | ⟨x, _⟩ | ⟨x, _⟩
      · exact Or.inl ⟨x, by rw [← e]; exact y⟩
      · omega
      · omega
    have ns : ∀ h, ¬ wh_st 1 h p := fun h s => absurd s.1 (by omega)
    rcases V with ⟨a, e⟩ | ⟨a, b, e⟩ | ⟨a, e⟩
    · exact Or.inl ⟨fun i => a (ii e0.symm i), e⟩
    · exact Or.inr (Or.inl ⟨ii e0 a, ns _, e⟩)
    · exact absurd a (ns _)
  · have C' : ge_CH S m h' := by
      rcases H' with ⟨e, _⟩ | ⟨e, _⟩ | ⟨C', _⟩
      · have := C.1; omega
      · have := C.1; omega
      · exact C'
    have U := ge_uniq C C' (eh 0 (by have := C.1; omega))
    have e : h = h' := funext U.2
    rw [← e]; exact V
def rl_on (S : Int × Int → Prop) (p : Int × Int) : Prop := ∃ m h, hu_H S m h ∧ wh_V m h p 1
theorem rl_on_iff {S : Int × Int → Prop} (hb : ge_bd S) {m : Nat} {h : Nat → Int × Int} (H : hu_H S m h) {p : Int × Int} {r : Nat} (V : wh_V m h p r) : rl_on S p ↔ r = 1 := by
  constructor
  · rintro ⟨m', h', H', V'⟩
    exact wh_u V (wh_tr hb H' H V')
  · intro e
    subst e
    exact ⟨m, h, H, V⟩
/-- the first corner is on the border -/
theorem rl_on0 {S : Int × Int → Prop} {m : Nat} {h : Nat → Int × Int} (H : hu_H S m h) {p : Int × Int} (hp : S p) : ∃ q, S q ∧ rl_on S q := by
  refine ⟨h 0, ?_, m, h, H, ?_⟩
  · rcases H with ⟨_, s⟩ | ⟨_, s⟩ | ⟨C, _⟩
    · exact absurd hp (s _)
    · exact (s _).mpr rfl
    · exact ge_ch_S C 0
  · refine Or.inr (Or.inl ⟨?_, ?_, rfl⟩)
    · rcases H with ⟨_, s⟩ | ⟨e, s⟩ | ⟨C, _⟩
      · exact absurd hp (s _)
      · exact Or.inl ⟨e, rfl⟩
      · by_cases h3 : 3 ≤ m
        · exact Or.inr (Or.inr ⟨h3, fun k => ge_nx_ge (C.2.2.1 k) (ge_ch_S C 0)⟩)
        · have e : m = 2 := by have := C.1; omega
          exact Or.inr (Or.inl ⟨e, ge_cr1 _ _, by rw [ge_dt1]; exact Int.le_refl _, by rw [ge_dt1]; exact ge_sqn _ _⟩)
    · intro s
      have : 0 < ge_cr (h 0) (h 1) (h 0) := s.2 0
      rw [ge_cr1] at this
      omega
theorem rl_pt (v : Nat) : nI (v % 64) = wk_i (wk_pt v).1 ∧ nI (v / 64) = wk_i (wk_pt v).2 := ⟨wk_n _, wk_n _⟩
section
variable {f_present f_count f_size f_keptSize f_waiting : Int32} {a_placeOf a_x a_y a_hull a_kept a_found a_order a_waitA a_waitB a_nextLow a_beforeLow a_nextHigh a_beforeHigh : Nat → Int32} {f_many : Int32} {a_spots a_left a_list : Nat → Int32}
theorem rx_bor {v : Nat → Nat} {st : Int32} (hv : ∀ k, k < 24 → bt st k = true → a_placeOf k = nI (v k) ∧ v k < 4096) {n : Nat} {P : Nat → Int × Int} {m : Nat} {q : Nat → Nat} (X : wk_XP n P a_x a_y) (hm : m ≤ 24) (hq : ∀ k, k < m → a_hull k = nI (q k) ∧ q k < n) (H : hu_H (wy_S (bt st) v) m (fun k => P (q k))) {post : Int32 → SX → Prop} (hp : ∀ b, (∀ j, j < 32 → (bt b j = true ↔ j < 24 ∧ bt st j = true ∧ rl_on (wy_S (bt st) v) (wk_pt (v j)))) → post b (f_present, f_count, nI m, f_keptSize, f_waiting, a_placeOf, a_x, a_y, a_hull, a_kept, a_found, a_order, a_waitA, a_waitB, a_nextLow, a_beforeLow, a_nextHigh, a_beforeHigh)) : ∀ (d i N : Nat) (b : Int32), i + d = 24 → d < N → (∀ j, j < 32 → (bt b j = true ↔ j < i ∧ bt st j = true ∧ rl_on (wy_S (bt st) v) (wk_pt (v j)))) → wX_borderOf_10 post st f_present f_count (nI m) f_keptSize f_waiting a_placeOf a_x a_y a_hull a_kept a_found a_order a_waitA a_waitB a_nextLow a_beforeLow a_nextHigh a_beforeHigh N b (nI i) := by
  have hb : ge_bd (wy_S (bt st) v) := wy_Sb fun k hk b => (hv k hk b).2
  intro d
  induction d with
  | zero =>
    intro i N b hi hN h
    obtain ⟨N, rfl⟩ : ∃ M, N = M + 1 := ⟨N - 1, by omega⟩
    have e : i = 24 := by omega
    subst e
    rw [wX_borderOf_10]
    exact br_t (nI_le (a := 24) (by omega) (by omega)) (hp b h)
  | succ d ih =>
    intro i N b hi hN h
    obtain ⟨N, rfl⟩ : ∃ M, N = M + 1 := ⟨N - 1, by omega⟩
    have I := ih (i + 1) N
    rw [← nI_1] at I
    have no : ¬ (bt st i = true ∧ rl_on (wy_S (bt st) v) (wk_pt (v i))) → wX_borderOf_54 post (wX_borderOf_10 post st f_present f_count (nI m) f_keptSize f_waiting a_placeOf a_x a_y a_hull a_kept a_found a_order a_waitA a_waitB a_nextLow a_beforeLow a_nextHigh a_beforeHigh N) st b (nI i) f_present f_count (nI m) f_keptSize f_waiting a_placeOf a_x a_y a_hull a_kept a_found a_order a_waitA a_waitB a_nextLow a_beforeLow a_nextHigh a_beforeHigh := fun n => by
      unfold wX_borderOf_54 wX_borderOf_55
      refine br_t rfl (nm_r (e' := b) (by rw [Int32.or_zero]) (nm_e (I b (by omega) (by omega) fun j hj => (h j hj).trans ⟨fun z => ⟨by omega, z.2⟩, fun z => ⟨?_, z.2⟩⟩)))
      have : j ≠ i := fun e => n (e ▸ z.2)
      omega
    have yes : (bt st i = true ∧ rl_on (wy_S (bt st) v) (wk_pt (v i))) → wX_borderOf_55 post (wX_borderOf_10 post st f_present f_count (nI m) f_keptSize f_waiting a_placeOf a_x a_y a_hull a_kept a_found a_order a_waitA a_waitB a_nextLow a_beforeLow a_nextHigh a_beforeHigh N) st b (nI i) 1 f_present f_count (nI m) f_keptSize f_waiting a_placeOf a_x a_y a_hull a_kept a_found a_order a_waitA a_waitB a_nextLow a_beforeLow a_nextHigh a_beforeHigh := fun y => by
      unfold wX_borderOf_55
      refine br_f (by decide) (nm_e (nm_e (I _ (by omega) (by omega) fun j hj => ?_)))
      rw [wk_seto b (by omega) hj]
      by_cases c : j = i
      · subst c
        simp only [decide_true, Bool.or_true, true_iff]
        exact ⟨by omega, y⟩
      · simp only [c, decide_false, Bool.or_false]
        exact (h j hj).trans ⟨fun z => ⟨by omega, z.2⟩, fun z => ⟨by omega, z.2⟩⟩
    rw [wX_borderOf_10]
    dsimp only
    refine br_f (nI_ge (b := 24) (by omega) (by omega)) (wk_bbit (by omega) (fun b0 => no fun z => by rw [b0] at z; exact absurd z.1 (by decide)) (fun b1 => ?_))
    obtain ⟨p1, p2⟩ := hv i (by omega) b1
    have v24 := vp_in_nI (n := i) (N := 24) (by omega) (by omega)
    rw [nI_clamp (show i < 2 ^ 31 by omega), p1, wk_r64 (by omega), wk_d64 (by omega), (rl_pt (v i)).1, (rl_pt (v i)).2]
    obtain ⟨r, hr, V⟩ := wh_ex m (fun k => P (q k)) (wk_pt (v i))
    refine ⟨v24, wk_64, v24, wk_64, rx_where X hm hq hb H (wk_pt_b p2) V ?_⟩
    have O := rl_on_iff hb H V
    refine pk_eq r 1 (fun e => yes ⟨b1, O.mpr e⟩) (fun e => no fun z => e (O.mp z.2))
theorem rx_borderOf {v : Nat → Nat} {st : Int32} (hv : ∀ k, k < 24 → bt st k = true → a_placeOf k = nI (v k) ∧ v k < 4096) {post : Int32 → SX → Prop} (hp : ∀ (b f_count f_size f_keptSize f_waiting : Int32) (a_x a_y a_hull a_kept a_order a_waitA a_waitB a_nextLow a_beforeLow a_nextHigh a_beforeHigh : Nat → Int32), (∀ j, j < 32 → (bt b j = true ↔ j < 24 ∧ bt st j = true ∧ rl_on (wy_S (bt st) v) (wk_pt (v j)))) → post b (f_present, f_count, f_size, f_keptSize, f_waiting, a_placeOf, a_x, a_y, a_hull, a_kept, a_found, a_order, a_waitA, a_waitB, a_nextLow, a_beforeLow, a_nextHigh, a_beforeHigh)) : wpX_borderOf post (f_present, f_count, f_size, f_keptSize, f_waiting, a_placeOf, a_x, a_y, a_hull, a_kept, a_found, a_order, a_waitA, a_waitB, a_nextLow, a_beforeLow, a_nextHigh, a_beforeHigh) st := by
  unfold wpX_borderOf
  dsimp only
  refine rx_solve (e := 2) (by omega) hv fun n P m q _ _ a_x a_y a_hull _ _ _ _ _ _ _ _ hn hmn so es H X hq => ?_
  dsimp only
  exact ⟨25, rx_bor hv X (by omega) hq H (fun b hb => hp b _ _ _ _ _ _ _ _ _ _ _ _ _ _ _ hb) 24 0 25 0 (by omega) (by omega) (fun j hj => by
    rw [b_0]
    exact ⟨fun z => absurd z (by decide), fun z => absurd z.1 (by omega)⟩)⟩
theorem ry_border {B : Nat → Bool} {v : Nat → Nat} (SP : wy_SP B v a_spots) {m : Nat} {hh : Nat → Int × Int} {c : Nat → Nat} (hm : m ≤ 24) (hc : ∀ i, i < m → a_list i = nI (c i) ∧ c i < 4096 ∧ wk_pt (c i) = hh i) (H : hu_H (wy_S B v) m hh) {post : Int32 → SY → Prop} (hp : ∀ b, (∀ j, j < 32 → (bt b j = true ↔ j < 24 ∧ B j = true ∧ rl_on (wy_S B v) (wk_pt (v j)))) → post b (nI m, a_spots, a_left, a_list)) : ∀ (d i N : Nat) (b : Int32), i + d = 24 → d < N → (∀ j, j < 32 → (bt b j = true ↔ j < i ∧ B j = true ∧ rl_on (wy_S B v) (wk_pt (v j)))) → wY_border_8 post (nI m) a_spots a_left a_list N b (nI i) := by
  have hb : ge_bd (wy_S B v) := wy_Sb fun k hk b => ((SP k hk).1 b).2
  intro d
  induction d with
  | zero =>
    intro i N b hi hN h
    obtain ⟨N, rfl⟩ : ∃ M, N = M + 1 := ⟨N - 1, by omega⟩
    have e : i = 24 := by omega
    subst e
    rw [wY_border_8]
    exact br_t (nI_le (a := 24) (by omega) (by omega)) (hp b h)
  | succ d ih =>
    intro i N b hi hN h
    obtain ⟨N, rfl⟩ : ∃ M, N = M + 1 := ⟨N - 1, by omega⟩
    have I := ih (i + 1) N
    rw [← nI_1] at I
    have no : ¬ (B i = true ∧ rl_on (wy_S B v) (wk_pt (v i))) → wY_border_8 post (nI m) a_spots a_left a_list N b (nI i + 1) := fun n => by
      refine I b (by omega) (by omega) fun j hj => (h j hj).trans ⟨fun z => ⟨by omega, z.2⟩, fun z => ⟨?_, z.2⟩⟩
      have : j ≠ i := fun e => n (e ▸ z.2)
      omega
    rw [wY_border_8]
    dsimp only
    refine br_f (nI_ge (b := 24) (by omega) (by omega)) (wy_isB SP (by omega) (fun b1 => br_f (by decide) ?_) (fun b0 => br_t rfl (nm_e (no fun z => b0 z.1))))
    obtain ⟨p1, p2⟩ := (SP i (by omega)).1 b1
    rw [nI_clamp (show i < 2 ^ 31 by omega), p1, show nI (v i + 1) - 1 = nI (v i) from nI_pred _]
    obtain ⟨r, hr, V⟩ := wh_ex m hh (wk_pt (v i))
    refine ⟨vp_in_nI (by omega) (by omega), ry_where hm hc H p2 V ?_⟩
    have O := rl_on_iff hb H V
    refine pk_eq r 1 (fun e => nm_e (nm_e (I _ (by omega) (by omega) fun j hj => ?_))) (fun e => nm_e (no fun z => e (O.mp z.2)))
    rw [wk_seto b (by omega) hj]
    by_cases c : j = i
    · subst c
      simp only [decide_true, Bool.or_true, true_iff]
      exact ⟨by omega, b1, O.mpr e⟩
    · simp only [c, decide_false, Bool.or_false]
      exact (h j hj).trans ⟨fun z => ⟨by omega, z.2⟩, fun z => ⟨by omega, z.2⟩⟩
end
/-! layers -/
def rl_nx (v : Nat → Nat) (L L' : Nat → Bool) : Prop := ∀ j, j < 24 → (L' j = true ↔ L j = true ∧ ¬ rl_on (wy_S L v) (wk_pt (v j)))
def rl_run (v : Nat → Nat) (k : Nat) : Nat → (Nat → Bool) → Prop
  | 0, L => rl_on (wy_S L v) (wk_pt (v k))
  | n + 1, L => ¬ rl_on (wy_S L v) (wk_pt (v k)) ∧ ∀ L', rl_nx v L L' → rl_run v k n L'
theorem rl_Sc {v : Nat → Nat} {L L' : Nat → Bool} (h : ∀ j, j < 24 → L j = L' j) : wy_S L v = wy_S L' v := by
  funext r
  apply propext
  constructor
  · rintro ⟨k, k1, k2, k3⟩
    exact ⟨k, k1, by rw [← h k k1]; exact k2, k3⟩
  · rintro ⟨k, k1, k2, k3⟩
    exact ⟨k, k1, by rw [h k k1]; exact k2, k3⟩
theorem rl_cong {v : Nat → Nat} {k : Nat} {L L' : Nat → Bool} (h : ∀ j, j < 24 → L j = L' j) : ∀ n, rl_run v k n L → rl_run v k n L'
  | 0, r => by
    have r' : rl_on (wy_S L v) (wk_pt (v k)) := r
    rw [rl_Sc h] at r'
    exact r'
  | n + 1, r => by
    obtain ⟨r1, r2⟩ := r
    rw [rl_Sc h] at r1
    refine ⟨r1, fun L'' x => r2 L'' fun j hj => ?_⟩
    rw [h j hj, rl_Sc h]
    exact x j hj
def rl_cnt (f : Nat → Bool) : Nat → Nat
  | 0 => 0
  | k + 1 => rl_cnt f k + (if f k = true then 1 else 0)
theorem rl_cle {f g : Nat → Bool} : ∀ n, (∀ j, j < n → g j = true → f j = true) → rl_cnt g n ≤ rl_cnt f n
  | 0, _ => Nat.le_refl _
  | n + 1, h => by
    have a := rl_cle n (fun j hj => h j (by omega))
    have b := h n (by omega)
    show rl_cnt g n + (if g n = true then 1 else 0) ≤ rl_cnt f n + (if f n = true then 1 else 0)
    by_cases c : g n = true
    · rw [if_pos c, if_pos (b c)]; omega
    · rw [if_neg c]; omega
theorem rl_clt {f g : Nat → Bool} : ∀ n, (∀ j, j < n → g j = true → f j = true) → (∃ j, j < n ∧ f j = true ∧ g j ≠ true) → rl_cnt g n < rl_cnt f n
  | 0, _, ⟨j, hj, _⟩ => absurd hj (by omega)
  | n + 1, h, ⟨j, hj, f1, g1⟩ => by
    show rl_cnt g n + (if g n = true then 1 else 0) < rl_cnt f n + (if f n = true then 1 else 0)
    by_cases e : j = n
    · subst e
      have a := rl_cle j (f := f) (g := g) (fun i hi => h i (by omega))
      rw [if_neg g1, if_pos f1]; omega
    · have a := rl_clt n (f := f) (g := g) (fun i hi => h i (by omega)) ⟨j, by omega, f1, g1⟩
      have b := h n (by omega)
      by_cases c : g n = true
      · rw [if_pos c, if_pos (b c)]; omega
      · rw [if_neg c]; omega
theorem rl_runs {v : Nat → Nat} {k : Nat} (hk : k < 24) : ∀ (d : Nat) (L : Nat → Bool), (∀ j, j < 24 → L j = true → v j < 4096) → L k = true → rl_cnt L 24 ≤ d → ∃ n, n < d ∧ rl_run v k n L := by
  intro d
  induction d with
  | zero =>
    intro L hv Lk hc
    exfalso
    have := rl_clt (f := L) (g := fun _ => false) 24 (fun j _ z => absurd z (by decide)) ⟨k, hk, Lk, by decide⟩
    omega
  | succ d ih =>
    intro L hv Lk hc
    by_cases o : rl_on (wy_S L v) (wk_pt (v k))
    · exact ⟨0, by omega, o⟩
    · have hb := wy_Sb hv
      obtain ⟨m, h, H⟩ := hu_ex hv
      obtain ⟨q, ⟨j, j1, j2, j3⟩, oq⟩ := rl_on0 H (p := wk_pt (v k)) ⟨k, hk, Lk, rfl⟩
      rw [← j3] at oq
      let L' : Nat → Bool := fun j => @decide (L j = true ∧ ¬ rl_on (wy_S L v) (wk_pt (v j))) (Classical.propDecidable _)
      have hL' : ∀ j, L' j = true ↔ L j = true ∧ ¬ rl_on (wy_S L v) (wk_pt (v j)) := fun j => @decide_eq_true_iff _ (Classical.propDecidable _)
      have lt := rl_clt (f := L) (g := L') 24 (fun i _ z => ((hL' i).mp z).1) ⟨j, j1, j2, fun z => ((hL' j).mp z).2 oq⟩
      obtain ⟨n, hn, r⟩ := ih L' (fun i hi z => hv i hi ((hL' i).mp z).1) ((hL' k).mpr ⟨Lk, o⟩) (by omega)
      refine ⟨n + 1, by omega, o, fun L'' x => rl_cong (fun i hi => ?_) n r⟩
      have a := hL' i
      have b := x i hi
      have e : L' i = true ↔ L'' i = true := a.trans b.symm
      cases x1 : L' i <;> cases y1 : L'' i
      · rfl
      · rw [x1, y1] at e; exact absurd (e.mpr rfl) (by decide)
      · rw [x1, y1] at e; exact absurd (e.mp rfl) (by decide)
      · rfl
section
variable {f_present f_count f_size f_keptSize f_waiting : Int32} {a_placeOf a_x a_y a_hull a_kept a_found a_order a_waitA a_waitB a_nextLow a_beforeLow a_nextHigh a_beforeHigh : Nat → Int32} {f_many : Int32} {a_spots a_left a_list : Nat → Int32}
theorem rx_layer {v : Nat → Nat} {k : Nat} (hk : k < 24) {post : Int32 → SX → Prop} {n1 : Nat} (hp : ∀ (f_count f_size f_keptSize f_waiting : Int32) (a_x a_y a_hull a_kept a_order a_waitA a_waitB a_nextLow a_beforeLow a_nextHigh a_beforeHigh : Nat → Int32), post (nI n1) (f_present, f_count, f_size, f_keptSize, f_waiting, a_placeOf, a_x, a_y, a_hull, a_kept, a_found, a_order, a_waitA, a_waitB, a_nextLow, a_beforeLow, a_nextHigh, a_beforeHigh)) : ∀ (n n0 N : Nat) (st b f_count f_size f_keptSize f_waiting : Int32) (a_x a_y a_hull a_kept a_order a_waitA a_waitB a_nextLow a_beforeLow a_nextHigh a_beforeHigh : Nat → Int32), n0 + n = n1 → n < N → (∀ j, j < 24 → bt st j = true → a_placeOf j = nI (v j) ∧ v j < 4096) → bt st k = true → rl_run v k n (bt st) → (∀ j, j < 32 → (bt b j = true ↔ j < 24 ∧ bt st j = true ∧ rl_on (wy_S (bt st) v) (wk_pt (v j)))) → wX_layer_26 post (nI k) N st (nI n0) b f_present f_count f_size f_keptSize f_waiting a_placeOf a_x a_y a_hull a_kept a_found a_order a_waitA a_waitB a_nextLow a_beforeLow a_nextHigh a_beforeHigh := by
  intro n
  induction n with
  | zero =>
    intro n0 N st b f_count f_size f_keptSize f_waiting a_x a_y a_hull a_kept a_order a_waitA a_waitB a_nextLow a_beforeLow a_nextHigh a_beforeHigh hn hN hv sk run hb
    obtain ⟨N, rfl⟩ : ∃ M, N = M + 1 := ⟨N - 1, by omega⟩
    have e : n0 = n1 := by omega
    subst e
    have r : rl_on (wy_S (bt st) v) (wk_pt (v k)) := run
    have bk := (hb k (by omega)).mpr ⟨hk, sk, r⟩
    rw [wX_layer_26]
    exact wk_bbit (by omega) (fun z => by rw [bk] at z; exact absurd z (by decide)) (fun _ => hp _ _ _ _ _ _ _ _ _ _ _ _ _ _ _)
  | succ n ih =>
    intro n0 N st b f_count f_size f_keptSize f_waiting a_x a_y a_hull a_kept a_order a_waitA a_waitB a_nextLow a_beforeLow a_nextHigh a_beforeHigh hn hN hv sk run hb
    obtain ⟨N, rfl⟩ : ∃ M, N = M + 1 := ⟨N - 1, by omega⟩
    obtain ⟨no, run'⟩ := run
    have bk : bt b k ≠ true := fun z => no ((hb k (by omega)).mp z).2.2
    rw [wX_layer_26]
    refine wk_bbit (by omega) (fun _ => nm_e ?_) (fun z => absurd z bk)
    have hs : ∀ j, j < 24 → (bt (st &&& (b ^^^ (-1))) j = true ↔ bt st j = true ∧ ¬ rl_on (wy_S (bt st) v) (wk_pt (v j))) := fun j hj => by
      rw [wk_off st b (by omega)]
      have := hb j (by omega)
      cases x : bt st j
      · simp
      · cases y : bt b j
        · rw [x, y] at this
          simp only [Bool.not_false, Bool.and_self, true_and, true_iff]
          exact fun z => absurd (this.mpr ⟨hj, rfl, z⟩) (by decide)
        · rw [x, y] at this
          simp only [Bool.not_true, Bool.and_false, true_and]
          exact ⟨fun z => absurd z (by decide), fun z => absurd (this.mp rfl).2.2 z⟩
    have hv' : ∀ j, j < 24 → bt (st &&& (b ^^^ (-1))) j = true → a_placeOf j = nI (v j) ∧ v j < 4096 := fun j hj z => hv j hj ((hs j hj).mp z).1
    refine rx_borderOf hv' fun b' _ _ _ _ _ _ _ _ _ _ _ _ _ _ _ hb' => ?_
    dsimp only
    exact nm_r (nI_1 n0) (ih (n0 + 1) N _ b' _ _ _ _ _ _ _ _ _ _ _ _ _ _ _ (by omega) (by omega) hv' ((hs k hk).mpr ⟨sk, no⟩) (run' _ hs) hb')
theorem ry_peel {L : Nat → Bool} {v : Nat → Nat} {m : Nat} {hh : Nat → Int × Int} {c : Nat → Nat} (F : wy_LF L v a_spots a_left) (hm : m ≤ 24) (hc : ∀ i, i < m → a_list i = nI (c i) ∧ c i < 4096 ∧ wk_pt (c i) = hh i) (H : hu_H (wy_S L v) m hh) {post : SY → Prop} (hp : ∀ (L' : Nat → Bool) (left : Nat → Int32), rl_nx v L L' → wy_LF L' v a_spots left → post (nI m, a_spots, left, a_list)) : wpY_peel post (nI m, a_spots, a_left, a_list) := by
  have hb : ge_bd (wy_S L v) := wy_Sb fun k hk b => ((F k hk).2 b).2
  let L' : Nat → Bool := fun j => @decide (L j = true ∧ ¬ rl_on (wy_S L v) (wk_pt (v j))) (Classical.propDecidable _)
  have hL' : ∀ j, L' j = true ↔ L j = true ∧ ¬ rl_on (wy_S L v) (wk_pt (v j)) := fun j => @decide_eq_true_iff _ (Classical.propDecidable _)
  have A : ∀ (d i N : Nat) (left : Nat → Int32), i + d = 24 → d < N → (∀ j, j < i → left j = (if L' j = true then 1 else 0)) → (∀ j, i ≤ j → j < 24 → left j = a_left j) → wY_peel_2 post (nI m) N (nI i) a_spots left a_list := by
    intro d
    induction d with
    | zero =>
      intro i N left hi hN h1 h2
      obtain ⟨N, rfl⟩ : ∃ M, N = M + 1 := ⟨N - 1, by omega⟩
      have e : i = 24 := by omega
      subst e
      rw [wY_peel_2]
      exact br_t (nI_le (a := 24) (by omega) (by omega)) (hp L' left (fun j _ => hL' j) fun j hj => ⟨h1 j hj, fun z => (F j hj).2 ((hL' j).mp z).1⟩)
    | succ d ih =>
      intro i N left hi hN h1 h2
      obtain ⟨N, rfl⟩ : ∃ M, N = M + 1 := ⟨N - 1, by omega⟩
      have v24 := vp_in_nI (n := i) (N := 24) (by omega) (by omega)
      have go : ∀ z : Int32, z = (if L' i = true then 1 else 0) → wY_peel_2 post (nI m) N (nI i + 1) a_spots (upd left i z) a_list := fun z hz => by
        rw [nI_1]
        refine ih (i + 1) N _ (by omega) (by omega) (fun j hj => ?_) (fun j j1 j2 => by rw [pk_un (by omega)]; exact h2 j (by omega) j2)
        by_cases e : j = i
        · subst e; rw [pk_us, hz]
        · rw [pk_un e]; exact h1 j (by omega)
      obtain ⟨f1, f2⟩ := F i (by omega)
      rw [wY_peel_2]
      dsimp only
      rw [nI_clamp (show i < 2 ^ 31 by omega), h2 i (Nat.le_refl _) (by omega), f1, wk_f0, wk_f1]
      by_cases c1 : L i = true
      · obtain ⟨s1, s2⟩ := f2 c1
        rw [if_pos c1, s1, show nI (v i + 1) - 1 = nI (v i) from nI_pred _]
        obtain ⟨r, hr, V⟩ := wh_ex m hh (wk_pt (v i))
        have O := rl_on_iff hb H V
        refine br_f (nI_ge (b := 24) (by omega) (by omega)) ⟨v24, br_f (by decide) ⟨v24, ry_where hm hc H s2 V (pk_eq r 1 (fun e => ⟨v24, nm_e (nm_e (go 0 ?_))⟩) (fun e => ⟨v24, nm_e (nm_e (go 1 ?_))⟩))⟩⟩
        · rw [if_neg fun z => ((hL' i).mp z).2 (O.mpr e)]
        · rw [if_pos ((hL' i).mpr ⟨c1, fun z => e (O.mp z)⟩)]
      · rw [if_neg c1]
        refine br_f (nI_ge (b := 24) (by omega) (by omega)) ⟨v24, br_t rfl ⟨v24, nm_e (nm_e (go 0 ?_))⟩⟩
        rw [if_neg fun z => c1 ((hL' i).mp z).1]
  unfold wpY_peel
  exact ⟨25, A 24 0 25 a_left (by omega) (by omega) (fun j hj => absurd hj (by omega)) (fun j _ _ => rfl)⟩
theorem ry_layer {v : Nat → Nat} {k : Nat} (hk : k < 24) {post : Int32 → SY → Prop} {n1 : Nat} (hp : ∀ (f_many : Int32) (a_left a_list : Nat → Int32), post (nI n1) (f_many, a_spots, a_left, a_list)) : ∀ (n n0 N m : Nat) (L : Nat → Bool) (hh : Nat → Int × Int) (c : Nat → Nat) (a_left a_list : Nat → Int32), n0 + n = n1 → n < N → L k = true → rl_run v k n L → wy_LF L v a_spots a_left → m ≤ 24 → (∀ i, i < m → a_list i = nI (c i) ∧ c i < 4096 ∧ wk_pt (c i) = hh i) → hu_H (wy_S L v) m hh → wY_layer_18 post (nI k) N (nI n0) (nI m) a_spots a_left a_list := by
  intro n
  induction n with
  | zero =>
    intro n0 N m L hh c a_left a_list hn hN Lk run F hm hc H
    obtain ⟨N, rfl⟩ : ∃ M, N = M + 1 := ⟨N - 1, by omega⟩
    have e : n0 = n1 := by omega
    subst e
    have hb : ge_bd (wy_S L v) := wy_Sb fun k hk b => ((F k hk).2 b).2
    obtain ⟨s1, s2⟩ := (F k hk).2 Lk
    obtain ⟨r, hr, V⟩ := wh_ex m hh (wk_pt (v k))
    have O := rl_on_iff hb H V
    have r1 : rl_on (wy_S L v) (wk_pt (v k)) := run
    rw [wY_layer_18]
    dsimp only
    rw [nI_clamp (show k < 2 ^ 31 by omega), s1, show nI (v k + 1) - 1 = nI (v k) from nI_pred _]
    exact ⟨vp_in_nI hk (by omega), ry_where hm hc H s2 V (pk_eq r 1 (fun _ => hp _ _ _) (fun e => absurd (O.mp r1) e))⟩
  | succ n ih =>
    intro n0 N m L hh c a_left a_list hn hN Lk run F hm hc H
    obtain ⟨N, rfl⟩ : ∃ M, N = M + 1 := ⟨N - 1, by omega⟩
    have hb : ge_bd (wy_S L v) := wy_Sb fun k hk b => ((F k hk).2 b).2
    obtain ⟨s1, s2⟩ := (F k hk).2 Lk
    obtain ⟨no, run'⟩ := run
    obtain ⟨r, hr, V⟩ := wh_ex m hh (wk_pt (v k))
    have O := rl_on_iff hb H V
    rw [wY_layer_18]
    dsimp only
    rw [nI_clamp (show k < 2 ^ 31 by omega), s1, show nI (v k + 1) - 1 = nI (v k) from nI_pred _]
    refine ⟨vp_in_nI hk (by omega), ry_where hm hc H s2 V (pk_eq r 1 (fun e => absurd (O.mpr e) no) (fun e => ?_))⟩
    refine ry_peel F hm hc H fun L' left' nx F' => ?_
    dsimp only
    obtain ⟨m', h', H'⟩ := hu_ex (B := L') (v := v) (fun j hj z => ((F' j hj).2 z).2)
    refine wy_find F' H' fun list' c' hm' hc' => ?_
    dsimp only
    exact nm_r (nI_1 n0) (ih (n0 + 1) N m' L' h' c' left' list' (by omega) (by omega) ((nx k hk).mpr ⟨Lk, no⟩) (run' L' nx) F' hm' hc' H')
end
theorem i_vc_border {k : Nat} {u : SX} {v : SY} (I : i_Rel k u v) (hk : k + 3 ≤ 1536) : wpX_border (fun r u' => wpY_border (fun r' v' => r' = r ∧ i_Rel (k + 3) u' v') v) u := by
  obtain ⟨f_present, f_count, f_size, f_keptSize, f_waiting, a_placeOf, a_x, a_y, a_hull, a_kept, a_found, a_order, a_waitA, a_waitB, a_nextLow, a_beforeLow, a_nextHigh, a_beforeHigh⟩ := u
  obtain ⟨f_many, a_spots, a_left, a_list⟩ := v
  have I' : rl_R f_present a_placeOf a_spots := I
  have I2 := I'
  obtain ⟨hi, v, R⟩ := I'
  unfold wpX_border
  dsimp only
  refine rx_borderOf (rl_hv R) fun b _ _ _ _ _ _ _ _ _ _ _ _ _ _ _ hb => ?_
  dsimp only
  obtain ⟨m, hh, H⟩ := hu_ex (B := bt f_present) (v := v) (fun k hk b => (rl_hv R k hk b).2)
  unfold wpY_border
  dsimp only
  refine wy_look (rl_SP R) H fun left list c hm F hc => ?_
  refine ⟨25, ry_border (rl_SP R) hm hc H (fun b' hb' => ⟨?_, I2⟩) 24 0 25 0 (by omega) (by omega) (fun j hj => ?_)⟩
  · rw [b_0]
    exact ⟨fun z => absurd z (by decide), fun z => absurd z.1 (by omega)⟩
  · apply b_ext
    intro j hj
    have a := hb j hj
    have a' := hb' j hj
    have e : bt b' j = true ↔ bt b j = true := a'.trans a.symm
    cases x : bt b' j <;> cases y : bt b j
    · rfl
    · rw [x, y] at e; exact absurd (e.mpr rfl) (by decide)
    · rw [x, y] at e; exact absurd (e.mp rfl) (by decide)
    · rfl
theorem i_vc_holds {k : Nat} {u : SX} {v : SY} (I : i_Rel k u v) (hk : k + 3 ≤ 1536) (v1 : Int32) : wpX_holds (fun r u' => wpY_holds (fun r' v' => r' = r ∧ i_Rel (k + 3) u' v') v v1) u v1 := by
  obtain ⟨f_present, f_count, f_size, f_keptSize, f_waiting, a_placeOf, a_x, a_y, a_hull, a_kept, a_found, a_order, a_waitA, a_waitB, a_nextLow, a_beforeLow, a_nextHigh, a_beforeHigh⟩ := u
  obtain ⟨f_many, a_spots, a_left, a_list⟩ := v
  have I' : rl_R f_present a_placeOf a_spots := I
  have I2 := I'
  obtain ⟨hi, v, R⟩ := I'
  have hb : ge_bd (wy_S (bt f_present) v) := wy_Sb fun k hk b => (rl_hv R k hk b).2
  unfold wpX_holds
  dsimp only
  rcases rl_pl v1 4096 (by omega) with h | ⟨p, hp, rfl⟩
  · refine wx_isPlacen h (br_t rfl ?_)
    obtain ⟨m, hh, H⟩ := hu_ex (B := bt f_present) (v := v) (fun k hk b => (rl_hv R k hk b).2)
    unfold wpY_holds
    dsimp only
    refine wy_look (rl_SP R) H fun left list c hm F hc => ?_
    exact wy_isPlacen h (br_t rfl ⟨rfl, I2⟩)
  · refine wx_isPlace hp (br_f (by decide) ?_)
    refine rx_solve (e := 1) (by omega) (rl_hv R) fun n P m q _ _ a_x a_y a_hull _ _ _ _ _ _ _ _ hn hmn so es H X hq => ?_
    dsimp only
    rw [wk_r64 (by omega), wk_d64 (by omega), (rl_pt p).1, (rl_pt p).2]
    obtain ⟨r, hr, V⟩ := wh_ex m (fun k => P (q k)) (wk_pt p)
    refine ⟨wk_64, wk_64, rx_where X (by omega) hq hb H (wk_pt_b hp) V ?_⟩
    unfold wpY_holds
    dsimp only
    refine wy_look (rl_SP R) H fun left list c hm F hc => ?_
    exact wy_isPlace hp (br_f (by decide) (ry_where hm hc H hp V ⟨rfl, I2⟩))
theorem i_vc_layer {k : Nat} {u : SX} {v : SY} (I : i_Rel k u v) (hk : k + 3 ≤ 1536) (v1 : Int32) : wpX_layer (fun r u' => wpY_layer (fun r' v' => r' = r ∧ i_Rel (k + 3) u' v') v v1) u v1 := by
  obtain ⟨f_present, f_count, f_size, f_keptSize, f_waiting, a_placeOf, a_x, a_y, a_hull, a_kept, a_found, a_order, a_waitA, a_waitB, a_nextLow, a_beforeLow, a_nextHigh, a_beforeHigh⟩ := u
  obtain ⟨f_many, a_spots, a_left, a_list⟩ := v
  have I' : rl_R f_present a_placeOf a_spots := I
  have I2 := I'
  obtain ⟨hi, v, R⟩ := I'
  unfold wpX_layer
  dsimp only
  rcases rl_pl v1 24 (by omega) with h | ⟨p, hp, rfl⟩
  · refine wx_hasn h (br_t rfl ?_)
    unfold wpY_layer
    dsimp only
    exact wy_isn h (br_t rfl ⟨rfl, I2⟩)
  · refine wx_has hp (fun b => br_t rfl ?_) (fun b => br_f (by decide) ?_)
    · unfold wpY_layer
      dsimp only
      exact wy_is hp (fun _ => br_t rfl ⟨rfl, I2⟩) (fun z => absurd ((R p hp).2 b) z)
    · obtain ⟨n, hn, run⟩ := rl_runs hp (rl_cnt (bt f_present) 24) (bt f_present) (fun j hj z => (rl_hv R j hj z).2) b (Nat.le_refl _)
      refine rx_borderOf (rl_hv R) fun bo _ _ _ _ _ _ _ _ _ _ _ _ _ _ _ hb => ?_
      dsimp only
      refine ⟨n + 1, rx_layer hp (n1 := n) (fun _ _ _ _ _ _ _ _ _ _ _ _ _ _ _ => ?_) n 0 (n + 1) f_present bo _ _ _ _ _ _ _ _ _ _ _ _ _ _ _ (by omega) (by omega) (rl_hv R) b run hb⟩
      unfold wpY_layer
      dsimp only
      refine wy_isB (rl_SP R) hp (fun _ => br_f (by decide) ?_) (fun z => absurd b z)
      obtain ⟨m, hh, H⟩ := hu_ex (B := bt f_present) (v := v) (fun k hk b => (rl_hv R k hk b).2)
      refine wy_look (rl_SP R) H fun left list c hm F hc => ?_
      dsimp only
      exact ⟨n + 1, ry_layer hp (n1 := n) (fun _ _ _ => ⟨rfl, I2⟩) n 0 (n + 1) m (bt f_present) hh c left list (by omega) (by omega) b run F hm hc H⟩
end
section
/-! extreme -/
def ex_f (a b : Int) (p : Int × Int) : Int := a * p.1 + b * p.2
theorem ex_af (a b : Int) : ge_af (ex_f a b) := ⟨0, a, b, fun p => by unfold ex_f; omega⟩
theorem ex_b {a b : Int} (a1 : -64 ≤ a) (a2 : a ≤ 64) (b1 : -64 ≤ b) (b2 : b ≤ 64) {p : Int × Int} (hp : 0 ≤ p.1 ∧ p.1 ≤ 63 ∧ 0 ≤ p.2 ∧ p.2 ≤ 63) : -8064 ≤ ex_f a b p ∧ ex_f a b p ≤ 8064 := by
  have x1 := Int.mul_nonneg (show 0 ≤ 64 - a by omega) hp.1
  have x2 := Int.mul_nonneg (show 0 ≤ 64 + a by omega) hp.1
  have y1 := Int.mul_nonneg (show 0 ≤ 64 - b by omega) hp.2.2.1
  have y2 := Int.mul_nonneg (show 0 ≤ 64 + b by omega) hp.2.2.1
  have e1 : (64 - a) * p.1 = 64 * p.1 - a * p.1 := by grind
  have e2 : (64 + a) * p.1 = 64 * p.1 + a * p.1 := by grind
  have e3 : (64 - b) * p.2 = 64 * p.2 - b * p.2 := by grind
  have e4 : (64 + b) * p.2 = 64 * p.2 + b * p.2 := by grind
  unfold ex_f
  omega
def ex_M (S : Int × Int → Prop) (a b M : Int) : Prop := (∃ r, S r ∧ ex_f a b r = M) ∧ ∀ r, S r → ex_f a b r ≤ M
theorem ex_Mu {S : Int × Int → Prop} {a b M M' : Int} (h : ex_M S a b M) (h' : ex_M S a b M') : M = M' := by
  obtain ⟨⟨r, r1, r2⟩, r3⟩ := h
  obtain ⟨⟨s, s1, s2⟩, s3⟩ := h'
  have x := r3 s s1
  have y := s3 r r1
  omega
section
variable {f_present f_count f_size f_keptSize f_waiting : Int32} {a_placeOf a_x a_y a_hull a_kept a_found a_order a_waitA a_waitB a_nextLow a_beforeLow a_nextHigh a_beforeHigh : Nat → Int32} {f_many : Int32} {a_spots a_left a_list : Nat → Int32} {n : Nat} {P : Nat → Int × Int} {m : Nat} {q : Nat → Nat}
theorem rx_along (X : wk_XP n P a_x a_y) (m0 : 0 < m) (hm : m ≤ 24) (hq : ∀ k, k < m → a_hull k = nI (q k) ∧ q k < n) {a b : Int} {i : Nat} (hi : i < 100) {post : Int32 → Prop} (h : post (wk_i (ex_f a b (P (q (i % m)))))) : wpX_alongAt post (f_present, f_count, nI m, f_keptSize, f_waiting, a_placeOf, a_x, a_y, a_hull, a_kept, a_found, a_order, a_waitA, a_waitB, a_nextLow, a_beforeLow, a_nextHigh, a_beforeHigh) (nI i) (wk_i a) (wk_i b) := by
  have hn := X.1
  have l := Nat.mod_lt i m0
  obtain ⟨i1, i2⟩ := hq _ l
  have xi := X.2 _ i2
  have vi := vp_in_nI (n := q (i % m)) (N := 24) (by omega) (by omega)
  unfold wpX_alongAt
  dsimp only
  rw [nI_add, pk_rem (by omega) m0 (by omega), Nat.add_mod_right, nI_clamp (show i % m < 2 ^ 31 by omega), i1]
  refine ⟨nI_ne0 m0 (by omega), vp_in_nI (by omega) (by omega), nm_e ⟨vi, vi, ?_⟩⟩
  rw [nI_clamp (show q (i % m) < 2 ^ 31 by omega), xi.1, xi.2.1, wk_mul, wk_mul, wk_add]
  exact h
/-- climbing: t names the corners that are passed -/
theorem rx_climb (X : wk_XP n P a_x a_y) (m0 : 0 < m) (hm : m ≤ 24) (hq : ∀ k, k < m → a_hull k = nI (q k) ∧ q k < n) {a b : Int} (a1 : -64 ≤ a) (a2 : a ≤ 64) (b1 : -64 ≤ b) (b2 : b ≤ 64) {s : Nat} (hs : s < m ∨ s = 1) {t : Nat → Nat} (t0 : t 0 = 0) (ts : ∀ k, t (k + 1) = (t k + s) % m) (tm : t m = 0) {post : Int32 → SX → Prop} (hp : ∀ k, (∀ j, j < k → ex_f a b (P (q (t j))) < ex_f a b (P (q (t (j + 1))))) → ex_f a b (P (q (t (k + 1)))) ≤ ex_f a b (P (q (t k))) → post (wk_i (ex_f a b (P (q (t k))))) (f_present, f_count, nI m, f_keptSize, f_waiting, a_placeOf, a_x, a_y, a_hull, a_kept, a_found, a_order, a_waitA, a_waitB, a_nextLow, a_beforeLow, a_nextHigh, a_beforeHigh)) : ∀ (d k N : Nat), k + d = m → d < N → (∀ j, j < k → ex_f a b (P (q (t j))) < ex_f a b (P (q (t (j + 1))))) → wX_extreme_78 post (wk_i a) (wk_i b) (nI s) f_present f_count (nI m) f_keptSize f_waiting a_placeOf a_x a_y a_hull a_kept a_found a_order a_waitA a_waitB a_nextLow a_beforeLow a_nextHigh a_beforeHigh N (nI (t k)) (nI k) := by
  have hn := X.1
  have tl : ∀ k, t k < m := fun k => by
    cases k with
    | zero => rw [t0]; exact m0
    | succ k => rw [ts]; exact Nat.mod_lt _ m0
  have up : ∀ k, (∀ j, j < k → ex_f a b (P (q (t j))) < ex_f a b (P (q (t (j + 1))))) → ∀ j, j ≤ k → 0 < j → ex_f a b (P (q (t 0))) < ex_f a b (P (q (t j))) := fun k h j => by
    induction j with
    | zero => intro _ z; omega
    | succ j ih =>
      intro j1 _
      have x := h j (by omega)
      by_cases c : j = 0
      · subst c; exact x
      · have := ih (by omega) (by omega)
        omega
  intro d
  induction d with
  | zero =>
    intro k N hk hN h
    have e : k = m := by omega
    subst e
    have := up k h k (Nat.le_refl _) m0
    rw [tm, t0] at this
    omega
  | succ d ih =>
    intro k N hk hN h
    obtain ⟨N, rfl⟩ : ∃ M, N = M + 1 := ⟨N - 1, by omega⟩
    have l1 := tl k
    have l2 := tl (k + 1)
    have x1 := X.2 _ (hq _ l1).2
    have x2 := X.2 _ (hq _ l2).2
    have e1 := ex_b a1 a2 b1 b2 (p := P (q (t k))) x1.2.2
    have e2 := ex_b a1 a2 b1 b2 (p := P (q (t (k + 1)))) x2.2.2
    rw [wX_extreme_78]
    dsimp only
    rw [nI_add]
    refine br_f (nI_ge (by omega) (by omega)) (rx_along X m0 hm hq (by omega) (rx_along X m0 hm hq (by omega) ?_))
    rw [← ts k, Nat.mod_eq_of_lt l1]
    refine wk_ble (ex_f a b (P (q (t (k + 1))))) (ex_f a b (P (q (t k)))) (fun z => ?_) (fun z => ⟨nI_ne0 m0 (by omega), nm_r (e' := nI (t (k + 1))) (by rw [pk_rem (by omega) m0 (by omega), ← ts k]) (nm_r (nI_1 k) (ih (k + 1) N (by omega) (by omega) (lt_s h z)))⟩)
    unfold wX_extreme_125
    refine rx_along X m0 hm hq (by omega) ?_
    rw [Nat.mod_eq_of_lt l1]
    exact hp k h z
theorem rx_extreme {S : Int × Int → Prop} (hb : ge_bd S) (X : wk_XP n P a_x a_y) (m0 : 0 < m) (hm : m ≤ 24) (hq : ∀ k, k < m → a_hull k = nI (q k) ∧ q k < n) (H : hu_H S m (fun k => P (q k))) {a b : Int} (a1 : -64 ≤ a) (a2 : a ≤ 64) (b1 : -64 ≤ b) (b2 : b ≤ 64) {post : Int32 → SX → Prop} (hp : ∀ M, ex_M S a b M → post (wk_i M) (f_present, f_count, nI m, f_keptSize, f_waiting, a_placeOf, a_x, a_y, a_hull, a_kept, a_found, a_order, a_waitA, a_waitB, a_nextLow, a_beforeLow, a_nextHigh, a_beforeHigh)) : wpX_alongAt (fun r_25 => wpX_alongAt (fun r_44 => (r_25 ≤ r_44 → ∀ x3 : Int32, x3 = nI m - 1 → ∃ n78 : Nat, wX_extreme_78 post (wk_i a) (wk_i b) x3 f_present f_count (nI m) f_keptSize f_waiting a_placeOf a_x a_y a_hull a_kept a_found a_order a_waitA a_waitB a_nextLow a_beforeLow a_nextHigh a_beforeHigh n78 0 0) ∧ (¬ r_25 ≤ r_44 → ∃ n78 : Nat, wX_extreme_78 post (wk_i a) (wk_i b) 1 f_present f_count (nI m) f_keptSize f_waiting a_placeOf a_x a_y a_hull a_kept a_found a_order a_waitA a_waitB a_nextLow a_beforeLow a_nextHigh a_beforeHigh n78 0 0)) (f_present, f_count, nI m, f_keptSize, f_waiting, a_placeOf, a_x, a_y, a_hull, a_kept, a_found, a_order, a_waitA, a_waitB, a_nextLow, a_beforeLow, a_nextHigh, a_beforeHigh) 0 (wk_i a) (wk_i b)) (f_present, f_count, nI m, f_keptSize, f_waiting, a_placeOf, a_x, a_y, a_hull, a_kept, a_found, a_order, a_waitA, a_waitB, a_nextLow, a_beforeLow, a_nextHigh, a_beforeHigh) 1 (wk_i a) (wk_i b) := by
  have hn := X.1
  have l0 := Nat.mod_lt 0 m0
  have l1 := Nat.mod_lt 1 m0
  have e0 := ex_b a1 a2 b1 b2 (p := P (q (0 % m))) (X.2 _ (hq _ l0).2).2.2
  have e1 := ex_b a1 a2 b1 b2 (p := P (q (1 % m))) (X.2 _ (hq _ l1).2).2.2
  have em : nI m - 1 = nI (m - 1) := by
    obtain ⟨k, rfl⟩ : ∃ k, m = k + 1 := ⟨m - 1, by omega⟩
    exact nI_pred k
  refine rx_along (i := 1) X m0 hm hq (by omega) (rx_along (i := 0) X m0 hm hq (by omega) ?_)
  refine wk_ble (ex_f a b (P (q (1 % m)))) (ex_f a b (P (q (0 % m)))) (fun z => nm_r em ⟨m + 1, ?_⟩) (fun z => ⟨m + 1, ?_⟩)
  · refine rx_climb X m0 hm hq a1 a2 b1 b2 (s := m - 1) (Or.inl (by omega)) (t := fun k => (m * k - k) % m) (by simp) (fun k => ?_) ?_ (fun k up dn => ?_) m 0 (m + 1) (by omega) (by omega) (fun j hj => absurd hj (by omega))
    · show (m * (k + 1) - (k + 1)) % m = ((m * k - k) % m + (m - 1)) % m
      rw [Nat.mod_add_mod]
      congr 1
      have : k ≤ m * k := Nat.le_mul_of_pos_left k m0
      rw [Nat.mul_succ]; omega
    · show (m * m - m) % m = 0
      rw [← Nat.mul_sub_one]; exact Nat.mul_mod_right _ _
    · refine hp _ ⟨⟨_, ?_, rfl⟩, fun r hr => ?_⟩
      · rcases H with ⟨e, _⟩ | ⟨e, s⟩ | ⟨C, _⟩
        · omega
        · subst e
          rw [Nat.mod_one]; exact (s _).mpr rfl
        · exact ge_ch_S C _
      · rcases H with ⟨e, _⟩ | ⟨e, s⟩ | ⟨C, _⟩
        · omega
        · subst e
          have er : r = P (q 0) := (s r).mp hr
          rw [Nat.mod_one, er]; exact Int.le_refl _
        · have m2 := C.1
          have kk : k ≤ m * k := Nat.le_mul_of_pos_left k m0
          have pr : ∀ j, P (q (j % m)) = P (q j) := fun j => (ge_per C j).symm
          have up' : ∀ j, j < k → ex_f a b (P (q (m * j - j))) < ex_f a b (P (q (m * (j + 1) - (j + 1)))) := fun j hj => by
            have x : ex_f a b (P (q ((m * j - j) % m))) < ex_f a b (P (q ((m * (j + 1) - (j + 1)) % m))) := up j hj
            rwa [pr, pr] at x
          have dn' : ex_f a b (P (q (m * (k + 1) - (k + 1)))) ≤ ex_f a b (P (q (m * k - k))) := by
            have x : ex_f a b (P (q ((m * (k + 1) - (k + 1)) % m))) ≤ ex_f a b (P (q ((m * k - k) % m))) := dn
            rwa [pr, pr] at x
          rw [pr]
          have s1 : m * (k + 1) - (k + 1) = m * k - k + (m - 1) := by rw [Nat.mul_succ]; omega
          rw [s1] at dn'
          have L := ge_lm C hb (ex_af a b) (k := m * k - k + (m - 1)) hr (by
              show ex_f a b (P (q (m * k - k + (m - 1)))) ≤ ex_f a b (P (q (m * k - k + (m - 1) + 1)))
              have e : P (q (m * k - k + (m - 1) + 1)) = P (q (m * k - k)) := by
                rw [show m * k - k + (m - 1) + 1 = m * k - k + m by omega]; exact C.2.1 _
              rw [e]; exact dn') (by
              show ex_f a b (P (q (m * k - k + (m - 1) + 2))) ≤ ex_f a b (P (q (m * k - k + (m - 1) + 1)))
              have e : P (q (m * k - k + (m - 1) + 1)) = P (q (m * k - k)) := by
                rw [show m * k - k + (m - 1) + 1 = m * k - k + m by omega]; exact C.2.1 _
              have e2 : P (q (m * k - k + (m - 1) + 2)) = P (q (m * k - k + 1)) := by
                rw [show m * k - k + (m - 1) + 2 = m * k - k + 1 + m by omega]; exact C.2.1 _
              rw [e, e2]
              cases k with
              | zero =>
                rw [pr, pr] at z
                simpa using z
              | succ k =>
                have x := up' k (by omega)
                have y : m * (k + 1) - (k + 1) + 1 = m * k - k + m := by
                  have : k ≤ m * k := Nat.le_mul_of_pos_left k m0
                  rw [Nat.mul_succ]; omega
                have e3 : P (q (m * k - k + m)) = P (q (m * k - k)) := C.2.1 _
                rw [y, e3]
                omega)
          have e : P (q (m * k - k + (m - 1) + 1)) = P (q (m * k - k)) := by
            rw [show m * k - k + (m - 1) + 1 = m * k - k + m by omega]; exact C.2.1 _
          have L' : ex_f a b r ≤ ex_f a b (P (q (m * k - k + (m - 1) + 1))) := L
          rw [e] at L'
          exact L'
  · refine rx_climb X m0 hm hq a1 a2 b1 b2 (s := 1) (Or.inr rfl) (t := fun k => k % m) (by simp) (fun k => ?_) (Nat.mod_self m) (fun k up dn => ?_) m 0 (m + 1) (by omega) (by omega) (fun j hj => absurd hj (by omega))
    · show (k + 1) % m = (k % m + 1) % m
      rw [Nat.mod_add_mod]
    · rcases H with ⟨e, _⟩ | ⟨e, s⟩ | ⟨C, _⟩
      · omega
      · subst e
        simp only [Nat.mod_one] at z
        omega
      · have pr : ∀ j, P (q (j % m)) = P (q j) := fun j => (ge_per C j).symm
        have m2 := C.1
        rw [pr, pr] at z
        have dn' : ex_f a b (P (q (k + 1))) ≤ ex_f a b (P (q k)) := by
          have x : ex_f a b (P (q ((k + 1) % m))) ≤ ex_f a b (P (q (k % m))) := dn
          rwa [pr, pr] at x
        rw [pr]
        refine hp _ ⟨⟨_, ge_ch_S C k, rfl⟩, fun r hr => ?_⟩
        cases k with
        | zero =>
          have dn2 : ex_f a b (P (q 1)) ≤ ex_f a b (P (q 0)) := dn'
          omega
        | succ k =>
          have x : ex_f a b (P (q (k % m))) < ex_f a b (P (q ((k + 1) % m))) := up k (by omega)
          rw [pr, pr] at x
          exact ge_lm C hb (ex_af a b) (k := k) hr (Int.le_of_lt x) dn'
theorem ry_extreme {B : Nat → Bool} {v : Nat → Nat} (SP : wy_SP B v a_spots) {a b : Int} (a1 : -64 ≤ a) (a2 : a ≤ 64) (b1 : -64 ≤ b) (b2 : b ≤ 64) {j0 : Nat} (hj0 : j0 < 24) (Bj0 : B j0 = true) {post : Int32 → Prop} (hp : ∀ M, ex_M (wy_S B v) a b M → post (wk_i M)) : ∀ (d i N : Nat) (z : Int), i + d = 24 → d < N → -100000 ≤ z → z ≤ 8064 → (z = -100000 ∧ (∀ j, j < i → B j ≠ true)) ∨ (∃ j, j < i ∧ B j = true ∧ ex_f a b (wk_pt (v j)) = z) → (∀ j, j < i → B j = true → ex_f a b (wk_pt (v j)) ≤ z) → wY_extreme_41 post (wk_i a) (wk_i b) f_many a_spots a_left a_list N (wk_i z) (nI i) := by
  intro d
  induction d with
  | zero =>
    intro i N z hi hN z1 z2 h1 h2
    obtain ⟨N, rfl⟩ : ∃ M, N = M + 1 := ⟨N - 1, by omega⟩
    have e : i = 24 := by omega
    subst e
    rw [wY_extreme_41]
    refine br_t (nI_le (a := 24) (by omega) (by omega)) (hp z ⟨?_, ?_⟩)
    · rcases h1 with ⟨_, h1⟩ | ⟨j, j1, j2, j3⟩
      · exact absurd Bj0 (h1 j0 hj0)
      · exact ⟨_, ⟨j, j1, j2, rfl⟩, j3⟩
    · rintro r ⟨j, j1, j2, j3⟩
      rw [← j3]; exact h2 j j1 j2
  | succ d ih =>
    intro i N z hi hN z1 z2 h1 h2
    obtain ⟨N, rfl⟩ : ∃ M, N = M + 1 := ⟨N - 1, by omega⟩
    have v24 := vp_in_nI (n := i) (N := 24) (by omega) (by omega)
    have I := ih (i + 1) N
    rw [← nI_1] at I
    rw [wY_extreme_41]
    dsimp only
    refine br_f (nI_ge (b := 24) (by omega) (by omega)) (wy_isB SP (by omega) (fun bi => br_f (by decide) ?_) (fun bi => br_t rfl ?_))
    · obtain ⟨s1, s2⟩ := (SP i (by omega)).1 bi
      rw [nI_clamp (show i < 2 ^ 31 by omega), s1, show nI (v i + 1) - 1 = nI (v i) from nI_pred _, wk_r64 (by omega), wk_d64 (by omega), (rl_pt (v i)).1, (rl_pt (v i)).2, wk_mul, wk_mul, wk_add]
      refine ⟨v24, wk_64, v24, wk_64, ?_⟩
      unfold wY_extreme_90
      have e := ex_b a1 a2 b1 b2 (wk_pt_b s2)
      refine wk_ble (ex_f a b (wk_pt (v i))) z (fun y => nm_e (I z (by omega) (by omega) z1 z2 ?_ (lt_s h2 fun _ => y))) (fun y => nm_e (I (ex_f a b (wk_pt (v i))) (by omega) (by omega) (by omega) (by omega) (Or.inr ⟨i, by omega, bi, rfl⟩) (lt_s (fun j hj l => ?_) fun _ => Int.le_refl _)))
      · rcases h1 with ⟨h0, h1⟩ | ⟨j, j1, j2, j3⟩
        · omega
        · exact Or.inr ⟨j, by omega, j2, j3⟩
      · have := h2 j hj l; omega
    · unfold wY_extreme_90
      refine wk_ble z z (fun _ => nm_e (I z (by omega) (by omega) z1 z2 ?_ (lt_s h2 fun w => absurd w bi))) (fun y => absurd y (by omega))
      rcases h1 with ⟨h0, h1⟩ | ⟨j, j1, j2, j3⟩
      · exact Or.inl ⟨h0, lt_s h1 bi⟩
      · exact Or.inr ⟨j, by omega, j2, j3⟩
end
theorem rl_some {pr : Int32} (hi : ∀ k, 24 ≤ k → k < 32 → bt pr k = false) (h : pr ≠ 0) : ∃ k, k < 24 ∧ bt pr k = true := by
  apply Classical.byContradiction
  intro n
  apply h
  apply b_ext
  intro i hi'
  rw [b_0]
  by_cases c : i < 24
  · cases x : bt pr i
    · rfl
    · exact absurd ⟨i, c, x⟩ n
  · exact hi i (by omega) hi'
theorem rl_int (x : Int32) : x = wk_i x.toInt := (Int32.ofInt_toInt x).symm
theorem i_vc_extreme {k : Nat} {u : SX} {v : SY} (I : i_Rel k u v) (hk : k + 3 ≤ 1536) (v1 : Int32) (v2 : Int32) : wpX_extreme (fun r u' => wpY_extreme (fun r' => r' = r ∧ i_Rel (k + 3) u' v) v v1 v2) u v1 v2 := by
  obtain ⟨f_present, f_count, f_size, f_keptSize, f_waiting, a_placeOf, a_x, a_y, a_hull, a_kept, a_found, a_order, a_waitA, a_waitB, a_nextLow, a_beforeLow, a_nextHigh, a_beforeHigh⟩ := u
  obtain ⟨f_many, a_spots, a_left, a_list⟩ := v
  have I' : rl_R f_present a_placeOf a_spots := I
  have I2 := I'
  obtain ⟨hi, v, R⟩ := I'
  have hb : ge_bd (wy_S (bt f_present) v) := wy_Sb fun k hk b => (rl_hv R k hk b).2
  unfold wpX_extreme
  dsimp only
  have yb : ∀ {post : Int32 → Prop}, (f_present = 0 ∨ v1 < -64 ∨ 64 < v1 ∨ v2 < -64 ∨ ¬ v2 ≤ 64) → post (-10000) → wpY_extreme post (f_many, a_spots, a_left, a_list) v1 v2 := fun {post} c hp => by
    unfold wpY_extreme
    dsimp only
    refine ry_points (rl_SP R) hi (br_c (fun _ => hp) (fun n1 => br_c (fun _ => hp) (fun n2 => br_c (fun _ => hp) (fun n3 => br_c (fun _ => hp) (fun n4 => br_c (fun n5 => ?_) (fun _ => hp))))))
    rcases c with c | c | c | c | c
    · exact absurd c n1
    · exact absurd c n2
    · exact absurd c n3
    · exact absurd c n4
    · exact absurd n5 c
  refine br_c (fun c => yb (Or.inl c) ⟨rfl, I2⟩) (fun n1 => br_c (fun c => yb (Or.inr (Or.inl c)) ⟨rfl, I2⟩) (fun n2 => br_c (fun c => yb (Or.inr (Or.inr (Or.inl c))) ⟨rfl, I2⟩) (fun n3 => br_c (fun c => yb (Or.inr (Or.inr (Or.inr (Or.inl c)))) ⟨rfl, I2⟩) (fun n4 => br_c (fun n5 => ?_) (fun c => yb (Or.inr (Or.inr (Or.inr (Or.inr c)))) ⟨rfl, I2⟩)))))
  obtain ⟨j0, hj0, bj0⟩ := rl_some hi n1
  have t1 : -64 ≤ v1.toInt ∧ v1.toInt ≤ 64 := by
    rw [Int32.lt_iff_toInt_lt, show (-64 : Int32).toInt = -64 by decide] at n2
    rw [Int32.lt_iff_toInt_lt, show (64 : Int32).toInt = 64 by decide] at n3
    omega
  have t2 : -64 ≤ v2.toInt ∧ v2.toInt ≤ 64 := by
    rw [Int32.lt_iff_toInt_lt, show (-64 : Int32).toInt = -64 by decide] at n4
    rw [Int32.le_iff_toInt_le, show (64 : Int32).toInt = 64 by decide] at n5
    omega
  generalize ha : v1.toInt = a at t1
  generalize hb' : v2.toInt = b at t2
  have e1 : v1 = wk_i a := by rw [← ha]; exact rl_int v1
  have e2 : v2 = wk_i b := by rw [← hb']; exact rl_int v2
  refine rx_solve (e := 0) (by omega) (rl_hv R) fun n P m q _ _ a_x a_y a_hull _ _ _ _ _ _ _ _ hn hmn so es H X hq => ?_
  dsimp only
  have m0 : 0 < m := by
    rcases H with ⟨e, s⟩ | ⟨e, s⟩ | ⟨C, _⟩
    · exact absurd ⟨j0, hj0, bj0, rfl⟩ (s (wk_pt (v j0)))
    · omega
    · have := C.1; omega
  rw [e1] at n2 n3
  rw [e2] at n4 n5
  rw [e1, e2]
  refine rx_extreme hb X m0 (by omega) hq H t1.1 t1.2 t2.1 t2.2 fun M hM => ?_
  unfold wpY_extreme
  dsimp only
  refine ry_points (rl_SP R) hi (br_f n1 (br_f n2 (br_f n3 (br_f n4 (br_t n5 ⟨25, ?_⟩)))))
  exact ry_extreme (rl_SP R) t1.1 t1.2 t2.1 t2.2 hj0 bj0 (fun M' hM' => ⟨by rw [ex_Mu hM' hM], I2⟩) 24 0 25 (-100000) (by omega) (by omega) (by omega) (by omega) (Or.inl ⟨rfl, fun j hj => absurd hj (by omega)⟩) (fun j hj => absurd hj (by omega))
end
section
/-! tangent -/
theorem tg_fun {S : Int × Int → Prop} {m : Nat} {h : Nat → Int × Int} (H : hu_H S m h) {p : Int × Int} (no : ¬ wh_in m h p) (m0 : 0 < m) : ∃ f, ge_af f ∧ f p = 0 ∧ ∀ j, j < m → 0 < f (h j) := by
  rcases H with ⟨e, _⟩ | ⟨e, s⟩ | ⟨C, _⟩
  · omega
  · subst e
    have ne : p ≠ h 0 := fun z => no (Or.inl ⟨rfl, z⟩)
    refine ⟨ge_dt p (h 0), ge_af_dt _ _, ge_dt1 _ _, fun j hj => ?_⟩
    rw [show j = 0 by omega, ge_dt2]
    exact ge_sqp ne
  · by_cases h3 : 3 ≤ m
    · have ex : ∃ k, ge_cr (h k) (h (k + 1)) p < 0 := by
        apply Classical.byContradiction
        intro z
        refine no (Or.inr (Or.inr ⟨h3, fun k => ?_⟩))
        apply Int.le_of_not_gt
        intro w
        exact z ⟨k, w⟩
      obtain ⟨k, hk⟩ := ex
      refine ⟨fun z => ge_cr (h k) (h (k + 1)) z - ge_cr (h k) (h (k + 1)) p, ge_af_sub _ (ge_af_cr _ _), by show ge_cr _ _ _ - ge_cr _ _ _ = 0; omega, fun j hj => ?_⟩
      have := ge_nx_ge (C.2.2.1 k) (ge_ch_S C j)
      show 0 < ge_cr (h k) (h (k + 1)) (h j) - ge_cr (h k) (h (k + 1)) p
      omega
    · have e : m = 2 := by have := C.1; omega
      subst e
      have n01 : h 0 ≠ h 1 := C.2.2.2 0 1 (by omega) (by omega)
      have E := ge_sqp n01
      have z1 := ge_cr1 (h 0) (h 1)
      have z2 := ge_cr2 (h 0) (h 1)
      have d1 := ge_dt1 (h 0) (h 1)
      have d2 := ge_dt2 (h 0) (h 1)
      have two : ∀ (f : Int × Int → Int), 0 < f (h 0) → 0 < f (h 1) → ∀ j, j < 2 → 0 < f (h j) := fun f a b j hj => by
        rcases (show j = 0 ∨ j = 1 by omega) with rfl | rfl
        · exact a
        · exact b
      rcases Int.lt_trichotomy (ge_cr (h 0) (h 1) p) 0 with c | c | c
      · refine ⟨fun z => ge_cr (h 0) (h 1) z - ge_cr (h 0) (h 1) p, ge_af_sub _ (ge_af_cr _ _), by show ge_cr _ _ _ - ge_cr _ _ _ = 0; omega, two (fun z => ge_cr (h 0) (h 1) z - ge_cr (h 0) (h 1) p) ?_ ?_⟩
        · show 0 < ge_cr (h 0) (h 1) (h 0) - ge_cr (h 0) (h 1) p; omega
        · show 0 < ge_cr (h 0) (h 1) (h 1) - ge_cr (h 0) (h 1) p; omega
      · by_cases d : ge_dt (h 0) (h 1) p < 0
        · refine ⟨fun z => ge_dt (h 0) (h 1) z - ge_dt (h 0) (h 1) p, ge_af_sub _ (ge_af_dt _ _), by show ge_dt _ _ _ - ge_dt _ _ _ = 0; omega, two (fun z => ge_dt (h 0) (h 1) z - ge_dt (h 0) (h 1) p) ?_ ?_⟩
          · show 0 < ge_dt (h 0) (h 1) (h 0) - ge_dt (h 0) (h 1) p; omega
          · show 0 < ge_dt (h 0) (h 1) (h 1) - ge_dt (h 0) (h 1) p; omega
        · have dd : ge_sq (h 0) (h 1) < ge_dt (h 0) (h 1) p := by
            apply Int.lt_of_not_ge
            intro w
            exact no (Or.inr (Or.inl ⟨rfl, c, by omega, w⟩))
          refine ⟨fun z => - (ge_dt (h 0) (h 1) z - ge_dt (h 0) (h 1) p), ge_af_neg (ge_af_sub _ (ge_af_dt _ _)), by show -(ge_dt _ _ _ - ge_dt _ _ _) = 0; omega, two (fun z => - (ge_dt (h 0) (h 1) z - ge_dt (h 0) (h 1) p)) ?_ ?_⟩
          · show 0 < -(ge_dt (h 0) (h 1) (h 0) - ge_dt (h 0) (h 1) p); omega
          · show 0 < -(ge_dt (h 0) (h 1) (h 1) - ge_dt (h 0) (h 1) p); omega
      · refine ⟨fun z => - (ge_cr (h 0) (h 1) z - ge_cr (h 0) (h 1) p), ge_af_neg (ge_af_sub _ (ge_af_cr _ _)), by show -(ge_cr _ _ _ - ge_cr _ _ _) = 0; omega, two (fun z => - (ge_cr (h 0) (h 1) z - ge_cr (h 0) (h 1) p)) ?_ ?_⟩
        · show 0 < -(ge_cr (h 0) (h 1) (h 0) - ge_cr (h 0) (h 1) p); omega
        · show 0 < -(ge_cr (h 0) (h 1) (h 1) - ge_cr (h 0) (h 1) p); omega
theorem tg_tr {f : Int × Int → Int} (hf : ge_af f) {p : Int × Int} (f0 : f p = 0) (a b c : Int × Int) : f b * ge_cr p a c = f a * ge_cr p b c + f c * ge_cr p a b := by
  have e := ge_bary hf a b c p
  rw [f0, Int.mul_zero, ← ge_rot p b c, ← ge_rot p c a, ge_sw2 p a c, ← ge_rot p a b] at e
  grind
/-- the best corner -/
def tg_B (m : Nat) (h : Nat → Int × Int) (p : Int × Int) (i b : Nat) : Prop := ∀ j, j < i → ge_cr p (h b) (h j) ≤ 0 ∧ (ge_cr p (h b) (h j) = 0 → ge_sq (h b) p ≤ ge_sq (h j) p)
theorem tg_new {m : Nat} {h : Nat → Int × Int} {p : Int × Int} {f : Int × Int → Int} (hf : ge_af f) (f0 : f p = 0) (fp : ∀ j, j < m → 0 < f (h j)) {i b : Nat} (hi : i < m) (hb : b < m) (B : tg_B m h p i b) (n : 0 < ge_cr p (h b) (h i) ∨ (ge_cr p (h b) (h i) = 0 ∧ ge_sq (h i) p < ge_sq (h b) p)) : tg_B m h p (i + 1) i := by
  intro j hj
  by_cases e : j = i
  · subst e
    rw [ge_cr2]
    exact ⟨Int.le_refl _, fun _ => Int.le_refl _⟩
  · obtain ⟨b1, b2⟩ := B j (by omega)
    have T := tg_tr hf f0 (h i) (h b) (h j)
    have fi := fp i hi
    have fb := fp b hb
    have fj := fp j (by omega)
    have sw := ge_sw2 p (h b) (h i)
    have x1 := Int.mul_nonpos_of_nonneg_of_nonpos (Int.le_of_lt fi) b1
    rcases n with n | ⟨n, n2⟩
    · have x2 := Int.mul_neg_of_pos_of_neg fj (show ge_cr p (h i) (h b) < 0 by omega)
      have x3 : f (h b) * ge_cr p (h i) (h j) < 0 := by omega
      have := Int.neg_of_mul_neg_right x3 fb
      exact ⟨by omega, fun z => absurd z (by omega)⟩
    · have z0 : ge_cr p (h i) (h b) = 0 := by omega
      rw [z0, Int.mul_zero, Int.add_zero] at T
      have x3 := ge_np fb T x1
      refine ⟨x3, fun z => ?_⟩
      rw [z, Int.mul_zero] at T
      have := b2 (ge_z fi T.symm)
      omega
theorem tg_keep {m : Nat} {h : Nat → Int × Int} {p : Int × Int} {i b : Nat} (B : tg_B m h p i b) (n : ¬ (0 < ge_cr p (h b) (h i) ∨ (ge_cr p (h b) (h i) = 0 ∧ ge_sq (h i) p < ge_sq (h b) p))) : tg_B m h p (i + 1) b := by
  refine lt_s B ⟨?_, fun z => ?_⟩
  · apply Int.le_of_not_gt
    intro z
    exact n (Or.inl z)
  · apply Int.le_of_not_gt
    intro w
    exact n (Or.inr ⟨z, w⟩)
/-- another one in line is strictly farther -/
theorem tg_far {S : Int × Int → Prop} {m : Nat} {h : Nat → Int × Int} (H : hu_H S m h) {p : Int × Int} {f : Int × Int → Int} (hf : ge_af f) (f0 : f p = 0) (fp : ∀ j, j < m → 0 < f (h j)) {i b : Nat} (hi : i < m) (hb : b < m) (ne : i ≠ b) (B : tg_B m h p m b) (c : ∀ j, j < m → ge_cr p (h i) (h j) ≤ 0) : ge_sq (h b) p < ge_sq (h i) p := by
  have a := c b hb
  obtain ⟨b1, b2⟩ := B i hi
  have sw := ge_sw2 p (h b) (h i)
  have z : ge_cr p (h b) (h i) = 0 := by omega
  have le := b2 z
  apply Int.lt_of_not_ge
  intro w
  have eq : ge_sq p (h b) = ge_sq p (h i) := by rw [ge_sqs (h b) p, ge_sqs (h i) p]; omega
  have np : p ≠ h b := fun e => by have := fp b hb; rw [← e, f0] at this; omega
  have E := ge_sqp np
  have L := ge_lag p (h b) (h i)
  have D := ge_sqd p (h b) (h i)
  have sg := ge_seg hf p (h b) (h i) z
  rw [z, ← eq] at L
  rw [f0, Int.mul_zero, Int.zero_add] at sg
  have s0 : 0 < ge_dt p (h b) (h i) := by
    have x := Int.mul_pos E (fp i hi)
    rw [sg] at x
    exact Int.pos_of_mul_pos_left x (fp b hb)
  have se : ge_dt p (h b) (h i) = ge_sq p (h b) := by
    have k : (ge_dt p (h b) (h i) - ge_sq p (h b)) * (ge_dt p (h b) (h i) + ge_sq p (h b)) = 0 := by grind
    rcases Int.mul_eq_zero.mp k with t | t <;> omega
  have e : h b = h i := ge_sqz (by omega)
  rcases H with ⟨x, _⟩ | ⟨x, _⟩ | ⟨C, _⟩
  · omega
  · omega
  · rcases Nat.lt_or_gt_of_ne ne with x | x
    · exact C.2.2.2 i b x (by omega) e.symm
    · exact C.2.2.2 b i x (by omega) e
section
variable {f_present f_count f_size f_keptSize f_waiting : Int32} {a_placeOf a_x a_y a_hull a_kept a_found a_order a_waitA a_waitB a_nextLow a_beforeLow a_nextHigh a_beforeHigh : Nat → Int32} {f_many : Int32} {a_spots a_left a_list : Nat → Int32} {n : Nat} {P : Nat → Int × Int} {m : Nat} {q : Nat → Nat}
theorem rx_tangent (X : wk_XP n P a_x a_y) (hm : m ≤ 24) (hq : ∀ k, k < m → a_hull k = nI (q k) ∧ q k < n) {p : Int × Int} (hp : 0 ≤ p.1 ∧ p.1 ≤ 63 ∧ 0 ≤ p.2 ∧ p.2 ≤ 63) {f : Int × Int → Int} (hf : ge_af f) (f0 : f p = 0) (fp : ∀ j, j < m → 0 < f (P (q j))) {post : Int32 → SX → Prop} (h : ∀ b, b < m → tg_B m (fun k => P (q k)) p m b → wpX_placeAt (fun r => post r (f_present, f_count, nI m, f_keptSize, f_waiting, a_placeOf, a_x, a_y, a_hull, a_kept, a_found, a_order, a_waitA, a_waitB, a_nextLow, a_beforeLow, a_nextHigh, a_beforeHigh)) (f_present, f_count, nI m, f_keptSize, f_waiting, a_placeOf, a_x, a_y, a_hull, a_kept, a_found, a_order, a_waitA, a_waitB, a_nextLow, a_beforeLow, a_nextHigh, a_beforeHigh) (nI b)) : ∀ (d i b N : Nat), i + d = m → d < N → b < m → tg_B m (fun k => P (q k)) p i b → wX_tangent_56 post (wk_i p.1) (wk_i p.2) f_present f_count (nI m) f_keptSize f_waiting a_placeOf a_x a_y a_hull a_kept a_found a_order a_waitA a_waitB a_nextLow a_beforeLow a_nextHigh a_beforeHigh N (nI b) (nI i) := by
  have hn := X.1
  have B := wk_XPb X
  intro d
  induction d with
  | zero =>
    intro i b N hi hN hb T
    obtain ⟨N, rfl⟩ : ∃ M, N = M + 1 := ⟨N - 1, by omega⟩
    have e : i = m := by omega
    subst e
    rw [wX_tangent_56]
    exact br_t (nI_le (Nat.le_refl _) (by omega)) (h b hb T)
  | succ d ih =>
    intro i b N hi hN hb T
    obtain ⟨N, rfl⟩ : ∃ M, N = M + 1 := ⟨N - 1, by omega⟩
    have hi' : i < m := by omega
    obtain ⟨b1, b2⟩ := hq b hb
    obtain ⟨i1, i2⟩ := hq i hi'
    have xb := X.2 _ b2
    have xi := X.2 _ i2
    have vb := vp_in_nI (n := q b) (N := 24) (by omega) (by omega)
    have vi := vp_in_nI (n := q i) (N := 24) (by omega) (by omega)
    have Sb : ge_St P n (P (q b)) := ⟨_, b2, rfl⟩
    have Si : ge_St P n (P (q i)) := ⟨_, i2, rfl⟩
    have bd : -7938 ≤ ge_cr p (P (q b)) (P (q i)) ∧ ge_cr p (P (q b)) (P (q i)) ≤ 7938 := by
      rw [ge_rot]; exact ge_crb2 B Sb Si hp
    have sq1 : 0 ≤ ge_sq (P (q b)) p ∧ ge_sq (P (q b)) p ≤ 7938 := by
      have := ge_dtb2 B hp Sb Sb
      rw [ge_dt2, ← ge_sqs] at this
      have := ge_sqn (P (q b)) p
      omega
    have sq2 : 0 ≤ ge_sq (P (q i)) p ∧ ge_sq (P (q i)) p ≤ 7938 := by
      have := ge_dtb2 B hp Si Si
      rw [ge_dt2, ← ge_sqs] at this
      have := ge_sqn (P (q i)) p
      omega
    have I1 : tg_B m (fun k => P (q k)) p (i + 1) b → wX_tangent_56 post (wk_i p.1) (wk_i p.2) f_present f_count (nI m) f_keptSize f_waiting a_placeOf a_x a_y a_hull a_kept a_found a_order a_waitA a_waitB a_nextLow a_beforeLow a_nextHigh a_beforeHigh N (nI b) (nI i + 1) := fun t => by
      rw [nI_1]; exact ih (i + 1) b N (by omega) (by omega) hb t
    have I2 : tg_B m (fun k => P (q k)) p (i + 1) i → wX_tangent_56 post (wk_i p.1) (wk_i p.2) f_present f_count (nI m) f_keptSize f_waiting a_placeOf a_x a_y a_hull a_kept a_found a_order a_waitA a_waitB a_nextLow a_beforeLow a_nextHigh a_beforeHigh N (nI i) (nI i + 1) := fun t => by
      rw [nI_1]; exact ih (i + 1) i N (by omega) (by omega) hi' t
    have nw := tg_new (h := fun k => P (q k)) hf f0 fp hi' hb T
    have kp := tg_keep (h := fun k => P (q k)) T
    rw [wX_tangent_56]
    dsimp only
    rw [nI_clamp (show b < 2 ^ 31 by omega), nI_clamp (show i < 2 ^ 31 by omega), b1, i1]
    refine br_f (nI_ge (by omega) (by omega)) ⟨vp_in_nI (by omega) (by omega), nm_e ⟨vp_in_nI (by omega) (by omega), nm_e ⟨vb, vi, vb, vi, nm_r (e' := wk_i (ge_cr p (P (q b)) (P (q i)))) ?_ ⟨vb, vb, vb, vb, nm_r (e' := wk_i (ge_sq (P (q b)) p)) ?_ ⟨vi, vi, vi, vi, nm_r (e' := wk_i (ge_sq (P (q i)) p)) ?_ ?_⟩⟩⟩⟩⟩
    · rw [nI_clamp (show q b < 2 ^ 31 by omega), nI_clamp (show q i < 2 ^ 31 by omega), xb.1, xb.2.1, xi.1, xi.2.1]
      simp only [wk_sub, wk_mul]
      rfl
    · rw [nI_clamp (show q b < 2 ^ 31 by omega), xb.1, xb.2.1]
      simp only [wk_sub, wk_mul, wk_add]
      rfl
    · rw [nI_clamp (show q i < 2 ^ 31 by omega), xi.1, xi.2.1]
      simp only [wk_sub, wk_mul, wk_add]
      rfl
    · refine wk_blt 0 (ge_cr p (P (q b)) (P (q i))) (fun z => nm_e (I2 (nw (Or.inl z)))) (fun z => wk_beq (ge_cr p (P (q b)) (P (q i))) 0 (fun y => wk_ble (ge_sq (P (q b)) p) (ge_sq (P (q i)) p) (fun x => nm_e (I1 (kp ?_))) (fun x => nm_e (I2 (nw (Or.inr ⟨y, x⟩))))) (fun y => nm_e (I1 (kp ?_))))
      · rintro (w | ⟨_, w⟩)
        · have w' : 0 < ge_cr p (P (q b)) (P (q i)) := w
          omega
        · have w' : ge_sq (P (q i)) p < ge_sq (P (q b)) p := w
          omega
      · rintro (w | ⟨w, _⟩)
        · have w' : 0 < ge_cr p (P (q b)) (P (q i)) := w
          omega
        · exact y w
theorem ry_t51 {h : Nat → Int × Int} {c : Nat → Nat} (hm : m ≤ 24) (hc : ∀ i, i < m → a_list i = nI (c i) ∧ c i < 4096 ∧ wk_pt (c i) = h i) {p : Nat} (hp : p < 4096) {i : Nat} (hi : i < m) {x2 : Int32} (hx : x2 = -10000 ∨ ∃ b, b < 4096 ∧ x2 = nI b) {post : Int32 → SY → Prop} {J : Int32 → Int32 → Prop} (hT : (∀ l, l < m → ge_cr (wk_pt p) (h i) (h l) ≤ 0) → (x2 = -10000 ∨ ∃ b, b < 4096 ∧ x2 = nI b ∧ ge_sq (wk_pt p) (h i) < ge_sq (wk_pt p) (wk_pt b)) → J (nI (c i)) (nI (i + 1))) (hK : (¬ (∀ l, l < m → ge_cr (wk_pt p) (h i) (h l) ≤ 0) ∨ ∃ b, b < 4096 ∧ x2 = nI b ∧ ge_sq (wk_pt p) (wk_pt b) ≤ ge_sq (wk_pt p) (h i)) → J x2 (nI (i + 1))) : ∀ (d j N : Nat) (ok : Int32), j + d = m → d < N → wy_fl ok (∀ l, l < j → ge_cr (wk_pt p) (h i) (h l) ≤ 0) → wY_tangent_51 post J (nI p) x2 (nI i) (nI m) a_spots a_left a_list N ok (nI j) := by
  obtain ⟨i1, i2, i3⟩ := hc i hi
  have vi := vp_in_nI (n := i) (N := 24) (by omega) (by omega)
  have t128 : J (nI (c i)) (nI (i + 1)) → wY_tangent_128 post J (nI p) (nI i) (nI m) a_spots a_left a_list := fun g => by
    unfold wY_tangent_128
    rw [nI_clamp (show i < 2 ^ 31 by omega), i1]
    exact ⟨vi, nm_e (nm_r (nI_1 i) g)⟩
  intro d
  induction d with
  | zero =>
    intro j N ok hj hN fl
    obtain ⟨N, rfl⟩ : ∃ M, N = M + 1 := ⟨N - 1, by omega⟩
    have e : j = m := by omega
    subst e
    rw [wY_tangent_51]
    dsimp only
    rw [nI_clamp (show i < 2 ^ 31 by omega), i1, nI_1]
    refine br_t (nI_le (Nat.le_refl _) (by omega)) ?_
    rcases fl with ⟨rfl, fl⟩ | ⟨rfl, fl⟩
    · refine br_f (by decide) ?_
      rcases hx with rfl | ⟨b, hb, rfl⟩
      · exact br_t (by decide) (t128 (hT fl (Or.inl rfl)))
      · have s1 := ge_sqb wy_b (p := wk_pt p) (q := wk_pt (c i)) ⟨_, hp, rfl⟩ ⟨_, i2, rfl⟩
        have s2 := ge_sqb wy_b (p := wk_pt p) (q := wk_pt b) ⟨_, hp, rfl⟩ ⟨_, hb, rfl⟩
        refine br_f (nI_pos (by omega)) ⟨vi, wy_square hp i2 (wy_square hp hb (wk_ble (ge_sq (wk_pt p) (wk_pt b)) (ge_sq (wk_pt p) (wk_pt (c i))) (fun z => nm_e (hK (Or.inr ⟨b, hb, rfl, ?_⟩))) (fun z => t128 (hT fl (Or.inr ⟨b, hb, rfl, ?_⟩)))))⟩
        · rw [← i3]; exact z
        · rw [← i3]; exact z
    · exact br_t rfl (nm_e (hK (Or.inl fl)))
  | succ d ih =>
    intro j N ok hj hN fl
    obtain ⟨N, rfl⟩ : ∃ M, N = M + 1 := ⟨N - 1, by omega⟩
    obtain ⟨j1, j2, j3⟩ := hc j (by omega)
    have I := ih (j + 1) N
    rw [← nI_1] at I
    rw [wY_tangent_51]
    dsimp only
    rw [nI_clamp (show i < 2 ^ 31 by omega), nI_clamp (show j < 2 ^ 31 by omega), i1, j1]
    refine br_f (nI_ge (by omega) (by omega)) ?_
    rcases fl with ⟨rfl, fl⟩ | ⟨rfl, fl⟩
    · have bd := ge_crb wy_b (p := wk_pt p) (q := wk_pt (c i)) (r := wk_pt (c j)) ⟨_, hp, rfl⟩ ⟨_, i2, rfl⟩ ⟨_, j2, rfl⟩
      refine br_f (by decide) ⟨vi, vp_in_nI (by omega) (by omega), wy_turn hp i2 j2 ?_⟩
      rw [i3, j3] at bd ⊢
      refine wk_blt 0 (ge_cr (wk_pt p) (h i) (h j)) (fun z => nm_e (I 0 (by omega) (by omega) (Or.inr ⟨rfl, fun w => ?_⟩))) (fun z => nm_e (I 1 (by omega) (by omega) (Or.inl ⟨rfl, lt_s fl z⟩)))
      have := w j (by omega)
      omega
    · exact br_t rfl (nm_e (I 0 (by omega) (by omega) (Or.inr ⟨rfl, fun w => fl fun l hl => w l (by omega)⟩)))
theorem ry_tangent {S : Int × Int → Prop} {h : Nat → Int × Int} (H : hu_H S m h) {c : Nat → Nat} (hm : m ≤ 24) (hc : ∀ i, i < m → a_list i = nI (c i) ∧ c i < 4096 ∧ wk_pt (c i) = h i) {p : Nat} (hp : p < 4096) {f : Int × Int → Int} (hf : ge_af f) (f0 : f (wk_pt p) = 0) (fp : ∀ j, j < m → 0 < f (h j)) {b : Nat} (hb : b < m) (B : tg_B m h (wk_pt p) m b) {post : Int32 → SY → Prop} (hpost : post (nI (c b)) (nI m, a_spots, a_left, a_list)) : ∀ (d i N : Nat) (x2 : Int32), i + d = m → d < N → (b < i → x2 = nI (c b)) → (i ≤ b → x2 = -10000 ∨ ∃ j, j < i ∧ x2 = nI (c j) ∧ ∀ l, l < m → ge_cr (wk_pt p) (h j) (h l) ≤ 0) → wY_tangent_37 post (nI p) (nI m) a_spots a_left a_list N x2 (nI i) := by
  intro d
  induction d with
  | zero =>
    intro i N x2 hi hN h1 h2
    obtain ⟨N, rfl⟩ : ∃ M, N = M + 1 := ⟨N - 1, by omega⟩
    rw [wY_tangent_37]
    rw [h1 (by omega)]
    exact br_t (nI_le (by omega) (by omega)) hpost
  | succ d ih =>
    intro i N x2 hi hN h1 h2
    obtain ⟨N, rfl⟩ : ∃ M, N = M + 1 := ⟨N - 1, by omega⟩
    have hi' : i < m := by omega
    have cand : ∀ l, l < m → ge_cr (wk_pt p) (h b) (h l) ≤ 0 := fun l hl => (B l hl).1
    have far : ∀ j, j < m → j ≠ b → (∀ l, l < m → ge_cr (wk_pt p) (h j) (h l) ≤ 0) → ge_sq (wk_pt p) (h b) < ge_sq (wk_pt p) (h j) := fun j hj ne cj => by
      have := tg_far H hf f0 fp hj hb ne B cj
      rw [ge_sqs (h b) (wk_pt p), ge_sqs (h j) (wk_pt p)]
      exact this
    rw [wY_tangent_37]
    refine br_f (nI_ge (by omega) (by omega)) ⟨m + 1, ?_⟩
    have hx : x2 = -10000 ∨ ∃ b, b < 4096 ∧ x2 = nI b := by
      by_cases c1 : b < i
      · exact Or.inr ⟨c b, (hc b hb).2.1, h1 c1⟩
      · rcases h2 (by omega) with e | ⟨j, j1, j2, _⟩
        · exact Or.inl e
        · exact Or.inr ⟨c j, (hc j (by omega)).2.1, j2⟩
    refine ry_t51 hm hc hp hi' hx (fun ca le => ih (i + 1) N _ (by omega) (by omega) (fun z => ?_) (fun z => ?_)) (fun no => ih (i + 1) N _ (by omega) (by omega) (fun z => ?_) (fun z => ?_)) m 0 (m + 1) 1 (by omega) (by omega) (Or.inl ⟨rfl, fun l hl => absurd hl (by omega)⟩)
    · by_cases e : b = i
      · rw [e]
      · exfalso
        have x := h1 (by omega)
        rcases le with le | ⟨b', l1, l2, l3⟩
        · rw [x] at le
          have := nI_pos (n := c b) (by have := (hc b hb).2.1; omega)
          rw [le] at this
          exact this (by decide)
        · have eb : b' = c b := by
            have l4 := (hc b hb).2.1
            rw [x] at l2
            exact ((nI_eq (by omega) (by omega)).mp l2).symm
          rw [eb, (hc b hb).2.2] at l3
          have := far i hi' (fun w => e w.symm) ca
          omega
    · exact Or.inr ⟨i, by omega, rfl, ca⟩
    · by_cases e : b = i
      · exfalso
        subst e
        rcases no with no | ⟨b', l1, l2, l3⟩
        · exact no cand
        · rcases h2 (Nat.le_refl _) with w | ⟨j, j1, j2, j3⟩
          · rw [w] at l2
            have := nI_pos (n := b') (by omega)
            rw [← l2] at this
            exact this (by decide)
          · have cj := hc j (by omega)
            have eb : b' = c j := by
              rw [j2] at l2
              exact ((nI_eq (by have := cj.2.1; omega) (by omega)).mp l2).symm
            rw [eb, cj.2.2] at l3
            have := far j (by omega) (by omega) j3
            omega
      · exact h1 (by omega)
    · rcases h2 (by omega) with w | ⟨j, j1, j2, j3⟩
      · exact Or.inl w
      · exact Or.inr ⟨j, by omega, j2, j3⟩
end
theorem i_vc_tangent {k : Nat} {u : SX} {v : SY} (I : i_Rel k u v) (hk : k + 3 ≤ 1536) (v1 : Int32) : wpX_tangent (fun r u' => wpY_tangent (fun r' v' => r' = r ∧ i_Rel (k + 3) u' v') v v1) u v1 := by
  obtain ⟨f_present, f_count, f_size, f_keptSize, f_waiting, a_placeOf, a_x, a_y, a_hull, a_kept, a_found, a_order, a_waitA, a_waitB, a_nextLow, a_beforeLow, a_nextHigh, a_beforeHigh⟩ := u
  obtain ⟨f_many, a_spots, a_left, a_list⟩ := v
  have I' : rl_R f_present a_placeOf a_spots := I
  have I2 := I'
  obtain ⟨hi, v, R⟩ := I'
  have hb : ge_bd (wy_S (bt f_present) v) := wy_Sb fun k hk b => (rl_hv R k hk b).2
  unfold wpX_tangent
  dsimp only
  rcases rl_pl v1 4096 (by omega) with h | ⟨p, hp, rfl⟩
  · refine wx_isPlacen h (br_t rfl ?_)
    obtain ⟨m, hh, H⟩ := hu_ex (B := bt f_present) (v := v) (fun k hk b => (rl_hv R k hk b).2)
    unfold wpY_tangent
    dsimp only
    refine wy_look (rl_SP R) H fun left list c hm F hc => ?_
    exact wy_isPlacen h (br_t rfl ⟨rfl, I2⟩)
  · refine wx_isPlace hp (br_f (by decide) (br_c (fun z => ?_) (fun z => ?_)))
    · obtain ⟨m, hh, H⟩ := hu_ex (B := bt f_present) (v := v) (fun k hk b => (rl_hv R k hk b).2)
      have m0 : m = 0 := by
        have none : ∀ r, ¬ wy_S (bt f_present) v r := by
          rintro r ⟨j, j1, j2, j3⟩
          rw [z, b_0] at j2
          exact absurd j2 (by decide)
        rcases H with ⟨e, _⟩ | ⟨_, s⟩ | ⟨C, _⟩
        · exact e
        · exact absurd ((s _).mpr rfl) (none _)
        · exact absurd (ge_ch_S C 0) (none _)
      subst m0
      unfold wpY_tangent
      dsimp only
      refine wy_look (rl_SP R) H fun left list c hm F hc => ?_
      exact wy_isPlace hp (br_f (by decide) (br_t rfl ⟨rfl, I2⟩))
    · obtain ⟨j0, hj0, bj0⟩ := rl_some hi z
      refine rx_solve (e := 2) (by omega) (rl_hv R) fun n P m q _ _ a_x a_y a_hull _ _ _ _ _ _ _ _ hn hmn so es H X hq => ?_
      dsimp only
      have m0 : 0 < m := by
        rcases H with ⟨e, s⟩ | ⟨e, s⟩ | ⟨C, _⟩
        · exact absurd ⟨j0, hj0, bj0, rfl⟩ (s (wk_pt (v j0)))
        · omega
        · have := C.1; omega
      refine ⟨wk_64, nm_r (e' := wk_i (wk_pt p).1) (by rw [wk_r64 (by omega), (rl_pt p).1]) ⟨wk_64, nm_r (e' := wk_i (wk_pt p).2) (by rw [wk_d64 (by omega), (rl_pt p).2]) ?_⟩⟩
      obtain ⟨r, hr, V⟩ := wh_ex m (fun k => P (q k)) (wk_pt p)
      refine rx_where X (by omega) hq hb H (wk_pt_b hp) V (pk_le r 0 (fun r0 => ?_) (fun r0 => ?_))
      · have no : ¬ wh_in m (fun k => P (q k)) (wk_pt p) := by
          rcases V with ⟨a, _⟩ | ⟨_, _, e⟩ | ⟨_, e⟩
          · exact a
          · omega
          · omega
        obtain ⟨f, hf, f0, fp⟩ := tg_fun H no m0
        refine ⟨m + 1, rx_tangent X (by omega) hq (wk_pt_b hp) hf f0 fp (fun b hb' B => ?_) (m - 1) 1 0 (m + 1) (by omega) (by omega) m0 (fun j hj => ?_)⟩
        · obtain ⟨cc, hcc⟩ : ∃ c, wk_pt c = P (q b) := by
            have : ge_St P n (P (q b)) := ⟨q b, (hq b hb').2, rfl⟩
            rw [es] at this
            obtain ⟨j, _, _, e⟩ := this
            exact ⟨v j, e⟩
          refine rx_placeAt X (by omega) hq hb' hcc ?_
          unfold wpY_tangent
          dsimp only
          refine wy_look (rl_SP R) H fun left list c hm F hc => ?_
          refine wy_isPlace hp (br_f (by decide) (br_f (nI_ne0 m0 (by omega)) (ry_where hm hc H hp V (pk_le r 0 (fun _ => ⟨m + 1, ?_⟩) (fun w => absurd w (by omega))))))
          refine ry_tangent H hm hc hp hf f0 fp hb' B ⟨?_, I2⟩ m 0 (m + 1) (-10000) (by omega) (by omega) (fun w => absurd w (by omega)) (fun _ => Or.inl rfl)
          congr 1
          apply wk_pt_inj
          rw [(hc b hb').2.2, hcc]
        · rw [show j = 0 by omega, ge_cr2]
          exact ⟨Int.le_refl _, fun _ => Int.le_refl _⟩
      · unfold wpY_tangent
        dsimp only
        refine wy_look (rl_SP R) H fun left list c hm F hc => ?_
        exact wy_isPlace hp (br_f (by decide) (br_f (nI_ne0 m0 (by omega)) (ry_where hm hc H hp V (pk_le r 0 (fun w => absurd w (by omega)) (fun _ => ⟨rfl, I2⟩)))))
end
section
/-! farthest: two parallel lines go round -/
def fa_M (S : Int × Int → Prop) (M : Int) : Prop := (∃ r s, S r ∧ S s ∧ ge_sq r s = M) ∧ ∀ r s, S r → S s → ge_sq r s ≤ M
theorem fa_Mu {S : Int × Int → Prop} {M M' : Int} (h : fa_M S M) (h' : fa_M S M') : M = M' := by
  obtain ⟨⟨r, s, r1, s1, e⟩, a⟩ := h
  obtain ⟨⟨r', s', r1', s1', e'⟩, a'⟩ := h'
  have x := a r' s' r1' s1'
  have y := a' r s r1 s1
  omega
theorem fa_one {S : Int × Int → Prop} {m : Nat} {h : Nat → Int × Int} (C : ge_CH S m h) (hb : ge_bd S) {r s : Int × Int} (hr : S r) : ∃ k, k < m ∧ ge_sq r s ≤ ge_sq (h k) s := by
  obtain ⟨k, hk, mx⟩ := ge_max C hb (ge_af_dt s r)
  refine ⟨k, hk, ?_⟩
  have x := mx r hr
  rw [ge_dt2] at x
  have y := ge_sqd s r (h k)
  have z := ge_sqn r (h k)
  have e1 := ge_sqs s r
  have e2 := ge_sqs s (h k)
  omega
theorem fa_two {S : Int × Int → Prop} {m : Nat} {h : Nat → Int × Int} (C : ge_CH S m h) (hb : ge_bd S) {r s : Int × Int} (hr : S r) (hs : S s) : ∃ i j, i < m ∧ j < m ∧ ge_sq r s ≤ ge_sq (h i) (h j) := by
  obtain ⟨i, hi, x⟩ := fa_one C hb (s := s) hr
  obtain ⟨j, hj, y⟩ := fa_one C hb (s := h i) hs
  refine ⟨i, j, hi, hj, ?_⟩
  rw [ge_sqs s (h i)] at x
  rw [ge_sqs (h i) (h j)] at y
  omega
/-- the greatest square among corners -/
theorem fa_max (h : Nat → Int × Int) (m : Nat) (m0 : 0 < m) : ∃ a b, a < m ∧ b < m ∧ ∀ i j, i < m → j < m → ge_sq (h i) (h j) ≤ ge_sq (h a) (h b) := by
  have inner : ∀ i, ∃ b, b < m ∧ ∀ j, j < m → ge_sq (h i) (h j) ≤ ge_sq (h i) (h b) := fun i => ge_amax (fun j => ge_sq (h i) (h j)) m m0
  obtain ⟨f, hf⟩ : ∃ f : Nat → Nat, ∀ i, f i < m ∧ ∀ j, j < m → ge_sq (h i) (h j) ≤ ge_sq (h i) (h (f i)) := ⟨fun i => Classical.choose (inner i), fun i => Classical.choose_spec (inner i)⟩
  obtain ⟨a, ha, mx⟩ := ge_amax (fun i => ge_sq (h i) (h (f i))) m m0
  refine ⟨a, f a, ha, (hf a).1, fun i j hi hj => ?_⟩
  have x := (hf i).2 j hj
  have y := mx i hi
  omega
theorem fa_id (a b c t u : Int × Int) : ge_cr a b c * ge_cr b t u = (ge_cr b c u - ge_cr b c t) * ge_cr a b t - (ge_cr a b u - ge_cr a b t) * ge_cr b c t := by
  unfold ge_cr; grind
def fa_inc (h : Nat → Int × Int) (i J : Nat) : Prop := ∀ t, i + 1 ≤ t → t < J → ge_cr (h i) (h (i + 1)) (h t) < ge_cr (h i) (h (i + 1)) (h (t + 1))
theorem fa_next {S : Int × Int → Prop} {m : Nat} {h : Nat → Int × Int} (C : ge_CH S m h) (hb : ge_bd S) (h3 : 3 ≤ m) {i J : Nat} (hJ : J < i + m) (I : fa_inc h i J) : fa_inc h (i + 1) J := by
  intro t t1 t2
  show ge_cr (h (i + 1)) (h (i + 2)) (h t) < ge_cr (h (i + 1)) (h (i + 2)) (h (t + 1))
  have G := I t (by omega) t2
  have e := fa_id (h i) (h (i + 1)) (h (i + 2)) (h t) (h (t + 1))
  have c1 := ge_tri C hb (i := i) (j := i + 1) (k := i + 2) (by omega) (by omega) (by omega)
  have c2 := ge_tri C hb (i := i + 1) (j := t) (k := t + 1) (by omega) (by omega) (by omega)
  have F := ge_nx_ge (C.2.2.1 i) (ge_ch_S C t)
  have y : 0 ≤ ge_cr (h (i + 1)) (h (i + 2)) (h t) := ge_nx_ge (C.2.2.1 (i + 1)) (ge_ch_S C t)
  have p1 := Int.mul_pos c1 c2
  have p2 := Int.mul_nonneg (show 0 ≤ ge_cr (h i) (h (i + 1)) (h (t + 1)) - ge_cr (h i) (h (i + 1)) (h t) by omega) y
  have p3 : 0 < (ge_cr (h (i + 1)) (h (i + 2)) (h (t + 1)) - ge_cr (h (i + 1)) (h (i + 2)) (h t)) * ge_cr (h i) (h (i + 1)) (h t) := by omega
  have Fp : 0 < ge_cr (h i) (h (i + 1)) (h t) := by
    rcases Int.lt_or_eq_of_le F with z | z
    · exact z
    · rw [← z, Int.mul_zero] at p3; omega
  have := Int.pos_of_mul_pos_left p3 Fp
  omega
theorem fa_top {S : Int × Int → Prop} {m : Nat} {h : Nat → Int × Int} (C : ge_CH S m h) {i J : Nat} (hJ : J < i + m) (g : ge_cr (h i) (h (i + 1)) (h J) < ge_cr (h i) (h (i + 1)) (h (J + 1))) : J + 1 < i + m := by
  apply Nat.lt_of_not_le
  intro z
  have e : J + 1 = i + m := by omega
  rw [e, C.2.1, ge_cr1] at g
  have := ge_nx_ge (C.2.2.1 i) (ge_ch_S C J)
  omega
theorem fa_rep {S : Int × Int → Prop} {m : Nat} {h : Nat → Int × Int} (C : ge_CH S m h) (J b : Nat) : ∃ e, e < m ∧ h b = h (J + e) := by
  have h2 := C.1
  have k : J ≤ m * J := Nat.le_mul_of_pos_left J (by omega)
  refine ⟨(b + m * J - J) % m, Nat.mod_lt _ (by omega), ?_⟩
  rw [ge_per C (J + (b + m * J - J) % m), Nat.add_mod_mod, ← ge_per C, show J + (b + m * J - J) = b + m * J by omega]
  exact (ge_perq C.2.1 b J).symm
/-- all corners farthest from edge i are met at J -/
def fa_CV (S : Int × Int → Prop) (h : Nat → Int × Int) (i : Nat) (z : Int) : Prop := ∀ b, (∀ r, S r → ge_cr (h i) (h (i + 1)) r ≤ ge_cr (h i) (h (i + 1)) (h b)) → ge_sq (h (i + 1)) (h b) ≤ z
theorem fa_met {S : Int × Int → Prop} {m : Nat} {h : Nat → Int × Int} (C : ge_CH S m h) (hb : ge_bd S) (h3 : 3 ≤ m) {i J : Nat} (J1 : i + 2 ≤ J) (I : fa_inc h i J) (tp : ge_cr (h i) (h (i + 1)) (h (J + 1)) ≤ ge_cr (h i) (h (i + 1)) (h J)) {z : Int} (z1 : ge_sq (h (i + 1)) (h J) ≤ z) (z2 : ge_sq (h (i + 1)) (h (J + 1)) ≤ z) : fa_CV S h i z := by
  intro b mx
  obtain ⟨e, he, eb⟩ := fa_rep C J b
  have x := mx (h J) (ge_ch_S C J)
  by_cases e0 : e = 0
  · rw [eb, e0]; exact z1
  by_cases e1 : e = 1
  · rw [eb, e1]; exact z2
  exfalso
  obtain ⟨J, rfl⟩ : ∃ K, J = K + 1 := ⟨J - 1, by omega⟩
  have lo := I J (by omega) (by omega)
  have D := ge_str C hb (i := J) (j := J + 2) (by omega) (by omega)
  have c1 := ge_nx_ge (C.2.2.1 J) (ge_ch_S C (J + 1 + e))
  have c2 : 0 < ge_cr (h (J + 1)) (h (J + 2)) (h (J + 1 + e)) := ge_str C hb (i := J + 1) (j := J + 1 + e) (by omega) (by omega)
  have k := ge_cone (ge_af_cr (h i) (h (i + 1))) (h J) (h (J + 1)) (h (J + 2)) (h (J + 1 + e))
  have p1 := Int.mul_nonpos_of_nonneg_of_nonpos c1 (show ge_cr (h i) (h (i + 1)) (h (J + 2)) - ge_cr (h i) (h (i + 1)) (h (J + 1)) ≤ 0 by have : ge_cr (h i) (h (i + 1)) (h (J + 2)) ≤ ge_cr (h i) (h (i + 1)) (h (J + 1)) := tp; omega)
  have p2 := Int.mul_neg_of_pos_of_neg c2 (show ge_cr (h i) (h (i + 1)) (h J) - ge_cr (h i) (h (i + 1)) (h (J + 1)) < 0 by omega)
  have p3 : ge_cr (h J) (h (J + 1)) (h (J + 2)) * (ge_cr (h i) (h (i + 1)) (h (J + 1 + e)) - ge_cr (h i) (h (i + 1)) (h (J + 1))) < 0 := by omega
  have := Int.neg_of_mul_neg_right p3 D
  rw [eb] at x
  omega
/-- directions at the ends of a greatest pair -/
theorem fa_dir {u v p s : Int × Int} (hn : u ≠ v) (m1 : ge_sq p v ≤ ge_sq u v) (n1 : p ≠ u) (l1 : 0 ≤ ge_cr p u v) (m2 : ge_sq u s ≤ ge_sq u v) (n2 : v ≠ s) (l2 : 0 ≤ ge_cr v s u) : ge_cr p u s ≤ ge_cr p u v := by
  -- with d = v - u: e = u - p has d.e < 0 and d x e <= 0; g = s - v has d.g < 0 and d x g >= 0
  have E := ge_sqp hn
  have P1 := ge_sqp n1
  have P2 := ge_sqp n2
  have x1 : 2 * ((v.1 - u.1) * (u.1 - p.1) + (v.2 - u.2) * (u.2 - p.2)) = ge_sq p v - ge_sq u v - ge_sq p u := by unfold ge_sq; grind
  have x2 : 2 * ((v.1 - u.1) * (s.1 - v.1) + (v.2 - u.2) * (s.2 - v.2)) = ge_sq u s - ge_sq u v - ge_sq v s := by unfold ge_sq; grind
  have y1 : (v.1 - u.1) * (u.2 - p.2) - (v.2 - u.2) * (u.1 - p.1) = - ge_cr p u v := by unfold ge_cr; grind
  have y2 : (v.1 - u.1) * (s.2 - v.2) - (v.2 - u.2) * (s.1 - v.1) = ge_cr v s u := by unfold ge_cr; grind
  have id : ge_sq u v * (ge_cr p u v - ge_cr p u s) = ((v.1 - u.1) * (u.2 - p.2) - (v.2 - u.2) * (u.1 - p.1)) * ((v.1 - u.1) * (s.1 - v.1) + (v.2 - u.2) * (s.2 - v.2)) - ((v.1 - u.1) * (u.1 - p.1) + (v.2 - u.2) * (u.2 - p.2)) * ((v.1 - u.1) * (s.2 - v.2) - (v.2 - u.2) * (s.1 - v.1)) := by
    unfold ge_sq ge_cr; grind
  generalize (v.1 - u.1) * (u.2 - p.2) - (v.2 - u.2) * (u.1 - p.1) = Y1 at *
  generalize (v.1 - u.1) * (s.2 - v.2) - (v.2 - u.2) * (s.1 - v.1) = Y2 at *
  generalize (v.1 - u.1) * (u.1 - p.1) + (v.2 - u.2) * (u.2 - p.2) = X1 at *
  generalize (v.1 - u.1) * (s.1 - v.1) + (v.2 - u.2) * (s.2 - v.2) = X2 at *
  have q1 := Int.mul_nonneg_of_nonpos_of_nonpos (show Y1 ≤ 0 by omega) (show X2 ≤ 0 by omega)
  have q2 := Int.mul_nonpos_of_nonpos_of_nonneg (show X1 ≤ 0 by omega) (show 0 ≤ Y2 by omega)
  have := ge_nn E id (by omega)
  omega
/-- a greatest pair is met at one of its two edges -/
theorem fa_pair {S : Int × Int → Prop} {m : Nat} {h : Nat → Int × Int} (C : ge_CH S m h) (hb : ge_bd S) {a b : Nat} (ne : h (a + 1) ≠ h (b + 1)) (mx : ∀ i j, ge_sq (h i) (h j) ≤ ge_sq (h (a + 1)) (h (b + 1))) : (∀ r, S r → ge_cr (h a) (h (a + 1)) r ≤ ge_cr (h a) (h (a + 1)) (h (b + 1))) ∨ (∀ r, S r → ge_cr (h b) (h (b + 1)) r ≤ ge_cr (h b) (h (b + 1)) (h (a + 1))) := by
  have n1 := (C.2.2.1 a).2.2.1
  have n2 : h (b + 1) ≠ h (b + 2) := (C.2.2.1 (b + 1)).2.2.1
  have n3 := (C.2.2.1 b).2.2.1
  have n4 : h (a + 1) ≠ h (a + 2) := (C.2.2.1 (a + 1)).2.2.1
  have l1 := ge_nx_ge (C.2.2.1 a) (ge_ch_S C (b + 1))
  have l2 : 0 ≤ ge_cr (h (b + 1)) (h (b + 2)) (h (a + 1)) := ge_nx_ge (C.2.2.1 (b + 1)) (ge_ch_S C (a + 1))
  have l3 := ge_nx_ge (C.2.2.1 b) (ge_ch_S C (a + 1))
  have l4 : 0 ≤ ge_cr (h (a + 1)) (h (a + 2)) (h (b + 1)) := ge_nx_ge (C.2.2.1 (a + 1)) (ge_ch_S C (b + 1))
  have mx' : ∀ i j, ge_sq (h i) (h j) ≤ ge_sq (h (b + 1)) (h (a + 1)) := fun i j => by rw [ge_sqs (h (a + 1)) (h (b + 1))]; exact mx i j
  have d1 := fa_dir ne (mx a (b + 1)) n1 l1 (mx (a + 1) (b + 2)) n2 l2
  have d2 := fa_dir (fun z => ne z.symm) (mx' b (a + 1)) n3 l3 (mx' (b + 1) (a + 2)) n4 l4
  -- e_(a) x e_(b)
  have id : ge_cr (h a) (h (a + 1)) (h (b + 1)) - ge_cr (h a) (h (a + 1)) (h b) = - (ge_cr (h b) (h (b + 1)) (h (a + 1)) - ge_cr (h b) (h (b + 1)) (h a)) := by unfold ge_cr; grind
  by_cases c : ge_cr (h a) (h (a + 1)) (h b) ≤ ge_cr (h a) (h (a + 1)) (h (b + 1))
  · left
    intro r hr
    exact ge_lm C hb (ge_af_cr (h a) (h (a + 1))) (k := b) hr c d1
  · right
    intro r hr
    exact ge_lm C hb (ge_af_cr (h b) (h (b + 1))) (k := a) hr (by omega) d2
theorem fa_end {S : Int × Int → Prop} {m : Nat} {h : Nat → Int × Int} (C : ge_CH S m h) (hb : ge_bd S) {z : Int} (zM : ∃ r s, S r ∧ S s ∧ z ≤ ge_sq r s) (cv : ∀ i, i < m → fa_CV S h i z) : fa_M S z := by
  have m2 := C.1
  have per : ∀ k, h k = h (k % m) := ge_per C
  obtain ⟨a, b, ha, hb', mx⟩ := fa_max h m (by omega)
  have ex : ∀ a, a < m → ∃ c, c < m ∧ h (c + 1) = h a := fun a ha => by
    by_cases z : a = 0
    · exact ⟨m - 1, by omega, by rw [z, show m - 1 + 1 = 0 + m by omega]; exact C.2.1 0⟩
    · exact ⟨a - 1, by omega, by rw [show a - 1 + 1 = a by omega]⟩
  obtain ⟨a', ha', ea⟩ := ex a ha
  obtain ⟨b', hb'', eb⟩ := ex b hb'
  have mxx : ∀ i j, ge_sq (h i) (h j) ≤ ge_sq (h (a' + 1)) (h (b' + 1)) := fun i j => by
    rw [ea, eb, per i, per j]
    exact mx _ _ (Nat.mod_lt _ (by omega)) (Nat.mod_lt _ (by omega))
  have ne : h (a' + 1) ≠ h (b' + 1) := fun e => by
    have x := mxx 0 1
    rw [e, ge_sq0] at x
    have := ge_sqp (C.2.2.2 0 1 (by omega) (by omega))
    omega
  have all : ∀ r s, S r → S s → ge_sq r s ≤ ge_sq (h (a' + 1)) (h (b' + 1)) := fun r s hr hs => by
    obtain ⟨i, j, _, _, x⟩ := fa_two C hb hr hs
    have := mxx i j
    omega
  have le : ge_sq (h (a' + 1)) (h (b' + 1)) ≤ z := by
    rcases fa_pair C hb ne mxx with x | x
    · exact cv a' ha' (b' + 1) x
    · rw [ge_sqs (h (b' + 1))]
      exact cv b' hb'' (a' + 1) x
  obtain ⟨r, s, hr, hs, zl⟩ := zM
  have y := all r s hr hs
  refine ⟨⟨_, _, ge_ch_S C (a' + 1), ge_ch_S C (b' + 1), by omega⟩, fun r s hr hs => ?_⟩
  have := all r s hr hs
  omega
end
section
/-! farthest: the walks -/
section
variable {f_present f_count f_size f_keptSize f_waiting : Int32} {a_placeOf a_x a_y a_hull a_kept a_found a_order a_waitA a_waitB a_nextLow a_beforeLow a_nextHigh a_beforeHigh : Nat → Int32} {f_many : Int32} {a_spots a_left a_list : Nat → Int32} {n : Nat} {P : Nat → Int × Int} {m : Nat} {q : Nat → Nat}
theorem rx_f74 {S : Int × Int → Prop} (hb : ge_bd S) (X : wk_XP n P a_x a_y) (h3 : 3 ≤ m) (hm : m ≤ 24) (hq : ∀ k, k < m → a_hull k = nI (q k) ∧ q k < n) (C : ge_CH S m (fun k => P (q k))) {i : Nat} (hi : i < m) {z : Int} (z0 : 0 ≤ z) (z1 : z ≤ 7938) (zM : ∃ r s, S r ∧ S s ∧ z ≤ ge_sq r s) {post : Int32 → SX → Prop} {J56 : Int32 → Int32 → Int32 → Prop} (hJ : ∀ z' J', z ≤ z' → z' ≤ 7938 → (∃ r s, S r ∧ S s ∧ z' ≤ ge_sq r s) → i + 2 ≤ J' → J' < i + m → fa_inc (fun k => P (q k)) i J' → fa_CV S (fun k => P (q k)) i z' → J56 (wk_i z') (nI (J' % m)) (nI (i + 1))) : ∀ (d J N : Nat), J + d + 1 = i + m → d < N → i + 1 ≤ J → fa_inc (fun k => P (q k)) i J → wX_farthest_74 post J56 (wk_i z) (nI i) (nI ((i + 1) % m)) f_present f_count (nI m) f_keptSize f_waiting a_placeOf a_x a_y a_hull a_kept a_found a_order a_waitA a_waitB a_nextLow a_beforeLow a_nextHigh a_beforeHigh N (nI (J % m)) := by
  have hn := X.1
  have B := wk_XPb X
  have pr : ∀ j, P (q (j % m)) = P (q j) := fun j => (ge_per C j).symm
  have i48 := vp_in_nI (n := i) (N := 48) (by omega) (by omega)
  have ln := Nat.mod_lt (i + 1) (show 0 < m by omega)
  have n48 := vp_in_nI (n := (i + 1) % m) (N := 48) (by omega) (by omega)
  have m0 := nI_ne0 (n := m) (by omega) (by omega)
  obtain ⟨qi1, qi2⟩ := hq i hi
  obtain ⟨qn1, qn2⟩ := hq _ ln
  have Si : ge_St P n (P (q i)) := ⟨_, qi2, rfl⟩
  have Sn : ge_St P n (P (q (i + 1))) := by rw [← pr (i + 1)]; exact ⟨_, qn2, rfl⟩
  have go : ∀ (J N : Nat), i + 1 ≤ J → J < i + m → fa_inc (fun k => P (q k)) i J → (J + 1 < i + m → fa_inc (fun k => P (q k)) i (J + 1) → wX_farthest_74 post J56 (wk_i z) (nI i) (nI ((i + 1) % m)) f_present f_count (nI m) f_keptSize f_waiting a_placeOf a_x a_y a_hull a_kept a_found a_order a_waitA a_waitB a_nextLow a_beforeLow a_nextHigh a_beforeHigh N (nI ((J + 1) % m))) → wX_farthest_74 post J56 (wk_i z) (nI i) (nI ((i + 1) % m)) f_present f_count (nI m) f_keptSize f_waiting a_placeOf a_x a_y a_hull a_kept a_found a_order a_waitA a_waitB a_nextLow a_beforeLow a_nextHigh a_beforeHigh (N + 1) (nI (J % m)) := fun J N J1 J2 inc rec => by
    have lJ := Nat.mod_lt J (show 0 < m by omega)
    have lK := Nat.mod_lt (J + 1) (show 0 < m by omega)
    obtain ⟨qJ1, qJ2⟩ := hq _ lJ
    obtain ⟨qK1, qK2⟩ := hq _ lK
    have SJ : ge_St P n (P (q J)) := by rw [← pr J]; exact ⟨_, qJ2, rfl⟩
    have SK : ge_St P n (P (q (J + 1))) := by rw [← pr (J + 1)]; exact ⟨_, qK2, rfl⟩
    have J48 := vp_in_nI (n := J % m) (N := 48) (by omega) (by omega)
    have K48 := vp_in_nI (n := (J + 1) % m) (N := 48) (by omega) (by omega)
    have ek : nI (J % m) + 1 - (nI (J % m) + 1) / nI m * nI m = nI ((J + 1) % m) := by
      rw [nI_1, pk_rem (by omega) (by omega) (by omega), Nat.mod_add_mod]
    have bJ := ge_crb B Si Sn SJ
    have bK := ge_crb B Si Sn SK
    rw [wX_farthest_74]
    dsimp only
    rw [ek, nI_clamp (show i < 2 ^ 31 by omega), nI_clamp (show (i + 1) % m < 2 ^ 31 by omega), nI_clamp (show J % m < 2 ^ 31 by omega), nI_clamp (show (J + 1) % m < 2 ^ 31 by omega), qi1, qn1, qJ1, qK1]
    refine ⟨i48, n48, m0, K48, wx_turn X qi2 qn2 qK2 ⟨i48, n48, J48, wx_turn X qi2 qn2 qJ2 ?_⟩⟩
    rw [pr (i + 1), pr J, pr (J + 1)]
    refine wk_ble (ge_cr (P (q i)) (P (q (i + 1))) (P (q (J + 1)))) (ge_cr (P (q i)) (P (q (i + 1))) (P (q J))) (fun tp => ?_) (fun tp => ⟨m0, nm_e (rec (fa_top C J2 tp) (fun t t1 t2 => ?_))⟩)
    · have J3 : i + 2 ≤ J := by
        apply Nat.lt_of_not_le
        intro w
        have e : J = i + 1 := by omega
        subst e
        have T := ge_tri C hb (i := i) (j := i + 1) (k := i + 2) (by omega) (by omega) (by omega)
        have T' : 0 < ge_cr (P (q i)) (P (q (i + 1))) (P (q (i + 1 + 1))) := T
        rw [ge_cr2] at tp
        omega
      have s1 := ge_sqb B Si SJ
      have s2 := ge_sqb B Sn SJ
      have s3 := ge_sqb B Sn SK
      have CS : ∀ k, S (P (q k)) := ge_ch_S C
      refine ⟨i48, J48, wx_square X qi2 qJ2 ⟨n48, J48, wx_square X qn2 qJ2 ⟨n48, m0, K48, wx_square X qn2 qK2 ?_⟩⟩⟩
      rw [pr (i + 1), pr J, pr (J + 1)]
      have f230 : ∀ w : Int, z ≤ w → w ≤ 7938 → (∃ r s, S r ∧ S s ∧ w ≤ ge_sq r s) → ge_sq (P (q (i + 1))) (P (q J)) ≤ w → wX_farthest_230 post J56 (nI (J % m)) (nI i) (wk_i (ge_sq (P (q (i + 1))) (P (q (J + 1))))) (wk_i w) f_present f_count (nI m) f_keptSize f_waiting a_placeOf a_x a_y a_hull a_kept a_found a_order a_waitA a_waitB a_nextLow a_beforeLow a_nextHigh a_beforeHigh := fun w w1 w2 w3 w4 => by
        unfold wX_farthest_230
        rw [nI_1]
        refine wk_ble (ge_sq (P (q (i + 1))) (P (q (J + 1)))) w (fun y => nm_e (hJ w J w1 w2 w3 J3 J2 inc (fa_met C hb h3 J3 inc tp w4 y))) (fun y => nm_e (hJ _ J (by omega) (by omega) ⟨_, _, CS (i + 1), CS (J + 1), Int.le_refl _⟩ J3 J2 inc (fa_met C hb h3 J3 inc tp (by show ge_sq (P (q (i + 1))) (P (q J)) ≤ _; omega) (Int.le_refl _))))
      have f217 : ∀ w : Int, z ≤ w → w ≤ 7938 → (∃ r s, S r ∧ S s ∧ w ≤ ge_sq r s) → wX_farthest_217 post J56 (nI (J % m)) (nI i) (wk_i (ge_sq (P (q (i + 1))) (P (q J)))) (wk_i (ge_sq (P (q (i + 1))) (P (q (J + 1))))) (wk_i w) f_present f_count (nI m) f_keptSize f_waiting a_placeOf a_x a_y a_hull a_kept a_found a_order a_waitA a_waitB a_nextLow a_beforeLow a_nextHigh a_beforeHigh := fun w w1 w2 w3 => by
        unfold wX_farthest_217
        exact wk_ble (ge_sq (P (q (i + 1))) (P (q J))) w (fun y => f230 w w1 w2 w3 y) (fun y => f230 _ (by omega) (by omega) ⟨_, _, CS (i + 1), CS J, Int.le_refl _⟩ (Int.le_refl _))
      exact wk_ble (ge_sq (P (q i)) (P (q J))) z (fun y => f217 z (Int.le_refl _) z1 zM) (fun y => f217 _ (by omega) (by omega) ⟨_, _, CS i, CS J, Int.le_refl _⟩)
    · by_cases e : t = J
      · subst e; exact tp
      · exact inc t t1 (by omega)
  intro d
  induction d with
  | zero =>
    intro J N hd hN J1 inc
    obtain ⟨N, rfl⟩ : ∃ M, N = M + 1 := ⟨N - 1, by omega⟩
    exact go J N J1 (by omega) inc (fun w _ => absurd w (by omega))
  | succ d ih =>
    intro J N hd hN J1 inc
    obtain ⟨N, rfl⟩ : ∃ M, N = M + 1 := ⟨N - 1, by omega⟩
    exact go J N J1 (by omega) inc (fun _ inc' => ih (J + 1) N (by omega) (by omega) (by omega) inc')
theorem rx_f56 {S : Int × Int → Prop} (hb : ge_bd S) (X : wk_XP n P a_x a_y) (h3 : 3 ≤ m) (hm : m ≤ 24) (hq : ∀ k, k < m → a_hull k = nI (q k) ∧ q k < n) (C : ge_CH S m (fun k => P (q k))) {post : Int32 → SX → Prop} (hp : ∀ M, fa_M S M → post (wk_i M) (f_present, f_count, nI m, f_keptSize, f_waiting, a_placeOf, a_x, a_y, a_hull, a_kept, a_found, a_order, a_waitA, a_waitB, a_nextLow, a_beforeLow, a_nextHigh, a_beforeHigh)) : ∀ (d i J N : Nat) (z : Int), i + d = m → d < N → i + 1 ≤ J → J < i + m → fa_inc (fun k => P (q k)) i J → 0 ≤ z → z ≤ 7938 → (∃ r s, S r ∧ S s ∧ z ≤ ge_sq r s) → (∀ i', i' < i → fa_CV S (fun k => P (q k)) i' z) → wX_farthest_56 post f_present f_count (nI m) f_keptSize f_waiting a_placeOf a_x a_y a_hull a_kept a_found a_order a_waitA a_waitB a_nextLow a_beforeLow a_nextHigh a_beforeHigh N (wk_i z) (nI (J % m)) (nI i) := by
  have hn := X.1
  intro d
  induction d with
  | zero =>
    intro i J N z hi hN J1 J2 inc z0 z1 zM cv
    obtain ⟨N, rfl⟩ : ∃ M, N = M + 1 := ⟨N - 1, by omega⟩
    have e : i = m := by omega
    subst e
    rw [wX_farthest_56]
    exact br_t (nI_le (Nat.le_refl _) (by omega)) (hp z (fa_end C hb zM cv))
  | succ d ih =>
    intro i J N z hi hN J1 J2 inc z0 z1 zM cv
    obtain ⟨N, rfl⟩ : ∃ M, N = M + 1 := ⟨N - 1, by omega⟩
    rw [wX_farthest_56]
    refine br_f (nI_ge (by omega) (by omega)) ⟨nI_ne0 (by omega) (by omega), nm_r (e' := nI ((i + 1) % m)) (by rw [nI_1, pk_rem (by omega) (by omega) (by omega)]) ⟨i + m, ?_⟩⟩
    refine rx_f74 hb X h3 hm hq C (by omega) z0 z1 zM (fun z' J' w1 w2 w3 J3 J4 inc' cv' => ?_) (i + m - 1 - J) J (i + m) (by omega) (by omega) J1 inc
    refine ih (i + 1) J' N z' (by omega) (by omega) J3 (by omega) (fa_next C hb h3 J4 inc') (by omega) w2 w3 (lt_s (fun i' hi' b mx => ?_) cv')
    have := cv i' hi' b mx
    omega
theorem rx_farthest {S : Int × Int → Prop} (hb : ge_bd S) (X : wk_XP n P a_x a_y) (m0 : 0 < m) (hm : m ≤ 24) (hq : ∀ k, k < m → a_hull k = nI (q k) ∧ q k < n) (H : hu_H S m (fun k => P (q k))) {post : Int32 → SX → Prop} (hp : ∀ M, fa_M S M → post (wk_i M) (f_present, f_count, nI m, f_keptSize, f_waiting, a_placeOf, a_x, a_y, a_hull, a_kept, a_found, a_order, a_waitA, a_waitB, a_nextLow, a_beforeLow, a_nextHigh, a_beforeHigh)) : (3 ≤ nI m → ∃ n56 : Nat, wX_farthest_56 post f_present f_count (nI m) f_keptSize f_waiting a_placeOf a_x a_y a_hull a_kept a_found a_order a_waitA a_waitB a_nextLow a_beforeLow a_nextHigh a_beforeHigh n56 0 1 0) ∧ (¬ 3 ≤ nI m → vp_in (nI m - 1) 48 ∧ wpX_square (fun r_143 => post r_143 (f_present, f_count, nI m, f_keptSize, f_waiting, a_placeOf, a_x, a_y, a_hull, a_kept, a_found, a_order, a_waitA, a_waitB, a_nextLow, a_beforeLow, a_nextHigh, a_beforeHigh)) (f_present, f_count, nI m, f_keptSize, f_waiting, a_placeOf, a_x, a_y, a_hull, a_kept, a_found, a_order, a_waitA, a_waitB, a_nextLow, a_beforeLow, a_nextHigh, a_beforeHigh) (a_hull 0) (a_hull (nI m - 1).toNatClampNeg)) := by
  have hn := X.1
  have em : nI m - 1 = nI (m - 1) := by
    obtain ⟨k, rfl⟩ : ∃ k, m = k + 1 := ⟨m - 1, by omega⟩
    exact nI_pred k
  by_cases h3 : 3 ≤ m
  · have C : ge_CH S m (fun k => P (q k)) := by
      rcases H with ⟨e, _⟩ | ⟨e, _⟩ | ⟨C, _⟩
      · omega
      · omega
      · exact C
    refine br_t (nI_le (a := 3) h3 (by omega)) ⟨m + 1, ?_⟩
    have S0 := ge_ch_S C 0
    have := rx_f56 hb X h3 hm hq C hp m 0 1 (m + 1) 0 (by omega) (by omega) (by omega) (by omega) (fun t t1 t2 => absurd t2 (by omega)) (by omega) (by omega) ⟨_, _, S0, S0, ge_sqn _ _⟩ (fun i' hi' => absurd hi' (by omega))
    rw [Nat.mod_eq_of_lt (show 1 < m by omega)] at this
    exact this
  · refine br_f (nI_ge (b := 3) (by omega) (by omega)) ?_
    rw [em, nI_clamp (show m - 1 < 2 ^ 31 by omega), (hq 0 m0).1, (hq (m - 1) (by omega)).1]
    refine ⟨vp_in_nI (by omega) (by omega), wx_square X (hq 0 m0).2 (hq (m - 1) (by omega)).2 (hp _ ?_)⟩
    rcases H with ⟨e, _⟩ | ⟨e, s⟩ | ⟨C, _⟩
    · omega
    · subst e
      have S0 : S (P (q 0)) := (s _).mpr rfl
      refine ⟨⟨_, _, S0, S0, rfl⟩, fun r t hr ht => ?_⟩
      have er : r = P (q 0) := (s r).mp hr
      have et : t = P (q 0) := (s t).mp ht
      rw [er, et]; exact Int.le_refl _
    · have e : m = 2 := by have := C.1; omega
      subst e
      have S0 : S (P (q 0)) := ge_ch_S C 0
      have S1 : S (P (q 1)) := ge_ch_S C 1
      refine ⟨⟨_, _, S0, S1, rfl⟩, fun r t hr ht => ?_⟩
      obtain ⟨i, j, hi, hj, x⟩ := fa_two C hb hr ht
      have x' : ge_sq r t ≤ ge_sq (P (q i)) (P (q j)) := x
      show ge_sq r t ≤ ge_sq (P (q 0)) (P (q 1))
      have nn := ge_sqn (P (q 0)) (P (q 1))
      have sy := ge_sqs (P (q 0)) (P (q 1))
      rcases (show i = 0 ∨ i = 1 by omega) with rfl | rfl <;> rcases (show j = 0 ∨ j = 1 by omega) with rfl | rfl
      · rw [ge_sq0] at x'; omega
      · exact x'
      · omega
      · rw [ge_sq0] at x'; omega
theorem ry_farthest {B : Nat → Bool} {v : Nat → Nat} (SP : wy_SP B v a_spots) {post : Int32 → Prop} (hp : ∀ M, fa_M (wy_S B v) M → post (wk_i M)) (h0 : (∀ r, ¬ wy_S B v r) → post (-10000)) : ∀ (d c N : Nat) (z : Int), c + d = 576 → d < N → -10000 ≤ z → z ≤ 7938 → (z = -10000 ∨ ∃ r s, wy_S B v r ∧ wy_S B v s ∧ ge_sq r s = z) → (∀ c', c' < c → B (c' / 24) = true → B (c' % 24) = true → ge_sq (wk_pt (v (c' / 24))) (wk_pt (v (c' % 24))) ≤ z) → wY_farthest_6 post f_many a_spots a_left a_list N (wk_i z) (nI c) := by
  intro d
  induction d with
  | zero =>
    intro c N z hc hN z1 z2 ze zl
    obtain ⟨N, rfl⟩ : ∃ M, N = M + 1 := ⟨N - 1, by omega⟩
    have e : c = 576 := by omega
    subst e
    rw [wY_farthest_6]
    refine br_t (nI_le (a := 576) (by omega) (by omega)) ?_
    have all : ∀ r s, wy_S B v r → wy_S B v s → ge_sq r s ≤ z := by
      rintro r s ⟨i, i1, i2, i3⟩ ⟨j, j1, j2, j3⟩
      have x := zl (24 * i + j) (by omega)
      rw [show (24 * i + j) / 24 = i by omega, show (24 * i + j) % 24 = j by omega, i3, j3] at x
      exact x i2 j2
    rcases ze with ze | ⟨r, s, hr, hs, e⟩
    · rw [ze]
      refine h0 fun r hr => ?_
      have := all r r hr hr
      rw [ge_sq0] at this
      omega
    · exact hp z ⟨⟨r, s, hr, hs, e⟩, all⟩
  | succ d ih =>
    intro c N z hc hN z1 z2 ze zl
    obtain ⟨N, rfl⟩ : ∃ M, N = M + 1 := ⟨N - 1, by omega⟩
    have I := ih (c + 1) N
    rw [← nI_1] at I
    have no : ¬ (B (c / 24) = true ∧ B (c % 24) = true) → wY_farthest_64 post (wY_farthest_6 post f_many a_spots a_left a_list N) (wk_i z) (nI c) f_many a_spots a_left a_list := fun n => by
      unfold wY_farthest_64 wY_farthest_67
      exact wk_ble (-10000) z (fun _ => nm_e (I z (by omega) (by omega) z1 z2 ze (lt_s zl fun a b => absurd ⟨a, b⟩ n))) (fun w => absurd w (by omega))
    have v1 := vp_in_nI (n := c / 24) (N := 24) (by omega) (by omega)
    have v2 := vp_in_nI (n := c % 24) (N := 24) (by omega) (by omega)
    rw [wY_farthest_6]
    dsimp only
    rw [wk_d24 (show c < 2 ^ 31 by omega), ← wk_d24 (show c < 2 ^ 31 by omega), wk_r24 (show c < 2 ^ 31 by omega), wk_d24 (show c < 2 ^ 31 by omega)]
    refine br_f (nI_ge (b := 576) (by omega) (by omega)) ⟨wk_24, wy_isB SP (by omega) (fun b1 => br_f (by decide) ⟨wk_24, wy_isB SP (by omega) (fun b2 => br_f (by decide) ⟨wk_24, v1, wk_24, v2, ?_⟩) (fun b2 => br_t rfl (no fun w => b2 w.2))⟩) (fun b1 => br_t rfl (no fun w => b1 w.1))⟩
    obtain ⟨s1, s2⟩ := (SP (c / 24) (by omega)).1 b1
    obtain ⟨t1, t2⟩ := (SP (c % 24) (by omega)).1 b2
    rw [nI_clamp (show c / 24 < 2 ^ 31 by omega), nI_clamp (show c % 24 < 2 ^ 31 by omega), s1, t1, show nI (v (c / 24) + 1) - 1 = nI (v (c / 24)) from nI_pred _, show nI (v (c % 24) + 1) - 1 = nI (v (c % 24)) from nI_pred _]
    refine wy_square s2 t2 ?_
    have bd := ge_sqb wy_b (p := wk_pt (v (c / 24))) (q := wk_pt (v (c % 24))) ⟨_, s2, rfl⟩ ⟨_, t2, rfl⟩
    unfold wY_farthest_67
    refine wk_ble (ge_sq (wk_pt (v (c / 24))) (wk_pt (v (c % 24)))) z (fun y => nm_e (I z (by omega) (by omega) z1 z2 ze (lt_s zl fun _ _ => y))) (fun y => nm_e (I _ (by omega) (by omega) (by omega) bd.2 (Or.inr ⟨_, _, ⟨c / 24, by omega, b1, rfl⟩, ⟨c % 24, by omega, b2, rfl⟩, rfl⟩) (lt_s (fun c' hc' a b => ?_) fun _ _ => Int.le_refl _)))
    have := zl c' hc' a b
    omega
end
theorem i_vc_farthest {k : Nat} {u : SX} {v : SY} (I : i_Rel k u v) (hk : k + 3 ≤ 1536) : wpX_farthest (fun r u' => wpY_farthest (fun r' => r' = r ∧ i_Rel (k + 3) u' v) v) u := by
  obtain ⟨f_present, f_count, f_size, f_keptSize, f_waiting, a_placeOf, a_x, a_y, a_hull, a_kept, a_found, a_order, a_waitA, a_waitB, a_nextLow, a_beforeLow, a_nextHigh, a_beforeHigh⟩ := u
  obtain ⟨f_many, a_spots, a_left, a_list⟩ := v
  have I' : rl_R f_present a_placeOf a_spots := I
  have I2 := I'
  obtain ⟨hi, v, R⟩ := I'
  have hb : ge_bd (wy_S (bt f_present) v) := wy_Sb fun k hk b => (rl_hv R k hk b).2
  unfold wpX_farthest
  dsimp only
  refine rx_solve (e := 4) (by omega) (rl_hv R) fun n P m q _ _ a_x a_y a_hull _ _ _ _ _ _ _ _ hn hmn so es H X hq => ?_
  dsimp only
  have Y : ∀ {post : Int32 → Prop}, (∀ M, fa_M (wy_S (bt f_present) v) M → post (wk_i M)) → ((∀ r, ¬ wy_S (bt f_present) v r) → post (-10000)) → wpY_farthest post (f_many, a_spots, a_left, a_list) := fun {post} y1 y0 => by
    unfold wpY_farthest
    exact ⟨577, ry_farthest (rl_SP R) y1 y0 576 0 577 (-10000) (by omega) (by omega) (by omega) (by omega) (Or.inl rfl) (fun c' hc' => absurd hc' (by omega))⟩
  by_cases m0 : m = 0
  · subst m0
    have none : ∀ r, ¬ wy_S (bt f_present) v r := by
      rcases H with ⟨_, s⟩ | ⟨e, _⟩ | ⟨C, _⟩
      · exact s
      · omega
      · have := C.1; omega
    refine br_t rfl (Y (fun M hM => ?_) (fun _ => ⟨rfl, I2⟩))
    obtain ⟨⟨r, _, hr, _⟩, _⟩ := hM
    exact absurd hr (none r)
  · refine br_f (nI_ne0 (by omega) (by omega)) (rx_farthest hb X (by omega) (by omega) hq H fun M hM => ?_)
    refine Y (fun M' hM' => ⟨by rw [fa_Mu hM' hM], I2⟩) (fun none => ?_)
    obtain ⟨⟨r, _, hr, _⟩, _⟩ := hM
    exact absurd hr (none r)
end
section
/-! triangle -/
def tr_M (S : Int × Int → Prop) (M : Int) : Prop := 0 ≤ M ∧ (M = 0 ∨ ∃ r s t, S r ∧ S s ∧ S t ∧ ge_cr r s t = M) ∧ ∀ r s t, S r → S s → S t → ge_cr r s t ≤ M
theorem tr_Mu {S : Int × Int → Prop} {M M' : Int} (h : tr_M S M) (h' : tr_M S M') : M = M' := by
  obtain ⟨a0, a1, a2⟩ := h
  obtain ⟨b0, b1, b2⟩ := h'
  have x : M ≤ M' := by
    rcases a1 with e | ⟨r, s, t, hr, hs, ht, e⟩
    · omega
    · have := b2 r s t hr hs ht; omega
  have y : M' ≤ M := by
    rcases b1 with e | ⟨r, s, t, hr, hs, ht, e⟩
    · omega
    · have := a2 r s t hr hs ht; omega
  omega
theorem tr_hull {S : Int × Int → Prop} {m : Nat} {h : Nat → Int × Int} (C : ge_CH S m h) (hb : ge_bd S) {r s t : Int × Int} (hr : S r) (hs : S s) (ht : S t) : ∃ i j k, i < m ∧ j < m ∧ k < m ∧ ge_cr r s t ≤ ge_cr (h i) (h j) (h k) := by
  obtain ⟨k, hk, x⟩ := ge_max C hb (ge_af_cr r s)
  obtain ⟨j, hj, y⟩ := ge_max C hb (ge_af_cr (h k) r)
  obtain ⟨i, hi, z⟩ := ge_max C hb (ge_af_cr (h j) (h k))
  refine ⟨i, j, k, hi, hj, hk, ?_⟩
  have x1 := x t ht
  have y1 := y s hs
  have z1 := z r hr
  have e1 : ge_cr (h k) r s = ge_cr r s (h k) := ge_rot _ _ _
  have e2 : ge_cr (h j) (h k) r = ge_cr (h k) r (h j) := ge_rot _ _ _
  have e3 : ge_cr (h i) (h j) (h k) = ge_cr (h j) (h k) (h i) := ge_rot _ _ _
  omega
/-- sorted triples are enough -/
theorem tr_sort {S : Int × Int → Prop} {m : Nat} {h : Nat → Int × Int} (C : ge_CH S m h) (hb : ge_bd S) {z : Int} (z0 : 0 ≤ z) (all : ∀ i j k, i < j → j < k → k < m → ge_cr (h i) (h j) (h k) ≤ z) : ∀ i j k, i < m → j < m → k < m → ge_cr (h i) (h j) (h k) ≤ z := by
  have T : ∀ i j k, i < j → j < k → k < m → 0 < ge_cr (h i) (h j) (h k) := fun i j k a b c => ge_tri C hb a b (by omega)
  intro i j k hi hj hk
  have r1 : ge_cr (h i) (h j) (h k) = ge_cr (h j) (h k) (h i) := ge_rot _ _ _
  have r2 : ge_cr (h i) (h j) (h k) = ge_cr (h k) (h i) (h j) := (ge_rot _ _ _).symm
  have s1 : ge_cr (h i) (h j) (h k) = - ge_cr (h j) (h i) (h k) := ge_sw _ _ _
  have s2 : ge_cr (h i) (h j) (h k) = - ge_cr (h i) (h k) (h j) := ge_sw2 _ _ _
  have s3 : ge_cr (h i) (h j) (h k) = - ge_cr (h k) (h j) (h i) := by rw [r2, ge_sw2]
  by_cases ij : i = j
  · rw [ij, ge_cr0]; exact z0
  by_cases jk : j = k
  · rw [jk, ge_cr2]; exact z0
  by_cases ik : i = k
  · rw [ik, ge_cr1]; exact z0
  rcases Nat.lt_or_gt_of_ne ij with a | a <;> rcases Nat.lt_or_gt_of_ne jk with b | b
  · exact all i j k a b hk
  · rcases Nat.lt_or_gt_of_ne ik with c | c
    · have := T i k j c b hj; omega
    · have := all k i j c a hj; omega
  · rcases Nat.lt_or_gt_of_ne ik with c | c
    · have := T j i k a c hk; omega
    · have := all j k i b c hi; omega
  · have := T k j i b a hi; omega
theorem tr_end {S : Int × Int → Prop} (hb : ge_bd S) {m : Nat} {h : Nat → Int × Int} (H : hu_H S m h) {z : Int} (z0 : 0 ≤ z) (ze : z = 0 ∨ ∃ r s t, S r ∧ S s ∧ S t ∧ ge_cr r s t = z) (all : ∀ i j k, i < j → j < k → k < m → ge_cr (h i) (h j) (h k) ≤ z) : tr_M S z := by
  refine ⟨z0, ze, fun r s t hr hs ht => ?_⟩
  rcases H with ⟨_, e⟩ | ⟨_, e⟩ | ⟨C, _⟩
  · exact absurd hr (e r)
  · rw [(e r).mp hr, (e s).mp hs, ge_cr0]; exact z0
  · obtain ⟨i, j, k, hi, hj, hk, x⟩ := tr_hull C hb hr hs ht
    have := tr_sort C hb z0 all i j k hi hj hk
    omega
theorem tr_id (a b c t u : Int × Int) : ge_cr a b c * ge_cr a t u = (ge_cr a c u - ge_cr a c t) * ge_cr a b t - (ge_cr a b u - ge_cr a b t) * ge_cr a c t := by
  unfold ge_cr; grind
def tr_inc (h : Nat → Int × Int) (i j K : Nat) : Prop := ∀ t, j + 1 ≤ t → t < K → ge_cr (h i) (h j) (h t) < ge_cr (h i) (h j) (h (t + 1))
theorem tr_next {S : Int × Int → Prop} {m : Nat} {h : Nat → Int × Int} (C : ge_CH S m h) (hb : ge_bd S) {i j K : Nat} (ij : i < j) (hK : K < m) (I : tr_inc h i j K) : tr_inc h i (j + 1) K := by
  intro t t1 t2
  have G := I t (by omega) t2
  have e := tr_id (h i) (h j) (h (j + 1)) (h t) (h (t + 1))
  have c1 := ge_tri C hb (i := i) (j := j) (k := j + 1) ij (by omega) (by omega)
  have c2 := ge_tri C hb (i := i) (j := t) (k := t + 1) (by omega) (by omega) (by omega)
  have F := ge_tri C hb (i := i) (j := j) (k := t) ij (by omega) (by omega)
  have y := ge_tri C hb (i := i) (j := j + 1) (k := t) (by omega) (by omega) (by omega)
  have p1 := Int.mul_pos c1 c2
  have p2 := Int.mul_pos (show 0 < ge_cr (h i) (h j) (h (t + 1)) - ge_cr (h i) (h j) (h t) by omega) y
  have p3 : 0 < (ge_cr (h i) (h (j + 1)) (h (t + 1)) - ge_cr (h i) (h (j + 1)) (h t)) * ge_cr (h i) (h j) (h t) := by omega
  have := Int.pos_of_mul_pos_left p3 F
  omega
theorem tr_fin1 {S : Int × Int → Prop} {m : Nat} {h : Nat → Int × Int} (C : ge_CH S m h) (hb : ge_bd S) {i j K : Nat} (ij : i < j) (jK : j < K) (hK : K < m) (I : tr_inc h i j K) (tp : ge_cr (h i) (h j) (h (K + 1)) ≤ ge_cr (h i) (h j) (h K)) : ∀ r, S r → ge_cr (h i) (h j) r ≤ ge_cr (h i) (h j) (h K) := by
  intro r hr
  obtain ⟨K, rfl⟩ : ∃ L, K = L + 1 := ⟨K - 1, by omega⟩
  refine ge_lm C hb (ge_af_cr (h i) (h j)) (k := K) hr ?_ tp
  by_cases e : j = K
  · subst e
    rw [ge_cr2]
    exact Int.le_of_lt (ge_tri C hb ij (by omega) (by omega))
  · exact Int.le_of_lt (I K (by omega) (by omega))
theorem tr_fin2 {h : Nat → Int × Int} {i j : Nat} : ∀ {K : Nat}, tr_inc h i j K → ∀ k, j < k → k ≤ K → ge_cr (h i) (h j) (h k) ≤ ge_cr (h i) (h j) (h K)
  | 0, _, k, a, b => absurd a (by omega)
  | K + 1, I, k, a, b => by
    by_cases e : k = K + 1
    · rw [e]; exact Int.le_refl _
    · have x := tr_fin2 (K := K) (fun t t1 t2 => I t t1 (by omega)) k a (by omega)
      have y := I K (by omega) (by omega)
      omega
section
variable {f_present f_count f_size f_keptSize f_waiting : Int32} {a_placeOf a_x a_y a_hull a_kept a_found a_order a_waitA a_waitB a_nextLow a_beforeLow a_nextHigh a_beforeHigh : Nat → Int32} {f_many : Int32} {a_spots a_left a_list : Nat → Int32} {n : Nat} {P : Nat → Int × Int} {m : Nat} {q : Nat → Nat}
theorem rx_t100 {S : Int × Int → Prop} (hb : ge_bd S) (X : wk_XP n P a_x a_y) (hm : m ≤ 24) (hq : ∀ k, k < m → a_hull k = nI (q k) ∧ q k < n) (C : ge_CH S m (fun k => P (q k))) {i j : Nat} (ij : i < j) (jm : j < m) {z : Int} (z0 : 0 ≤ z) (z1 : z ≤ 7938) (ze : z = 0 ∨ ∃ r s t, S r ∧ S s ∧ S t ∧ ge_cr r s t = z) {post : Int32 → SX → Prop} {J13 : Int32 → Int32 → Prop} {J32 : Int32 → Int32 → Int32 → Prop} (hJ : ∀ z' k', z ≤ z' → z' ≤ 7938 → (z' = 0 ∨ ∃ r s t, S r ∧ S s ∧ S t ∧ ge_cr r s t = z') → j < k' → k' < m → tr_inc (fun k => P (q k)) i j k' → (∀ k, j < k → k < m → ge_cr (P (q i)) (P (q j)) (P (q k)) ≤ z') → J32 (wk_i z') (nI k') (nI (j + 1))) {k : Nat} (jk : j < k) (km : k < m) (inc : tr_inc (fun k => P (q k)) i j k) : wX_triangle_57 post J13 J32 (wk_i z) (nI i) (nI j) (nI k) f_present f_count (nI m) f_keptSize f_waiting a_placeOf a_x a_y a_hull a_kept a_found a_order a_waitA a_waitB a_nextLow a_beforeLow a_nextHigh a_beforeHigh := by
  have hn := X.1
  have B := wk_XPb X
  have CS : ∀ k, S (P (q k)) := ge_ch_S C
  have i48 := vp_in_nI (n := i) (N := 48) (by omega) (by omega)
  have j48 := vp_in_nI (n := j) (N := 48) (by omega) (by omega)
  obtain ⟨qi1, qi2⟩ := hq i (by omega)
  obtain ⟨qj1, qj2⟩ := hq j jm
  have bd : ∀ k, k < m → -7938 ≤ ge_cr (P (q i)) (P (q j)) (P (q k)) ∧ ge_cr (P (q i)) (P (q j)) (P (q k)) ≤ 7938 := fun k hk => ge_crb B ⟨_, qi2, rfl⟩ ⟨_, qj2, rfl⟩ ⟨_, (hq k hk).2, rfl⟩
  have out : ∀ k N, j < k → k < m → tr_inc (fun k => P (q k)) i j k → (∀ k', j < k' → k' < m → ge_cr (P (q i)) (P (q j)) (P (q k')) ≤ ge_cr (P (q i)) (P (q j)) (P (q k))) → wX_triangle_100 post J13 J32 (wk_i z) (nI i) (nI j) f_present f_count (nI m) f_keptSize f_waiting a_placeOf a_x a_y a_hull a_kept a_found a_order a_waitA a_waitB a_nextLow a_beforeLow a_nextHigh a_beforeHigh (N + 1) (nI k) (wk_i (ge_cr (P (q i)) (P (q j)) (P (q k)))) 0 := fun k N jk km inc fin => by
    have b := bd k km
    rw [wX_triangle_100]
    dsimp only
    rw [nI_1]
    refine br_t rfl (wk_ble (ge_cr (P (q i)) (P (q j)) (P (q k))) z (fun y => nm_e (hJ z k (Int.le_refl _) z1 ze jk km inc fun k' a b => ?_)) (fun y => nm_e (hJ _ k (by omega) b.2 (Or.inr ⟨_, _, _, CS i, CS j, CS k, rfl⟩) jk km inc fin)))
    have := fin k' a b
    omega
  have A : ∀ (d k N : Nat), k + d + 2 = m → d < N → j < k → tr_inc (fun k => P (q k)) i j k → wX_triangle_100 post J13 J32 (wk_i z) (nI i) (nI j) f_present f_count (nI m) f_keptSize f_waiting a_placeOf a_x a_y a_hull a_kept a_found a_order a_waitA a_waitB a_nextLow a_beforeLow a_nextHigh a_beforeHigh (N + 1) (nI k) (wk_i (ge_cr (P (q i)) (P (q j)) (P (q k)))) 1 := by
    intro d
    induction d with
    | zero =>
      intro k N hd hN jk inc
      obtain ⟨N, rfl⟩ : ∃ M, N = M + 1 := ⟨N - 1, by omega⟩
      have b := bd k (by omega)
      have b' := bd (k + 1) (by omega)
      obtain ⟨qk1, qk2⟩ := hq (k + 1) (by omega)
      rw [wX_triangle_100]
      dsimp only
      rw [nI_1 k, nI_clamp (show i < 2 ^ 31 by omega), nI_clamp (show j < 2 ^ 31 by omega), nI_clamp (show k + 1 < 2 ^ 31 by omega), qi1, qj1, qk1]
      refine br_f (by decide) ⟨i48, j48, vp_in_nI (by omega) (by omega), wx_turn X qi2 qj2 qk2 ?_⟩
      unfold wX_triangle_144 wX_triangle_158 wX_triangle_171
      refine wk_ble (ge_cr (P (q i)) (P (q j)) (P (q (k + 1)))) (ge_cr (P (q i)) (P (q j)) (P (q k))) (fun tp => br_t rfl (br_t rfl (nm_r (e' := nI k) (nI_add k 0) (br_t rfl (out k N jk (by omega) inc fun k' a b => ?_))))) (fun tp => br_f (by decide) (br_f (by decide) (nm_r (e' := nI (k + 1)) (nI_1 k) (br_f (by decide) (br_t ?_ (out (k + 1) N (by omega) (by omega) ?_ ?_))))))
      · exact tr_fin1 C hb ij jk (by omega) inc tp _ (CS k')
      · rw [nI_1]; exact nI_le (by omega) (by omega)
      · intro t t1 t2
        by_cases e : t = k
        · subst e; exact tp
        · exact inc t t1 (by omega)
      · intro k' a b
        refine tr_fin2 (h := fun k => P (q k)) (K := k + 1) (fun t t1 t2 => ?_) k' a (by omega)
        by_cases e : t = k
        · subst e; exact tp
        · exact inc t t1 (by omega)
    | succ d ih =>
      intro k N hd hN jk inc
      obtain ⟨N, rfl⟩ : ∃ M, N = M + 1 := ⟨N - 1, by omega⟩
      have b := bd k (by omega)
      have b' := bd (k + 1) (by omega)
      obtain ⟨qk1, qk2⟩ := hq (k + 1) (by omega)
      rw [wX_triangle_100]
      dsimp only
      rw [nI_1 k, nI_clamp (show i < 2 ^ 31 by omega), nI_clamp (show j < 2 ^ 31 by omega), nI_clamp (show k + 1 < 2 ^ 31 by omega), qi1, qj1, qk1]
      refine br_f (by decide) ⟨i48, j48, vp_in_nI (by omega) (by omega), wx_turn X qi2 qj2 qk2 ?_⟩
      unfold wX_triangle_144 wX_triangle_158 wX_triangle_171
      refine wk_ble (ge_cr (P (q i)) (P (q j)) (P (q (k + 1)))) (ge_cr (P (q i)) (P (q j)) (P (q k))) (fun tp => br_t rfl (br_t rfl (nm_r (e' := nI k) (nI_add k 0) (br_t rfl (out k N jk (by omega) inc fun k' a b => ?_))))) (fun tp => br_f (by decide) (br_f (by decide) (nm_r (e' := nI (k + 1)) (nI_1 k) (br_f (by decide) (br_f ?_ (ih (k + 1) N (by omega) (by omega) (by omega) ?_))))))
      · exact tr_fin1 C hb ij jk (by omega) inc tp _ (CS k')
      · rw [nI_1]; exact nI_ge (by omega) (by omega)
      · intro t t1 t2
        by_cases e : t = k
        · subst e; exact tp
        · exact inc t t1 (by omega)
  obtain ⟨qk1, qk2⟩ := hq k km
  unfold wX_triangle_57
  rw [nI_1, nI_clamp (show i < 2 ^ 31 by omega), nI_clamp (show j < 2 ^ 31 by omega), nI_clamp (show k < 2 ^ 31 by omega), qi1, qj1, qk1]
  refine ⟨i48, j48, vp_in_nI (by omega) (by omega), wx_turn X qi2 qj2 qk2 ?_⟩
  by_cases e : k + 1 = m
  · refine br_t (nI_le (by omega) (by omega)) ⟨1, out k 0 jk km inc fun k' a b => ?_⟩
    exact tr_fin2 (h := fun k => P (q k)) (K := k) inc k' a (by omega)
  · exact br_f (nI_ge (by omega) (by omega)) ⟨m + 1, A (m - k - 2) k m (by omega) (by omega) jk inc⟩
theorem rx_t32 {S : Int × Int → Prop} (hb : ge_bd S) (X : wk_XP n P a_x a_y) (hm : m ≤ 24) (hq : ∀ k, k < m → a_hull k = nI (q k) ∧ q k < n) (C : ge_CH S m (fun k => P (q k))) {i : Nat} (im : i + 2 < m) {post : Int32 → SX → Prop} {J13 : Int32 → Int32 → Prop} {zz : Int} (hJ : ∀ z', zz ≤ z' → z' ≤ 7938 → (z' = 0 ∨ ∃ r s t, S r ∧ S s ∧ S t ∧ ge_cr r s t = z') → (∀ j k, i < j → j < k → k < m → ge_cr (P (q i)) (P (q j)) (P (q k)) ≤ z') → J13 (wk_i z') (nI (i + 1))) (zz0 : 0 ≤ zz) : ∀ (d j k N : Nat) (z : Int), j + d + 1 = m → d < N → i < j → k < m → j ≤ k → (k = j ∨ tr_inc (fun k => P (q k)) i j k) → zz ≤ z → z ≤ 7938 → (z = 0 ∨ ∃ r s t, S r ∧ S s ∧ S t ∧ ge_cr r s t = z) → (∀ j' k', i < j' → j' < j → j' < k' → k' < m → ge_cr (P (q i)) (P (q j')) (P (q k')) ≤ z) → wX_triangle_32 post J13 (nI i) f_present f_count (nI m) f_keptSize f_waiting a_placeOf a_x a_y a_hull a_kept a_found a_order a_waitA a_waitB a_nextLow a_beforeLow a_nextHigh a_beforeHigh N (wk_i z) (nI k) (nI j) := by
  have hn := X.1
  intro d
  induction d with
  | zero =>
    intro j k N z hd hN ij km jk inc w0 z1 ze zl
    obtain ⟨N, rfl⟩ : ∃ M, N = M + 1 := ⟨N - 1, by omega⟩
    rw [wX_triangle_32]
    dsimp only
    rw [nI_1]
    exact br_t (nI_le (by omega) (by omega)) (nm_r (nI_1 i) (hJ z w0 z1 ze fun j' k' a b c => zl j' k' a (by omega) b c))
  | succ d ih =>
    intro j k N z hd hN ij km jk inc w0 z1 ze zl
    obtain ⟨N, rfl⟩ : ∃ M, N = M + 1 := ⟨N - 1, by omega⟩
    have go : ∀ k, j < k → k < m → tr_inc (fun k => P (q k)) i j k → wX_triangle_57 post J13 (wX_triangle_32 post J13 (nI i) f_present f_count (nI m) f_keptSize f_waiting a_placeOf a_x a_y a_hull a_kept a_found a_order a_waitA a_waitB a_nextLow a_beforeLow a_nextHigh a_beforeHigh N) (wk_i z) (nI i) (nI j) (nI k) f_present f_count (nI m) f_keptSize f_waiting a_placeOf a_x a_y a_hull a_kept a_found a_order a_waitA a_waitB a_nextLow a_beforeLow a_nextHigh a_beforeHigh := fun k jk km inc =>
      rx_t100 hb X hm hq C ij (by omega) (by omega) z1 ze (fun z' k' w1 w2 w3 jk' km' inc' fin => ih (j + 1) k' N z' (by omega) (by omega) (by omega) km' (by omega) (Or.inr (tr_next C hb ij km' inc')) (by omega) w2 w3 (fun j' k'' a b c e => by
        by_cases ej : j' = j
        · subst ej; exact fin k'' c e
        · have := zl j' k'' a (by omega) c e; omega)) jk km inc
    rw [wX_triangle_32]
    dsimp only
    rw [nI_1]
    refine br_f (nI_ge (by omega) (by omega)) (pk_le k j (fun y => go (j + 1) (by omega) (by omega) fun t t1 t2 => absurd t2 (by omega)) (fun y => go k y km ?_))
    rcases inc with e | e
    · omega
    · exact e
theorem rx_t13 {S : Int × Int → Prop} (hb : ge_bd S) (X : wk_XP n P a_x a_y) (hm : m ≤ 24) (hq : ∀ k, k < m → a_hull k = nI (q k) ∧ q k < n) (H : hu_H S m (fun k => P (q k))) {post : Int32 → SX → Prop} (hp : ∀ M, tr_M S M → post (wk_i M) (f_present, f_count, nI m, f_keptSize, f_waiting, a_placeOf, a_x, a_y, a_hull, a_kept, a_found, a_order, a_waitA, a_waitB, a_nextLow, a_beforeLow, a_nextHigh, a_beforeHigh)) : ∀ (d i N : Nat) (z : Int), i + d = m → d < N → 0 ≤ z → z ≤ 7938 → (z = 0 ∨ ∃ r s t, S r ∧ S s ∧ S t ∧ ge_cr r s t = z) → (∀ i' j k, i' < i → i' < j → j < k → k < m → ge_cr (P (q i')) (P (q j)) (P (q k)) ≤ z) → wX_triangle_13 post f_present f_count (nI m) f_keptSize f_waiting a_placeOf a_x a_y a_hull a_kept a_found a_order a_waitA a_waitB a_nextLow a_beforeLow a_nextHigh a_beforeHigh N (wk_i z) (nI i) := by
  have hn := X.1
  have e2 : ∀ i, nI i + 2 = nI (i + 2) := fun i => nI_add i 2
  have out : ∀ (i N : Nat) (z : Int), i ≤ m → m ≤ i + 2 → 0 ≤ z → (z = 0 ∨ ∃ r s t, S r ∧ S s ∧ S t ∧ ge_cr r s t = z) → (∀ i' j k, i' < i → i' < j → j < k → k < m → ge_cr (P (q i')) (P (q j)) (P (q k)) ≤ z) → wX_triangle_13 post f_present f_count (nI m) f_keptSize f_waiting a_placeOf a_x a_y a_hull a_kept a_found a_order a_waitA a_waitB a_nextLow a_beforeLow a_nextHigh a_beforeHigh (N + 1) (wk_i z) (nI i) := fun i N z im le z0 ze zl => by
    rw [wX_triangle_13]
    dsimp only
    rw [e2]
    refine br_t (nI_le (by omega) (by omega)) (hp z (tr_end hb H z0 ze fun i' j k a b c => zl i' j k (by omega) a b c))
  intro d
  induction d with
  | zero =>
    intro i N z hd hN z0 z1 ze zl
    obtain ⟨N, rfl⟩ : ∃ M, N = M + 1 := ⟨N - 1, by omega⟩
    exact out i N z (by omega) (by omega) z0 ze zl
  | succ d ih =>
    intro i N z hd hN z0 z1 ze zl
    obtain ⟨N, rfl⟩ : ∃ M, N = M + 1 := ⟨N - 1, by omega⟩
    by_cases le : m ≤ i + 2
    · exact out i N z (by omega) le z0 ze zl
    · have C : ge_CH S m (fun k => P (q k)) := by
        rcases H with ⟨e, _⟩ | ⟨e, _⟩ | ⟨C, _⟩
        · omega
        · omega
        · exact C
      rw [wX_triangle_13]
      dsimp only
      rw [e2, nI_1]
      refine br_f (nI_ge (by omega) (by omega)) (nm_e (nm_e ⟨m, ?_⟩))
      exact rx_t32 hb X hm hq C (by omega) (zz := z) (fun z' w1 w2 w3 w4 => ih (i + 1) N z' (by omega) (by omega) (by omega) w2 w3 (fun i' j k a b c e => by
        by_cases ei : i' = i
        · subst ei; exact w4 j k b c e
        · have := zl i' j k (by omega) b c e; omega)) z0 (m - i - 2) (i + 1) (i + 2) m z (by omega) (by omega) (by omega) (by omega) (by omega) (Or.inr fun t t1 t2 => absurd t2 (by omega)) (Int.le_refl _) z1 ze (fun j' k' a b => absurd b (by omega))
theorem ry_tri13 {B : Nat → Bool} {v : Nat → Nat} (SP : wy_SP B v a_spots) {post : Int32 → Prop} {J4 : Int32 → Int32 → Prop} {c : Nat} (hc : c < 576) {zz : Int} (hJ : ∀ z, zz ≤ z → z ≤ 7938 → (z = 0 ∨ ∃ r s t, wy_S B v r ∧ wy_S B v s ∧ wy_S B v t ∧ ge_cr r s t = z) → (∀ k, k < 24 → B (c / 24) = true → B (c % 24) = true → B k = true → ge_cr (wk_pt (v (c / 24))) (wk_pt (v (c % 24))) (wk_pt (v k)) ≤ z) → J4 (wk_i z) (nI (c + 1))) (zz0 : 0 ≤ zz) : ∀ (d k N : Nat) (z : Int), k + d = 24 → d < N → zz ≤ z → z ≤ 7938 → (z = 0 ∨ ∃ r s t, wy_S B v r ∧ wy_S B v s ∧ wy_S B v t ∧ ge_cr r s t = z) → (∀ k', k' < k → B (c / 24) = true → B (c % 24) = true → B k' = true → ge_cr (wk_pt (v (c / 24))) (wk_pt (v (c % 24))) (wk_pt (v k')) ≤ z) → wY_triangle_13 post J4 (nI c) f_many a_spots a_left a_list N (wk_i z) (nI k) := by
  intro d
  induction d with
  | zero =>
    intro k N z hk hN w0 z1 ze zl
    obtain ⟨N, rfl⟩ : ∃ M, N = M + 1 := ⟨N - 1, by omega⟩
    have e : k = 24 := by omega
    subst e
    rw [wY_triangle_13]
    exact br_t (nI_le (a := 24) (by omega) (by omega)) (nm_r (nI_1 c) (hJ z w0 z1 ze zl))
  | succ d ih =>
    intro k N z hk hN w0 z1 ze zl
    obtain ⟨N, rfl⟩ : ∃ M, N = M + 1 := ⟨N - 1, by omega⟩
    have I := ih (k + 1) N
    rw [← nI_1] at I
    have no : ¬ (B (c / 24) = true ∧ B (c % 24) = true ∧ B k = true) → wY_triangle_86 post J4 (wY_triangle_13 post J4 (nI c) f_many a_spots a_left a_list N) (wk_i z) (nI c) (nI k) f_many a_spots a_left a_list := fun n => by
      unfold wY_triangle_86 wY_triangle_87
      exact wk_ble 0 z (fun _ => nm_e (I z (by omega) (by omega) w0 z1 ze (lt_s zl fun a b e => absurd ⟨a, b, e⟩ n))) (fun w => absurd w (by omega))
    have v1 := vp_in_nI (n := c / 24) (N := 24) (by omega) (by omega)
    have v2 := vp_in_nI (n := c % 24) (N := 24) (by omega) (by omega)
    have v3 := vp_in_nI (n := k) (N := 24) (by omega) (by omega)
    rw [wY_triangle_13]
    dsimp only
    rw [wk_r24 (show c < 2 ^ 31 by omega), wk_d24 (show c < 2 ^ 31 by omega)]
    refine br_f (nI_ge (b := 24) (by omega) (by omega)) ⟨wk_24, wy_isB SP (by omega) (fun b1 => br_f (by decide) ⟨wk_24, wy_isB SP (by omega) (fun b2 => br_f (by decide) (wy_isB SP (by omega) (fun b3 => br_f (by decide) ⟨wk_24, v1, wk_24, v2, v3, ?_⟩) (fun b3 => br_t rfl (no fun w => b3 w.2.2)))) (fun b2 => br_t rfl (no fun w => b2 w.2.1))⟩) (fun b1 => br_t rfl (no fun w => b1 w.1))⟩
    obtain ⟨s1, s2⟩ := (SP (c / 24) (by omega)).1 b1
    obtain ⟨t1, t2⟩ := (SP (c % 24) (by omega)).1 b2
    obtain ⟨u1, u2⟩ := (SP k (by omega)).1 b3
    rw [nI_clamp (show c / 24 < 2 ^ 31 by omega), nI_clamp (show c % 24 < 2 ^ 31 by omega), nI_clamp (show k < 2 ^ 31 by omega), s1, t1, u1, show nI (v (c / 24) + 1) - 1 = nI (v (c / 24)) from nI_pred _, show nI (v (c % 24) + 1) - 1 = nI (v (c % 24)) from nI_pred _, show nI (v k + 1) - 1 = nI (v k) from nI_pred _]
    refine wy_turn s2 t2 u2 ?_
    have bd := ge_crb wy_b (p := wk_pt (v (c / 24))) (q := wk_pt (v (c % 24))) (r := wk_pt (v k)) ⟨_, s2, rfl⟩ ⟨_, t2, rfl⟩ ⟨_, u2, rfl⟩
    unfold wY_triangle_87
    refine wk_ble (ge_cr (wk_pt (v (c / 24))) (wk_pt (v (c % 24))) (wk_pt (v k))) z (fun y => nm_e (I z (by omega) (by omega) w0 z1 ze (lt_s zl fun _ _ _ => y))) (fun y => nm_e (I _ (by omega) (by omega) (by omega) bd.2 (Or.inr ⟨_, _, _, ⟨c / 24, by omega, b1, rfl⟩, ⟨c % 24, by omega, b2, rfl⟩, ⟨k, by omega, b3, rfl⟩, rfl⟩) (lt_s (fun k' hk' a b e => ?_) fun _ _ _ => Int.le_refl _)))
    have := zl k' hk' a b e
    omega
theorem ry_tri4 {B : Nat → Bool} {v : Nat → Nat} (SP : wy_SP B v a_spots) {post : Int32 → Prop} (hp : ∀ M, tr_M (wy_S B v) M → post (wk_i M)) : ∀ (d c N : Nat) (z : Int), c + d = 576 → d < N → 0 ≤ z → z ≤ 7938 → (z = 0 ∨ ∃ r s t, wy_S B v r ∧ wy_S B v s ∧ wy_S B v t ∧ ge_cr r s t = z) → (∀ c' k, c' < c → k < 24 → B (c' / 24) = true → B (c' % 24) = true → B k = true → ge_cr (wk_pt (v (c' / 24))) (wk_pt (v (c' % 24))) (wk_pt (v k)) ≤ z) → wY_triangle_4 post f_many a_spots a_left a_list N (wk_i z) (nI c) := by
  intro d
  induction d with
  | zero =>
    intro c N z hc hN z0 z1 ze zl
    obtain ⟨N, rfl⟩ : ∃ M, N = M + 1 := ⟨N - 1, by omega⟩
    have e : c = 576 := by omega
    subst e
    rw [wY_triangle_4]
    refine br_t (nI_le (a := 576) (by omega) (by omega)) (hp z ⟨z0, ze, ?_⟩)
    rintro r s t ⟨i, i1, i2, i3⟩ ⟨j, j1, j2, j3⟩ ⟨k, k1, k2, k3⟩
    have x := zl (24 * i + j) k (by omega) k1
    rw [show (24 * i + j) / 24 = i by omega, show (24 * i + j) % 24 = j by omega, i3, j3, k3] at x
    exact x i2 j2 k2
  | succ d ih =>
    intro c N z hc hN z0 z1 ze zl
    obtain ⟨N, rfl⟩ : ∃ M, N = M + 1 := ⟨N - 1, by omega⟩
    rw [wY_triangle_4]
    refine br_f (nI_ge (b := 576) (by omega) (by omega)) ⟨25, ?_⟩
    exact ry_tri13 SP (by omega) (zz := z) (fun z' w1 w2 w3 w4 => ih (c + 1) N z' (by omega) (by omega) (by omega) w2 w3 (fun c' k a b e1 e2 e3 => by
      by_cases ec : c' = c
      · subst ec; exact w4 k b e1 e2 e3
      · have := zl c' k (by omega) b e1 e2 e3; omega)) z0 24 0 25 z (by omega) (by omega) (Int.le_refl _) z1 ze (fun k' hk' => absurd hk' (by omega))
end
theorem i_vc_triangle {k : Nat} {u : SX} {v : SY} (I : i_Rel k u v) (hk : k + 3 ≤ 1536) : wpX_triangle (fun r u' => wpY_triangle (fun r' => r' = r ∧ i_Rel (k + 3) u' v) v) u := by
  obtain ⟨f_present, f_count, f_size, f_keptSize, f_waiting, a_placeOf, a_x, a_y, a_hull, a_kept, a_found, a_order, a_waitA, a_waitB, a_nextLow, a_beforeLow, a_nextHigh, a_beforeHigh⟩ := u
  obtain ⟨f_many, a_spots, a_left, a_list⟩ := v
  have I' : rl_R f_present a_placeOf a_spots := I
  have I2 := I'
  obtain ⟨hi, v, R⟩ := I'
  have hb : ge_bd (wy_S (bt f_present) v) := wy_Sb fun k hk b => (rl_hv R k hk b).2
  unfold wpX_triangle
  dsimp only
  refine rx_solve (e := 5) (by omega) (rl_hv R) fun n P m q _ _ a_x a_y a_hull _ _ _ _ _ _ _ _ hn hmn so es H X hq => ?_
  dsimp only
  refine ⟨m + 1, rx_t13 hb X (by omega) hq H (fun M hM => ?_) m 0 (m + 1) 0 (by omega) (by omega) (by omega) (by omega) (Or.inl rfl) (fun i' j k a => absurd a (by omega))⟩
  unfold wpY_triangle
  exact ⟨577, ry_tri4 (rl_SP R) (fun M' hM' => ⟨by rw [tr_Mu hM' hM], I2⟩) 576 0 577 0 (by omega) (by omega) (by omega) (by omega) (Or.inl rfl) (fun c' k a => absurd a (by omega))⟩
end
section
/-! counting by columns: lattice places above an edge -/
noncomputable def pc_i (p : Prop) : Int := @ite Int p (Classical.propDecidable p) 1 0
theorem pc_1 {p : Prop} (h : p) : pc_i p = 1 := @if_pos p (Classical.propDecidable p) h Int 1 0
theorem pc_0 {p : Prop} (h : ¬ p) : pc_i p = 0 := @if_neg p (Classical.propDecidable p) h Int 1 0
theorem pc_c {p q : Prop} (h : p ↔ q) : pc_i p = pc_i q := by rw [propext h]
def pc_s (f : Nat → Int) : Nat → Int
  | 0 => 0
  | n + 1 => pc_s f n + f n
theorem pc_sc {f g : Nat → Int} : ∀ n, (∀ i, i < n → f i = g i) → pc_s f n = pc_s g n
  | 0, _ => rfl
  | n + 1, h => by
    show pc_s f n + f n = pc_s g n + g n
    rw [pc_sc n (fun i hi => h i (by omega)), h n (by omega)]
theorem pc_sa (f g : Nat → Int) : ∀ n, pc_s (fun i => f i + g i) n = pc_s f n + pc_s g n
  | 0 => rfl
  | n + 1 => by
    show pc_s (fun i => f i + g i) n + (f n + g n) = (pc_s f n + f n) + (pc_s g n + g n)
    rw [pc_sa f g n]; omega
theorem pc_sb (f g : Nat → Int) : ∀ n, pc_s (fun i => f i - g i) n = pc_s f n - pc_s g n
  | 0 => rfl
  | n + 1 => by
    show pc_s (fun i => f i - g i) n + (f n - g n) = (pc_s f n + f n) - (pc_s g n + g n)
    rw [pc_sb f g n]; omega
theorem pc_sk (c : Int) : ∀ n : Nat, pc_s (fun _ => c) n = (n : Int) * c
  | 0 => by show (0 : Int) = ((0 : Nat) : Int) * c; simp
  | n + 1 => by
    show pc_s (fun _ => c) n + c = ((n + 1 : Nat) : Int) * c
    rw [pc_sk c n, show ((n + 1 : Nat) : Int) = (n : Int) + 1 by omega]; grind
theorem pc_s0 {f : Nat → Int} (n : Nat) (h : ∀ i, i < n → f i = 0) : pc_s f n = 0 := by
  rw [pc_sc n (g := fun _ => 0) h, pc_sk]; simp
theorem pc_sp (f : Nat → Int) (a : Nat) : ∀ b, pc_s f (a + b) = pc_s f a + pc_s (fun i => f (a + i)) b
  | 0 => by show pc_s f a = pc_s f a + 0; omega
  | b + 1 => by
    show pc_s f (a + b) + f (a + b) = pc_s f a + (pc_s (fun i => f (a + i)) b + f (a + b))
    rw [pc_sp f a b]; omega
theorem pc_sr : ∀ (n : Nat) (f : Nat → Int), pc_s f n = pc_s (fun i => f (n - 1 - i)) n
  | 0, _ => rfl
  | n + 1, f => by
    have a := pc_sp f 1 n
    rw [Nat.add_comm 1 n] at a
    have b := pc_sr n (fun i => f (1 + i))
    have c : pc_s (fun i => f (1 + (n - 1 - i))) n = pc_s (fun i => f (n + 1 - 1 - i)) n := pc_sc n fun i hi => by
      show f (1 + (n - 1 - i)) = f (n + 1 - 1 - i)
      congr 1; omega
    have d : pc_s (fun i => f (n + 1 - 1 - i)) (n + 1) = pc_s (fun i => f (n + 1 - 1 - i)) n + f (n + 1 - 1 - n) := rfl
    have e : pc_s f 1 = 0 + f 0 := rfl
    rw [d, a, b, c, e, show n + 1 - 1 - n = 0 by omega]; omega
theorem pc_sw (F : Nat → Nat → Int) (b : Nat) : ∀ a, pc_s (fun x => pc_s (fun y => F x y) b) a = pc_s (fun y => pc_s (fun x => F x y) a) b
  | 0 => (pc_s0 b (fun _ _ => rfl)).symm
  | a + 1 => by
    show pc_s (fun x => pc_s (fun y => F x y) b) a + pc_s (fun y => F a y) b = pc_s (fun y => pc_s (fun x => F x y) a + F a y) b
    rw [pc_sw F b a, pc_sa]
theorem pc_bl (f : Nat → Int) : ∀ a, pc_s f (64 * a) = pc_s (fun x => pc_s (fun y => f (64 * x + y)) 64) a
  | 0 => rfl
  | a + 1 => by
    rw [show 64 * (a + 1) = 64 * a + 64 by omega, pc_sp, pc_bl f a]
    rfl
theorem pc_thr (c : Int) (h0 : 0 ≤ c) : ∀ n : Nat, c ≤ n → pc_s (fun y => pc_i (c ≤ (y : Int))) n = n - c
  | 0, h => by show (0 : Int) = ((0 : Nat) : Int) - c; omega
  | n + 1, h => by
    by_cases e : c = ((n + 1 : Nat) : Int)
    · rw [pc_s0 (n + 1) (fun i hi => pc_0 (by omega))]; omega
    · show pc_s (fun y => pc_i (c ≤ (y : Int))) n + pc_i (c ≤ (n : Int)) = _
      rw [pc_thr c h0 n (by omega), pc_1 (show c ≤ (n : Int) by omega)]; omega
/-- sums over an interval -/
theorem pc_iv {f g : Nat → Int} {a b : Nat} (h : a ≤ b) (e : ∀ i, a ≤ i → i < b → f i = g i) : pc_s f b - pc_s f a = pc_s g b - pc_s g a := by
  obtain ⟨c, rfl⟩ : ∃ c, b = a + c := ⟨b - a, by omega⟩
  rw [pc_sp f a c, pc_sp g a c, pc_sc c (f := fun i => f (a + i)) (g := fun i => g (a + i)) (fun i hi => e _ (by omega) (by omega))]
  omega

def pc_fl (d : Nat) (e : Int) (i : Nat) : Int := (e * (i : Int)) / (d : Int)
def pc_cl (d : Nat) (e : Int) (i : Nat) : Int := -((-(e * (i : Int))) / (d : Int))
theorem pc_clI {d : Nat} (hd : 0 < d) (e : Int) (i : Nat) (w : Int) : 0 ≤ (d : Int) * w - e * (i : Int) ↔ pc_cl d e i ≤ w := by
  unfold pc_cl
  have h := Int.le_ediv_iff_mul_le (a := -w) (b := -(e * (i : Int))) (c := (d : Int)) (by omega)
  have k : -w * (d : Int) = -((d : Int) * w) := by grind
  rw [k] at h
  constructor
  · intro z
    have := h.mpr (by omega)
    omega
  · intro z
    have := h.mp (by omega)
    omega
theorem pc_flI {d : Nat} (hd : 0 < d) (e : Int) (i : Nat) (w : Int) : 0 < (d : Int) * w - e * (i : Int) ↔ pc_fl d e i + 1 ≤ w := by
  unfold pc_fl
  have h := Int.ediv_lt_iff_lt_mul (a := e * (i : Int)) (b := w) (c := (d : Int)) (by omega)
  rw [Int.mul_comm w (d : Int)] at h
  constructor
  · intro z
    have := h.mpr (by omega)
    omega
  · intro z
    have := h.mp (by omega)
    omega
theorem pc_ref {d : Nat} (hd : 0 < d) (e : Int) {i : Nat} (hi : i ≤ d) : pc_fl d e (d - i) = e - pc_cl d e i := by
  unfold pc_fl pc_cl
  have k : e * ((d - i : Nat) : Int) = -(e * (i : Int)) + e * (d : Int) := by
    rw [show ((d - i : Nat) : Int) = (d : Int) - i by omega]; grind
  rw [k, Int.add_mul_ediv_right _ _ (by omega)]
  omega
theorem pc_fc0 (d : Nat) (e : Int) : pc_fl d e 0 = 0 ∧ pc_cl d e 0 = 0 := by
  unfold pc_fl pc_cl; simp
theorem pc_sum {d : Nat} (hd : 0 < d) (e : Int) : pc_s (fun i => pc_fl d e i + pc_cl d e i) d = ((d : Int) - 1) * e := by
  obtain ⟨k, rfl⟩ : ∃ k, d = k + 1 := ⟨d - 1, by omega⟩
  have a := pc_sp (fun i => pc_fl (k + 1) e i + pc_cl (k + 1) e i) 1 k
  rw [Nat.add_comm 1 k] at a
  have z := pc_fc0 (k + 1) e
  have e1 : pc_s (fun i => pc_fl (k + 1) e i + pc_cl (k + 1) e i) 1 = 0 := by
    show 0 + (pc_fl (k + 1) e 0 + pc_cl (k + 1) e 0) = 0
    omega
  have b : pc_s (fun i => pc_fl (k + 1) e (1 + i) + pc_cl (k + 1) e (1 + i)) k = pc_s (fun i => pc_fl (k + 1) e (1 + i) + (e - pc_fl (k + 1) e (1 + (k - 1 - i)))) k := pc_sc k fun i hi => by
    have r := pc_ref hd e (i := 1 + i) (by omega)
    rw [show k + 1 - (1 + i) = 1 + (k - 1 - i) by omega] at r
    show pc_fl (k + 1) e (1 + i) + pc_cl (k + 1) e (1 + i) = pc_fl (k + 1) e (1 + i) + (e - pc_fl (k + 1) e (1 + (k - 1 - i)))
    omega
  have c := pc_sr k (fun i => pc_fl (k + 1) e (1 + i))
  have d1 := pc_sa (fun i => pc_fl (k + 1) e (1 + i)) (fun i => e - pc_fl (k + 1) e (1 + (k - 1 - i))) k
  have d2 := pc_sb (fun _ => e) (fun i => pc_fl (k + 1) e (1 + (k - 1 - i))) k
  have d3 := pc_sk e k
  have g : ((k + 1 : Nat) : Int) - 1 = (k : Int) := by omega
  rw [a, e1, b, d1, d2, d3, ← c, g]; omega
theorem pc_div {d : Nat} (hd : 0 < d) (e : Int) (i : Nat) : 1 + pc_fl d e i - pc_cl d e i = pc_i ((d : Int) ∣ e * (i : Int)) := by
  unfold pc_fl pc_cl
  generalize e * (i : Int) = E
  have a := Int.mul_ediv_add_emod E (d : Int)
  have a1 := Int.emod_nonneg E (show (d : Int) ≠ 0 by omega)
  have a2 := Int.emod_lt_of_pos E (show 0 < (d : Int) by omega)
  have b := Int.mul_ediv_add_emod (-E) (d : Int)
  have b1 := Int.emod_nonneg (-E) (show (d : Int) ≠ 0 by omega)
  have b2 := Int.emod_lt_of_pos (-E) (show 0 < (d : Int) by omega)
  have dv : (d : Int) ∣ E ↔ E % (d : Int) = 0 := Int.dvd_iff_emod_eq_zero
  generalize E / (d : Int) = x at *
  generalize (-E) / (d : Int) = y at *
  generalize E % (d : Int) = r at *
  generalize (-E) % (d : Int) = s at *
  have p : (d : Int) * (x + y) = - (r + s) := by grind
  have u1 : x + y ≤ 0 := by
    apply Int.le_of_not_gt
    intro z
    have := Int.mul_pos (show 0 < (d : Int) by omega) z
    omega
  have u2 : -1 ≤ x + y := by
    apply Int.le_of_not_gt
    intro z
    have := Int.mul_le_mul_of_nonneg_left (show x + y ≤ -2 by omega) (show 0 ≤ (d : Int) by omega)
    omega
  by_cases c : x + y = 0
  · rw [c, Int.mul_zero] at p
    rw [pc_1 (dv.mpr (by omega))]; omega
  · have c' : x + y = -1 := by omega
    rw [c'] at p
    rw [pc_0 fun z => by have := dv.mp z; omega]; omega
theorem pc_mult {u : Nat} (hu : 0 < u) : ∀ g, pc_s (fun i => pc_i (u ∣ i)) (g * u) = (g : Int)
  | 0 => by rw [Nat.zero_mul]; rfl
  | g + 1 => by
    rw [Nat.succ_mul, pc_sp, pc_mult hu g]
    obtain ⟨w, rfl⟩ : ∃ w, u = w + 1 := ⟨u - 1, by omega⟩
    have a := pc_sp (fun i => pc_i (w + 1 ∣ g * (w + 1) + i)) 1 w
    rw [Nat.add_comm 1 w] at a
    have e1 : pc_s (fun i => pc_i (w + 1 ∣ g * (w + 1) + i)) 1 = 1 := by
      show 0 + pc_i (w + 1 ∣ g * (w + 1) + 0) = 1
      rw [pc_1 ⟨g, by rw [Nat.add_zero, Nat.mul_comm]⟩]; rfl
    have e2 : pc_s (fun i => pc_i (w + 1 ∣ g * (w + 1) + (1 + i))) w = 0 := pc_s0 w fun i hi => pc_0 fun z => by
      have := (Nat.dvd_add_right (Nat.dvd_mul_left (w + 1) g)).mp z
      have := Nat.le_of_dvd (by omega) this
      omega
    rw [a, e1, e2]; omega
theorem pc_gcd {d : Nat} (hd : 0 < d) (e : Int) : pc_s (fun i => pc_i ((d : Int) ∣ e * (i : Int))) d = (Nat.gcd d e.natAbs : Int) := by
  have g0 : 0 < Nat.gcd d e.natAbs := Nat.gcd_pos_of_pos_left _ hd
  obtain ⟨u, hu⟩ := Nat.gcd_dvd_left d e.natAbs
  obtain ⟨w, hw⟩ := Nat.gcd_dvd_right d e.natAbs
  have cop : Nat.Coprime u w := by
    have := Nat.coprime_div_gcd_div_gcd g0
    rwa [Nat.div_eq_of_eq_mul_right g0 hu, Nat.div_eq_of_eq_mul_right g0 hw] at this
  have u0 : 0 < u := by
    apply Nat.pos_of_ne_zero
    intro z
    rw [z, Nat.mul_zero] at hu
    omega
  have key : ∀ i : Nat, ((d : Int) ∣ e * (i : Int)) ↔ u ∣ i := fun i => by
    rw [Int.ofNat_dvd_left, Int.natAbs_mul, Int.natAbs_natCast]
    constructor
    · intro z
      have z2 : Nat.gcd d e.natAbs * u ∣ Nat.gcd d e.natAbs * (w * i) := by
        rw [← hu, ← Nat.mul_assoc, ← hw]; exact z
      have z3 := Nat.dvd_of_mul_dvd_mul_left g0 z2
      exact cop.dvd_of_dvd_mul_left z3
    · rintro ⟨t, rfl⟩
      refine ⟨w * t, ?_⟩
      have : e.natAbs * (u * t) = (Nat.gcd d e.natAbs * w) * (u * t) := by rw [← hw]
      rw [this]
      have : d * (w * t) = (Nat.gcd d e.natAbs * u) * (w * t) := by rw [← hu]
      rw [this]
      grind
  rw [pc_sc d (g := fun i => pc_i (u ∣ i)) (fun i _ => pc_c (key i))]
  have := pc_mult u0 (Nat.gcd d e.natAbs)
  rw [← hu] at this
  exact this
end
section
/-! one edge: how many places of its key interval are on its left, or on it -/
def pc_kp (k : Nat) : Int × Int := (((k / 64 : Nat) : Int), ((k % 64 : Nat) : Int))
def pc_T (a b : Int × Int) : Int := 64 * (b.1 - a.1) + (b.2 - a.2) + (b.1 - a.1) * (63 - a.2 - b.2)
theorem pc_Ts (a b : Int × Int) : pc_T b a = - pc_T a b := by unfold pc_T; grind
theorem pc_T3 (a b c : Int × Int) : pc_T a b + pc_T b c + pc_T c a = ge_cr a b c := by unfold pc_T ge_cr; grind
noncomputable def pc_F (a b : Int × Int) (k : Nat) : Int := pc_i (0 ≤ ge_cr a b (pc_kp k))
noncomputable def pc_G (a b : Int × Int) (k : Nat) : Int := pc_i (0 < ge_cr a b (pc_kp k))
theorem pc_kpe {x y : Nat} (hy : y < 64) : pc_kp (64 * x + y) = ((x : Int), (y : Int)) := by
  unfold pc_kp
  rw [show (64 * x + y) / 64 = x by omega, show (64 * x + y) % 64 = y by omega]
theorem pc_flb {d : Nat} (hd : 0 < d) {e : Int} {i : Nat} (hi : i ≤ d) {lo hi' : Int} (l0 : lo ≤ 0) (l1 : lo ≤ e) (h0 : 0 ≤ hi') (h1 : e ≤ hi') : lo ≤ pc_fl d e i ∧ pc_fl d e i ≤ hi' ∧ lo ≤ pc_cl d e i ∧ pc_cl d e i ≤ hi' := by
  have lo2 : (d : Int) * lo ≤ e * (i : Int) := by
    have a := Int.mul_nonneg (show 0 ≤ e - lo by omega) (show 0 ≤ (i : Int) by omega)
    have b := Int.mul_nonneg (show 0 ≤ -lo by omega) (show 0 ≤ (d : Int) - i by omega)
    have c : e * (i : Int) - (d : Int) * lo = (e - lo) * (i : Int) + (-lo) * ((d : Int) - i) := by grind
    omega
  have hi2 : e * (i : Int) ≤ (d : Int) * hi' := by
    have a := Int.mul_nonneg (show 0 ≤ hi' - e by omega) (show 0 ≤ (i : Int) by omega)
    have b := Int.mul_nonneg (show 0 ≤ hi' by omega) (show 0 ≤ (d : Int) - i by omega)
    have c : (d : Int) * hi' - e * (i : Int) = (hi' - e) * (i : Int) + hi' * ((d : Int) - i) := by grind
    omega
  have c1 : pc_cl d e i ≤ hi' := (pc_clI hd e i hi').mp (by omega)
  have c2 : lo ≤ pc_fl d e i := by
    apply Int.le_of_not_gt
    intro z
    have := (pc_flI hd e i lo).mpr (by omega)
    omega
  have c3 : lo ≤ pc_cl d e i := by
    apply Int.le_of_not_gt
    intro z
    have w := (pc_clI hd e i (pc_cl d e i)).mpr (Int.le_refl _)
    have := Int.mul_le_mul_of_nonneg_left (show pc_cl d e i ≤ lo - 1 by omega) (show 0 ≤ (d : Int) by omega)
    have k : (d : Int) * (lo - 1) = (d : Int) * lo - d := by grind
    omega
  have c4 : pc_fl d e i ≤ hi' := by
    apply Int.le_of_not_gt
    intro z
    have w := (pc_flI hd e i (hi' + 1))
    have : ¬ (pc_fl d e i + 1 ≤ hi' + 1) := by omega
    have n := fun q => this (w.mp q)
    have k : (d : Int) * (hi' + 1) = (d : Int) * hi' + d := by grind
    exact n (by omega)
  exact ⟨c2, c4, c3, c1⟩
theorem pc_edge {ax ay bx by' : Nat} (hax : ax ≤ 63) (hay : ay ≤ 63) (hbx : bx ≤ 63) (hby : by' ≤ 63) (hk : 64 * ax + ay < 64 * bx + by') : 2 * (pc_s (pc_F ((ax : Int), (ay : Int)) ((bx : Int), (by' : Int))) (64 * bx + by') - pc_s (pc_F ((ax : Int), (ay : Int)) ((bx : Int), (by' : Int))) (64 * ax + ay)) = pc_T ((ax : Int), (ay : Int)) ((bx : Int), (by' : Int)) + (Nat.gcd (bx - ax : Int).natAbs (by' - ay : Int).natAbs : Int) ∧ 2 * (pc_s (pc_G ((ax : Int), (ay : Int)) ((bx : Int), (by' : Int))) (64 * bx + by') - pc_s (pc_G ((ax : Int), (ay : Int)) ((bx : Int), (by' : Int))) (64 * ax + ay)) = pc_T ((ax : Int), (ay : Int)) ((bx : Int), (by' : Int)) - (Nat.gcd (bx - ax : Int).natAbs (by' - ay : Int).natAbs : Int) := by
  by_cases hd : bx = ax
  · subst hd
    have hy : ay < by' := by omega
    have cr0 : ∀ k, 64 * bx + ay ≤ k → k < 64 * bx + by' → ge_cr ((bx : Int), (ay : Int)) ((bx : Int), (by' : Int)) (pc_kp k) = 0 := fun k k1 k2 => by
      obtain ⟨y, hy', rfl⟩ : ∃ y, y < 64 ∧ k = 64 * bx + y := ⟨k - 64 * bx, by omega, by omega⟩
      rw [pc_kpe hy']
      unfold ge_cr
      show ((bx : Int) - bx) * ((y : Int) - ay) - ((by' : Int) - ay) * ((bx : Int) - bx) = 0
      rw [Int.sub_self]; simp
    have f1 := pc_iv (f := pc_F ((bx : Int), (ay : Int)) ((bx : Int), (by' : Int))) (g := fun _ => 1) (a := 64 * bx + ay) (b := 64 * bx + by') (by omega) (fun k k1 k2 => pc_1 (by rw [cr0 k k1 k2]; omega))
    have f2 := pc_iv (f := pc_G ((bx : Int), (ay : Int)) ((bx : Int), (by' : Int))) (g := fun _ => 0) (a := 64 * bx + ay) (b := 64 * bx + by') (by omega) (fun k k1 k2 => pc_0 (by rw [cr0 k k1 k2]; omega))
    rw [pc_sk, pc_sk] at f1 f2
    have g : (Nat.gcd ((bx : Int) - bx).natAbs ((by' : Int) - ay).natAbs : Int) = (by' : Int) - ay := by
      rw [Int.sub_self]
      show (Nat.gcd 0 ((by' : Int) - ay).natAbs : Int) = _
      rw [Nat.gcd_zero_left]; omega
    have t : pc_T ((bx : Int), (ay : Int)) ((bx : Int), (by' : Int)) = (by' : Int) - ay := by
      unfold pc_T
      show 64 * ((bx : Int) - bx) + ((by' : Int) - ay) + ((bx : Int) - bx) * (63 - (ay : Int) - by') = _
      rw [Int.sub_self]; simp
    rw [g, t, f1, f2]
    constructor <;> omega
  · obtain ⟨d, rfl⟩ : ∃ d, bx = ax + d := ⟨bx - ax, by omega⟩
    have d0 : 0 < d := by omega
    generalize he : (by' : Int) - (ay : Int) = e
    have cr : ∀ i y : Nat, y < 64 → ge_cr ((ax : Int), (ay : Int)) (((ax + d : Nat) : Int), (by' : Int)) (pc_kp (64 * (ax + i) + y)) = (d : Int) * ((y : Int) - ay) - e * (i : Int) := fun i y hy => by
      rw [pc_kpe hy]
      unfold ge_cr
      show (((ax + d : Nat) : Int) - ax) * ((y : Int) - ay) - ((by' : Int) - ay) * (((ax + i : Nat) : Int) - ax) = _
      rw [he, show ((ax + d : Nat) : Int) - ax = d by omega, show ((ax + i : Nat) : Int) - ax = i by omega]
    have bnd : ∀ i, i < d → 0 ≤ (ay : Int) + pc_cl d e i ∧ (ay : Int) + pc_cl d e i ≤ 64 ∧ 0 ≤ (ay : Int) + pc_fl d e i + 1 ∧ (ay : Int) + pc_fl d e i + 1 ≤ 64 := fun i hi => by
      have := pc_flb d0 (e := e) (i := i) (by omega) (lo := -(ay : Int)) (hi' := 63 - (ay : Int)) (by omega) (by omega) (by omega) (by omega)
      omega
    have colF : ∀ i, i < d → pc_s (fun y => pc_F ((ax : Int), (ay : Int)) (((ax + d : Nat) : Int), (by' : Int)) (64 * (ax + i) + y)) 64 = 64 - ((ay : Int) + pc_cl d e i) := fun i hi => by
      have b := bnd i hi
      have hc := pc_sc (f := fun y => pc_F ((ax : Int), (ay : Int)) (((ax + d : Nat) : Int), (by' : Int)) (64 * (ax + i) + y)) (g := fun y => pc_i ((ay : Int) + pc_cl d e i ≤ (y : Int))) 64 (fun y hy => pc_c (by
        rw [cr i y hy]
        have := pc_clI d0 e i ((y : Int) - ay)
        omega))
      rw [hc, pc_thr _ b.1 64 b.2.1]
      rfl
    have colG : ∀ i, i < d → pc_s (fun y => pc_G ((ax : Int), (ay : Int)) (((ax + d : Nat) : Int), (by' : Int)) (64 * (ax + i) + y)) 64 = 64 - ((ay : Int) + pc_fl d e i + 1) := fun i hi => by
      have b := bnd i hi
      have hc := pc_sc (f := fun y => pc_G ((ax : Int), (ay : Int)) (((ax + d : Nat) : Int), (by' : Int)) (64 * (ax + i) + y)) (g := fun y => pc_i ((ay : Int) + pc_fl d e i + 1 ≤ (y : Int))) 64 (fun y hy => pc_c (by
        rw [cr i y hy]
        have := pc_flI d0 e i ((y : Int) - ay)
        omega))
      rw [hc, pc_thr _ b.2.2.1 64 b.2.2.2]
      rfl
    -- what lies beside the full columns is on the right
    have neg1 : ∀ y, y < ay → ge_cr ((ax : Int), (ay : Int)) (((ax + d : Nat) : Int), (by' : Int)) (pc_kp (64 * ax + y)) < 0 := fun y hy => by
      have c := cr 0 y (by omega)
      rw [Nat.add_zero] at c
      have m := Int.mul_neg_of_pos_of_neg (show 0 < (d : Int) by omega) (show (y : Int) - ay < 0 by omega)
      rw [c]
      show (d : Int) * ((y : Int) - ay) - e * ((0 : Nat) : Int) < 0
      simp only [Int.natCast_zero, Int.mul_zero]
      omega
    have neg2 : ∀ y, y < by' → ge_cr ((ax : Int), (ay : Int)) (((ax + d : Nat) : Int), (by' : Int)) (pc_kp (64 * (ax + d) + y)) < 0 := fun y hy => by
      rw [cr d y (by omega)]
      have m := Int.mul_neg_of_pos_of_neg (show 0 < (d : Int) by omega) (show (y : Int) - by' < 0 by omega)
      have k : (d : Int) * ((y : Int) - ay) - e * (d : Int) = (d : Int) * ((y : Int) - by') := by rw [← he]; grind
      omega
    have whole : ∀ f : Nat → Int, (∀ y, y < ay → f (64 * ax + y) = 0) → (∀ y, y < by' → f (64 * (ax + d) + y) = 0) → pc_s f (64 * (ax + d) + by') - pc_s f (64 * ax + ay) = pc_s (fun i => pc_s (fun y => f (64 * (ax + i) + y)) 64) d := fun f f1 f2 => by
      rw [pc_sp f (64 * (ax + d)) by', pc_sp f (64 * ax) ay, pc_s0 by' f2, pc_s0 ay f1, show 64 * (ax + d) = 64 * ax + 64 * d by omega, pc_sp f (64 * ax) (64 * d), pc_bl (fun i => f (64 * ax + i)) d]
      have : pc_s (fun x => pc_s (fun y => f (64 * ax + (64 * x + y))) 64) d = pc_s (fun i => pc_s (fun y => f (64 * (ax + i) + y)) 64) d := pc_sc d fun x _ => pc_sc 64 fun y _ => by
        show f (64 * ax + (64 * x + y)) = f (64 * (ax + x) + y)
        congr 1; omega
      rw [this]; omega
    have SF := whole (pc_F ((ax : Int), (ay : Int)) (((ax + d : Nat) : Int), (by' : Int))) (fun y hy => pc_0 (by have := neg1 y hy; omega)) (fun y hy => pc_0 (by have := neg2 y hy; omega))
    have SG := whole (pc_G ((ax : Int), (ay : Int)) (((ax + d : Nat) : Int), (by' : Int))) (fun y hy => pc_0 (by have := neg1 y hy; omega)) (fun y hy => pc_0 (by have := neg2 y hy; omega))
    rw [pc_sc d colF] at SF
    rw [pc_sc d colG] at SG
    have sum := pc_sum d0 e
    have sa : pc_s (fun i => (64 - ((ay : Int) + pc_cl d e i)) + (64 - ((ay : Int) + pc_fl d e i + 1))) d = pc_s (fun i => (127 - 2 * (ay : Int)) - (pc_fl d e i + pc_cl d e i)) d := pc_sc d fun i _ => by
      show (64 - ((ay : Int) + pc_cl d e i)) + (64 - ((ay : Int) + pc_fl d e i + 1)) = (127 - 2 * (ay : Int)) - (pc_fl d e i + pc_cl d e i)
      omega
    rw [pc_sa (fun i => 64 - ((ay : Int) + pc_cl d e i)) (fun i => 64 - ((ay : Int) + pc_fl d e i + 1)) d, pc_sb (fun _ => 127 - 2 * (ay : Int)) (fun i => pc_fl d e i + pc_cl d e i) d, pc_sk, sum] at sa
    have sd : pc_s (fun i => (64 - ((ay : Int) + pc_cl d e i)) - (64 - ((ay : Int) + pc_fl d e i + 1))) d = pc_s (fun i => pc_i ((d : Int) ∣ e * (i : Int))) d := pc_sc d fun i _ => by
      rw [← pc_div d0 e i]
      show (64 - ((ay : Int) + pc_cl d e i)) - (64 - ((ay : Int) + pc_fl d e i + 1)) = 1 + pc_fl d e i - pc_cl d e i
      omega
    rw [pc_sb (fun i => 64 - ((ay : Int) + pc_cl d e i)) (fun i => 64 - ((ay : Int) + pc_fl d e i + 1)) d, pc_gcd d0 e] at sd
    rw [← SF, ← SG] at sa sd
    have T : pc_T ((ax : Int), (ay : Int)) (((ax + d : Nat) : Int), (by' : Int)) = (d : Int) * (127 - 2 * (ay : Int)) - ((d : Int) - 1) * e := by
      unfold pc_T
      show 64 * (((ax + d : Nat) : Int) - ax) + ((by' : Int) - ay) + (((ax + d : Nat) : Int) - ax) * (63 - (ay : Int) - by') = _
      rw [show ((ax + d : Nat) : Int) - ax = d by omega, ← he]
      grind
    have gg : (((ax + d : Nat) : Int) - (ax : Int)).natAbs = d := by omega
    rw [gg, T]
    constructor <;> omega
end
section
/-! the places of a hull: twice their number is the double area, the places on edges, and two -/
theorem pc_mono {S : Int × Int → Prop} {m : Nat} {h : Nat → Int × Int} (C : ge_CH S m h) (hb : ge_bd S) (mn : ∀ r, S r → ge_key (h 0) ≤ ge_key r) : ∃ t, 0 < t ∧ t < m ∧ (∀ r, S r → ge_key r ≤ ge_key (h t)) ∧ (∀ k, k < t → ge_key (h k) < ge_key (h (k + 1))) ∧ (∀ d, t + d < m → ge_key (h (t + d + 1)) < ge_key (h (t + d))) := by
  have m2 := C.1
  have CS := ge_ch_S C
  have nk : ∀ i j, i < j → j < i + m → ge_key (h i) ≠ ge_key (h j) := fun i j a b e => C.2.2.2 i j a b (ge_key_inj hb (CS i) (CS j) e)
  obtain ⟨t, tm, mx⟩ := ge_max C hb ge_af_key
  have t0 : 0 < t := by
    apply Nat.pos_of_ne_zero
    intro z
    subst z
    have a := mn (h 1) (CS 1)
    have b := mx (h 1) (CS 1)
    exact nk 0 1 (by omega) (by omega) (by omega)
  refine ⟨t, t0, tm, mx, fun k => ?_, fun d => ?_⟩
  · induction k with
    | zero =>
      intro _
      have a := mn (h 1) (CS 1)
      have b := nk 0 1 (by omega) (by omega)
      show ge_key (h 0) < ge_key (h 1)
      omega
    | succ k ih =>
      intro hk
      have a := ih (by omega)
      show ge_key (h (k + 1)) < ge_key (h (k + 2))
      apply Int.lt_of_not_ge
      intro z
      have L := ge_lm C hb ge_af_key (k := k) (CS t) (Int.le_of_lt a) z
      have b := mx (h (k + 1)) (CS _)
      exact nk (k + 1) t (by omega) (by omega) (by omega)
  · induction d with
    | zero =>
      intro _
      have a := mx (h (t + 1)) (CS _)
      have b := nk t (t + 1) (by omega) (by omega)
      show ge_key (h (t + 1)) < ge_key (h t)
      omega
    | succ d ih =>
      intro hd
      have a := ih (by omega)
      show ge_key (h (t + d + 2)) < ge_key (h (t + d + 1))
      apply Int.lt_of_not_ge
      intro z
      have L := ge_lm C hb (ge_af_neg ge_af_key) (k := t + d) (CS 0) (by show - ge_key (h (t + d)) ≤ - ge_key (h (t + d + 1)); omega) (by show - ge_key (h (t + d + 2)) ≤ - ge_key (h (t + d + 1)); omega)
      have b := mn (h (t + d + 1)) (CS _)
      exact nk 0 (t + d + 1) (by omega) (by omega) (by omega)
theorem pc_gp (s e a b c : Int × Int) : ge_cr s e b * (ge_key c - ge_key a) = ge_cr s e a * (ge_key c - ge_key b) + ge_cr s e c * (ge_key b - ge_key a) - ge_cr a b c * (ge_key e - ge_key s) := by
  unfold ge_cr ge_key; grind
theorem pc_kpk (k : Nat) : ge_key (pc_kp k) = (k : Int) := by
  unfold ge_key pc_kp
  show 64 * ((k / 64 : Nat) : Int) + ((k % 64 : Nat) : Int) = (k : Int)
  omega
theorem pc_area (h : Nat → Int × Int) : ∀ k, pc_s (fun i => pc_T (h i) (h (i + 1))) (k + 1) + pc_T (h (k + 1)) (h 0) = rl_ar h k
  | 0 => by
    have := pc_Ts (h 0) (h 1)
    show 0 + pc_T (h 0) (h 1) + pc_T (h 1) (h 0) = 0
    omega
  | k + 1 => by
    have a := pc_area h k
    have b := pc_T3 (h (k + 1)) (h (k + 2)) (h 0)
    have c : ge_cr (h (k + 1)) (h (k + 2)) (h 0) = ge_cr (h 0) (h (k + 1)) (h (k + 2)) := (ge_rot _ _ _).symm
    have d := pc_Ts (h 0) (h (k + 1))
    show pc_s (fun i => pc_T (h i) (h (i + 1))) (k + 1) + pc_T (h (k + 1)) (h (k + 2)) + pc_T (h (k + 2)) (h 0) = rl_ar h k + ge_cr (h 0) (h (k + 1)) (h (k + 2))
    omega
def pc_g (h : Nat → Int × Int) (i : Nat) : Int := (Nat.gcd ((h (i + 1)).1 - (h i).1).natAbs ((h (i + 1)).2 - (h i).2).natAbs : Int)
/-- between two ends, by keys -/
theorem pc_btw {a b p : Int × Int} (hab : ge_key a < ge_key b) (c : ge_cr a b p = 0) : (0 ≤ ge_dt a b p ∧ ge_dt a b p ≤ ge_sq a b) ↔ (ge_key a ≤ ge_key p ∧ ge_key p ≤ ge_key b) := by
  have n : a ≠ b := fun z => by rw [z] at hab; omega
  have E := ge_sqp n
  have s := ge_seg ge_af_key a b p c
  have e1 : ge_sq a b * (ge_key p - ge_key a) = ge_dt a b p * (ge_key b - ge_key a) := by grind
  have e2 : ge_sq a b * (ge_key b - ge_key p) = (ge_sq a b - ge_dt a b p) * (ge_key b - ge_key a) := by grind
  constructor
  · rintro ⟨h1, h2⟩
    have x1 := ge_nn E e1 (Int.mul_nonneg h1 (by omega))
    have x2 := ge_nn E e2 (Int.mul_nonneg (by omega) (by omega))
    omega
  · rintro ⟨h1, h2⟩
    have y1 := Int.mul_nonneg (Int.le_of_lt E) (show 0 ≤ ge_key p - ge_key a by omega)
    have y2 := Int.mul_nonneg (Int.le_of_lt E) (show 0 ≤ ge_key b - ge_key p by omega)
    rw [e1] at y1
    rw [e2] at y2
    have z1 := Int.nonneg_of_mul_nonneg_left y1 (by omega)
    have z2 := Int.nonneg_of_mul_nonneg_left y2 (by omega)
    omega
theorem pc_pick {S : Int × Int → Prop} {m : Nat} {h : Nat → Int × Int} (C : ge_CH S m h) (hb : ge_bd S) (mn : ∀ r, S r → ge_key (h 0) ≤ ge_key r) : 2 * pc_s (fun k => pc_i (wh_in m h (pc_kp k))) 4096 = 2 + rl_ar h (m - 2) + pc_s (pc_g h) m := by
  have m2 := C.1
  have CS := ge_ch_S C
  obtain ⟨t, t0, tm, mx, up, dn⟩ := pc_mono C hb mn
  -- whole numbers for the corners
  obtain ⟨hx, hy, hxy⟩ : ∃ hx hy : Nat → Nat, ∀ i, hx i ≤ 63 ∧ hy i ≤ 63 ∧ h i = ((hx i : Int), (hy i : Int)) := by
    refine ⟨fun i => (h i).1.toNat, fun i => (h i).2.toNat, fun i => ?_⟩
    have b := hb _ (CS i)
    refine ⟨by show (h i).1.toNat ≤ 63; omega, by show (h i).2.toNat ≤ 63; omega, Prod.ext ?_ ?_⟩
    · show (h i).1 = (((h i).1.toNat : Nat) : Int)
      omega
    · show (h i).2 = (((h i).2.toNat : Nat) : Int)
      omega
  have Kk : ∀ i, ge_key (h i) = ((64 * hx i + hy i : Nat) : Int) := fun i => by
    rw [(hxy i).2.2]
    unfold ge_key
    show 64 * (hx i : Int) + (hy i : Int) = _
    omega
  have Kp : ∀ i, pc_kp (64 * hx i + hy i) = h i := fun i => by
    have b := hxy i
    rw [pc_kpe (by omega)]; exact b.2.2.symm
  have hm : h m = h 0 := by have := C.2.1 0; rwa [Nat.zero_add] at this
  have K4 : ∀ i, 64 * hx i + hy i < 4096 := fun i => by have := hxy i; omega
  have Kup : ∀ i, i < t → 64 * hx i + hy i < 64 * hx (i + 1) + hy (i + 1) := fun i hi => by
    have a := up i hi
    rw [Kk, Kk] at a
    omega
  have Kdn : ∀ d, t + d < m → 64 * hx (t + d + 1) + hy (t + d + 1) < 64 * hx (t + d) + hy (t + d) := fun d hd => by
    have a := dn d hd
    rw [Kk, Kk] at a
    omega
  -- corners are on the left of every edge
  have cS : ∀ k j, 0 ≤ ge_cr (h k) (h (k + 1)) (h j) := fun k j => ge_nx_ge (C.2.2.1 k) (CS j)
  -- above its own lower edge: above all of them
  have low : ∀ i, i < t → ∀ k, 64 * hx i + hy i ≤ k → k < 64 * hx (i + 1) + hy (i + 1) → 0 ≤ ge_cr (h i) (h (i + 1)) (pc_kp k) → ∀ i', i' < t → 0 ≤ ge_cr (h i') (h (i' + 1)) (pc_kp k) := fun i hi k k1 k2 c i' hi' => by
    have e := pc_gp (h i') (h (i' + 1)) (h i) (pc_kp k) (h (i + 1))
    have u := up i hi
    have u' := up i' hi'
    have kk := pc_kpk k
    have a1 := Kk i
    have a2 := Kk (i + 1)
    have sw := ge_sw2 (h i) (h (i + 1)) (pc_kp k)
    have x1 := Int.mul_nonneg (cS i' i) (show 0 ≤ ge_key (h (i + 1)) - ge_key (pc_kp k) by omega)
    have x2 := Int.mul_nonneg (cS i' (i + 1)) (show 0 ≤ ge_key (pc_kp k) - ge_key (h i) by omega)
    have x3 := Int.mul_nonpos_of_nonpos_of_nonneg (show ge_cr (h i) (pc_kp k) (h (i + 1)) ≤ 0 by omega) (show 0 ≤ ge_key (h (i' + 1)) - ge_key (h i') by omega)
    have y : 0 ≤ ge_cr (h i') (h (i' + 1)) (pc_kp k) * (ge_key (h (i + 1)) - ge_key (h i)) := by rw [e]; omega
    exact Int.nonneg_of_mul_nonneg_left y (by omega)
  have upp : ∀ d, t + d < m → ∀ k, 64 * hx (t + d + 1) + hy (t + d + 1) ≤ k → k < 64 * hx (t + d) + hy (t + d) → 0 ≤ ge_cr (h (t + d)) (h (t + d + 1)) (pc_kp k) → ∀ j, t ≤ j → j < m → 0 ≤ ge_cr (h j) (h (j + 1)) (pc_kp k) := fun d hd k k1 k2 c j j1 j2 => by
    have e := pc_gp (h j) (h (j + 1)) (h (t + d + 1)) (pc_kp k) (h (t + d))
    have u := dn d hd
    have u' := dn (j - t) (by omega)
    rw [show t + (j - t) = j by omega] at u'
    have kk := pc_kpk k
    have a1 := Kk (t + d)
    have a2 := Kk (t + d + 1)
    have rt : ge_cr (h (t + d + 1)) (pc_kp k) (h (t + d)) = ge_cr (h (t + d)) (h (t + d + 1)) (pc_kp k) := (ge_rot _ _ _).symm
    have x1 := Int.mul_nonneg (cS j (t + d + 1)) (show 0 ≤ ge_key (h (t + d)) - ge_key (pc_kp k) by omega)
    have x2 := Int.mul_nonneg (cS j (t + d)) (show 0 ≤ ge_key (pc_kp k) - ge_key (h (t + d + 1)) by omega)
    have x3 := Int.mul_nonpos_of_nonneg_of_nonpos (show 0 ≤ ge_cr (h (t + d + 1)) (pc_kp k) (h (t + d)) by omega) (show ge_key (h (j + 1)) - ge_key (h j) ≤ 0 by omega)
    have y : 0 ≤ ge_cr (h j) (h (j + 1)) (pc_kp k) * (ge_key (h (t + d)) - ge_key (h (t + d + 1))) := by rw [e]; omega
    exact Int.nonneg_of_mul_nonneg_left y (by omega)
  have over : ∀ d, t + d < m → ∀ k, 64 * hx (t + d + 1) + hy (t + d + 1) ≤ k → k < 64 * hx (t + d) + hy (t + d) → ge_cr (h (t + d)) (h (t + d + 1)) (pc_kp k) < 0 → ∀ i, i < t → 0 ≤ ge_cr (h i) (h (i + 1)) (pc_kp k) := fun d hd k k1 k2 c i hi => by
    have e := pc_gp (h i) (h (i + 1)) (h (t + d + 1)) (pc_kp k) (h (t + d))
    have u := dn d hd
    have u' := up i hi
    have kk := pc_kpk k
    have a1 := Kk (t + d)
    have a2 := Kk (t + d + 1)
    have rt : ge_cr (h (t + d + 1)) (pc_kp k) (h (t + d)) = ge_cr (h (t + d)) (h (t + d + 1)) (pc_kp k) := (ge_rot _ _ _).symm
    have x1 := Int.mul_nonneg (cS i (t + d + 1)) (show 0 ≤ ge_key (h (t + d)) - ge_key (pc_kp k) by omega)
    have x2 := Int.mul_nonneg (cS i (t + d)) (show 0 ≤ ge_key (pc_kp k) - ge_key (h (t + d + 1)) by omega)
    have x3 := Int.mul_nonpos_of_nonpos_of_nonneg (show ge_cr (h (t + d + 1)) (pc_kp k) (h (t + d)) ≤ 0 by omega) (show 0 ≤ ge_key (h (i + 1)) - ge_key (h i) by omega)
    have y : 0 ≤ ge_cr (h i) (h (i + 1)) (pc_kp k) * (ge_key (h (t + d)) - ge_key (h (t + d + 1))) := by rw [e]; omega
    exact Int.nonneg_of_mul_nonneg_left y (by omega)
  -- every key between has its upper edge
  have fnd : ∀ e k, t + e ≤ m → 64 * hx (t + e) + hy (t + e) ≤ k → k < 64 * hx t + hy t → ∃ d, t + d < m ∧ 64 * hx (t + d + 1) + hy (t + d + 1) ≤ k ∧ k < 64 * hx (t + d) + hy (t + d) := fun e => by
    induction e with
    | zero => intro k _ a b; exact absurd a (by show ¬ 64 * hx t + hy t ≤ k; omega)
    | succ e ih =>
      intro k le a b
      by_cases c : 64 * hx (t + e) + hy (t + e) ≤ k
      · exact ih k (by omega) c b
      · exact ⟨e, by omega, a, by omega⟩
  have hm0 : hx m = hx 0 ∧ hy m = hy 0 := by
    have a := (hxy m).2.2
    have b := (hxy 0).2.2
    rw [hm, b] at a
    have a1 := congrArg Prod.fst a
    have a2 := congrArg Prod.snd a
    have a1' : (hx 0 : Int) = (hx m : Int) := a1
    have a2' : (hy 0 : Int) = (hy m : Int) := a2
    omega
  obtain ⟨L, hL⟩ : ∃ L : Nat → Prop, ∀ k, L k ↔ ∀ i, i < t → 0 ≤ ge_cr (h i) (h (i + 1)) (pc_kp k) := ⟨_, fun _ => Iff.rfl⟩
  obtain ⟨V, hV⟩ : ∃ V : Nat → Prop, ∀ k, V k ↔ ∀ j, t ≤ j → j < m → 0 ≤ ge_cr (h j) (h (j + 1)) (pc_kp k) := ⟨_, fun _ => Iff.rfl⟩
  -- lower edges
  have lowI : ∀ i, i < t → 2 * (pc_s (fun k => pc_i (L k)) (64 * hx (i + 1) + hy (i + 1)) - pc_s (fun k => pc_i (L k)) (64 * hx i + hy i)) = pc_T (h i) (h (i + 1)) + pc_g h i := fun i hi => by
    have e := pc_iv (f := fun k => pc_i (L k)) (g := pc_F (h i) (h (i + 1))) (Nat.le_of_lt (Kup i hi)) (fun k k1 k2 => pc_c ⟨fun z => (hL k).mp z i hi, fun z => (hL k).mpr (low i hi k k1 k2 z)⟩)
    have b1 := hxy i
    have b2 := hxy (i + 1)
    have E := (pc_edge b1.1 b1.2.1 b2.1 b2.2.1 (Kup i hi)).1
    rw [← b1.2.2, ← b2.2.2] at E
    rw [e, E]
    unfold pc_g
    rw [b1.2.2, b2.2.2]
  have upI : ∀ d, t + d < m → 2 * (pc_s (fun k => pc_i (¬ V k)) (64 * hx (t + d) + hy (t + d)) - pc_s (fun k => pc_i (¬ V k)) (64 * hx (t + d + 1) + hy (t + d + 1))) = -(pc_T (h (t + d)) (h (t + d + 1)) + pc_g h (t + d)) := fun d hd => by
    have e := pc_iv (f := fun k => pc_i (¬ V k)) (g := pc_G (h (t + d + 1)) (h (t + d))) (Nat.le_of_lt (Kdn d hd)) (fun k k1 k2 => pc_c (by
      have sw := ge_sw (h (t + d)) (h (t + d + 1)) (pc_kp k)
      constructor
      · intro z
        apply Int.lt_of_not_ge
        intro w
        exact z ((hV k).mpr (upp d hd k k1 k2 (by omega)))
      · intro z w
        have := (hV k).mp w (t + d) (by omega) hd
        omega))
    have b1 := hxy (t + d)
    have b2 := hxy (t + d + 1)
    have E := (pc_edge b2.1 b2.2.1 b1.1 b1.2.1 (Kdn d hd)).2
    rw [← b1.2.2, ← b2.2.2] at E
    have Ts := pc_Ts (h (t + d)) (h (t + d + 1))
    rw [e, E, Ts]
    unfold pc_g
    rw [b1.2.2, b2.2.2]
    show _ = -(_ + (Nat.gcd ((hx (t + d + 1) : Int) - hx (t + d)).natAbs ((hy (t + d + 1) : Int) - hy (t + d)).natAbs : Int))
    rw [show ((hx (t + d) : Int) - hx (t + d + 1)).natAbs = ((hx (t + d + 1) : Int) - hx (t + d)).natAbs by omega, show ((hy (t + d) : Int) - hy (t + d + 1)).natAbs = ((hy (t + d + 1) : Int) - hy (t + d)).natAbs by omega]
    omega
  have sumL : ∀ i, i ≤ t → 2 * (pc_s (fun k => pc_i (L k)) (64 * hx i + hy i) - pc_s (fun k => pc_i (L k)) (64 * hx 0 + hy 0)) = pc_s (fun i => pc_T (h i) (h (i + 1)) + pc_g h i) i := fun i => by
    induction i with
    | zero => intro _; show 2 * (_ - _) = (0 : Int); omega
    | succ i ih =>
      intro hi
      have a := ih (by omega)
      have b := lowI i (by omega)
      show _ = pc_s (fun i => pc_T (h i) (h (i + 1)) + pc_g h i) i + (pc_T (h i) (h (i + 1)) + pc_g h i)
      omega
  have sumU : ∀ d, t + d ≤ m → 2 * (pc_s (fun k => pc_i (¬ V k)) (64 * hx t + hy t) - pc_s (fun k => pc_i (¬ V k)) (64 * hx (t + d) + hy (t + d))) = - pc_s (fun i => pc_T (h (t + i)) (h (t + i + 1)) + pc_g h (t + i)) d := fun d => by
    induction d with
    | zero => intro _; rw [Nat.add_zero]; show 2 * (_ - _) = -(0 : Int); omega
    | succ d ih =>
      intro hd
      have a := ih (by omega)
      have b := upI d (by omega)
      show 2 * (_ - pc_s (fun k => pc_i (¬ V k)) (64 * hx (t + d + 1) + hy (t + d + 1))) = -(pc_s (fun i => pc_T (h (t + i)) (h (t + i + 1)) + pc_g h (t + i)) d + (pc_T (h (t + d)) (h (t + d + 1)) + pc_g h (t + d)))
      omega
  -- what is in
  have inB : ∀ p, wh_in m h p → ge_key (h 0) ≤ ge_key p ∧ ge_key p ≤ ge_key (h t) := fun p i => by
    by_cases h3 : 3 ≤ m
    · have a := wh_in3 h3 i
      constructor
      · have x := ge_lm3 C hb h3 (ge_af_neg ge_af_key) (k := m - 1) (r := p) (by
          have := mn (h (m - 1)) (CS _)
          rw [show m - 1 + 1 = m by omega, hm]; omega) (by
          have := mn (h (m - 1 + 2)) (CS _)
          rw [show m - 1 + 1 = m by omega, hm]; omega) (a (m - 1)) (a (m - 1 + 1))
        rw [show m - 1 + 1 = m by omega, hm] at x
        omega
      · obtain ⟨s, rfl⟩ : ∃ s, t = s + 1 := ⟨t - 1, by omega⟩
        exact ge_lm3 C hb h3 ge_af_key (k := s) (r := p) (mx _ (CS _)) (mx _ (CS _)) (a s) (a (s + 1))
    · have e : m = 2 := by omega
      subst e
      have e1 : t = 1 := by omega
      subst e1
      rcases i with ⟨x, _⟩ | ⟨_, x, y⟩ | ⟨x, _⟩
      · omega
      · exact (pc_btw (up 0 (by omega)) x).mp y
      · omega
  have inI : ∀ k, 64 * hx 0 + hy 0 ≤ k → k < 64 * hx t + hy t → (wh_in m h (pc_kp k) ↔ L k ∧ V k) := fun k k1 k2 => by
    by_cases h3 : 3 ≤ m
    · constructor
      · intro i
        have a := wh_in3 h3 i
        exact ⟨(hL k).mpr fun i _ => a i, (hV k).mpr fun j _ _ => a j⟩
      · rintro ⟨l, w⟩
        refine Or.inr (Or.inr ⟨h3, fun j => ?_⟩)
        rw [wh_all C]
        have lm := Nat.mod_lt j (show 0 < m by omega)
        by_cases c : j % m < t
        · exact (hL k).mp l _ c
        · exact (hV k).mp w _ (by omega) lm
    · have e : m = 2 := by omega
      subst e
      have e1 : t = 1 := by omega
      subst e1
      have u0 : ge_key (h 0) < ge_key (h 1) := up 0 (by omega)
      have kk := pc_kpk k
      have a0 := Kk 0
      have a1 := Kk 1
      have sw := ge_sw (h 0) (h 1) (pc_kp k)
      constructor
      · rintro (⟨x, _⟩ | ⟨_, x, y⟩ | ⟨x, _⟩)
        · omega
        · refine ⟨(hL k).mpr fun i hi => ?_, (hV k).mpr fun j j1 j2 => ?_⟩
          · rw [show i = 0 by omega]
            show 0 ≤ ge_cr (h 0) (h 1) (pc_kp k)
            omega
          · rw [show j = 1 by omega]
            show 0 ≤ ge_cr (h 1) (h 2) (pc_kp k)
            rw [hm]; omega
        · omega
      · rintro ⟨l, w⟩
        have c0 : 0 ≤ ge_cr (h 0) (h 1) (pc_kp k) := (hL k).mp l 0 (by omega)
        have c1 : 0 ≤ ge_cr (h 1) (h 2) (pc_kp k) := (hV k).mp w 1 (by omega) (by omega)
        rw [hm] at c1
        have c : ge_cr (h 0) (h 1) (pc_kp k) = 0 := by omega
        exact Or.inr (Or.inl ⟨rfl, c, (pc_btw u0 c).mpr (by omega)⟩)
  have K0t : 64 * hx 0 + hy 0 ≤ 64 * hx t + hy t := by
    have a := mn (h t) (CS t)
    rw [Kk, Kk] at a
    omega
  have mid := pc_iv (f := fun k => pc_i (wh_in m h (pc_kp k))) (g := fun k => pc_i (L k) - pc_i (¬ V k)) K0t (fun k k1 k2 => by
    show pc_i (wh_in m h (pc_kp k)) = pc_i (L k) - pc_i (¬ V k)
    rw [pc_c (inI k k1 k2)]
    by_cases w : V k
    · rw [pc_0 (p := ¬ V k) (fun n => n w)]
      by_cases l : L k
      · rw [pc_1 (p := L k ∧ V k) ⟨l, w⟩, pc_1 l]; rfl
      · rw [pc_0 (p := L k ∧ V k) (fun z => l z.1), pc_0 l]; rfl
    · have l : L k := by
        obtain ⟨d, d1, d2, d3⟩ := fnd (m - t) k (by omega) (by rw [show t + (m - t) = m by omega, hm0.1, hm0.2]; exact k1) k2
        refine (hL k).mpr (over d d1 k d2 d3 ?_)
        apply Int.lt_of_not_ge
        intro z
        exact w ((hV k).mpr (upp d d1 k d2 d3 z))
      rw [pc_0 (p := L k ∧ V k) (fun z => w z.2), pc_1 l, pc_1 (p := ¬ V k) w]; rfl)
  rw [pc_sb (fun k => pc_i (L k)) (fun k => pc_i (¬ V k)), pc_sb (fun k => pc_i (L k)) (fun k => pc_i (¬ V k))] at mid
  have z0 : pc_s (fun k => pc_i (wh_in m h (pc_kp k))) (64 * hx 0 + hy 0) = 0 := pc_s0 _ fun k hk => pc_0 fun i => by
    have a := (inB _ i).1
    rw [pc_kpk, Kk] at a
    omega
  have z1 : pc_i (wh_in m h (pc_kp (64 * hx t + hy t))) = 1 := pc_1 (by
    rw [Kp]
    by_cases h3 : 3 ≤ m
    · exact Or.inr (Or.inr ⟨h3, fun k => cS k t⟩)
    · have e : m = 2 := by omega
      subst e
      have e1 : t = 1 := by omega
      subst e1
      exact Or.inr (Or.inl ⟨rfl, ge_cr2 _ _, by rw [ge_dt2]; exact ge_sqn _ _, by rw [ge_dt2]; exact Int.le_refl _⟩))
  have z2 : pc_s (fun k => pc_i (wh_in m h (pc_kp k))) 4096 = pc_s (fun k => pc_i (wh_in m h (pc_kp k))) (64 * hx t + hy t) + 1 := by
    have k4 := K4 t
    have a := pc_sp (fun k => pc_i (wh_in m h (pc_kp k))) (64 * hx t + hy t + 1) (4096 - (64 * hx t + hy t + 1))
    rw [show 64 * hx t + hy t + 1 + (4096 - (64 * hx t + hy t + 1)) = 4096 by omega] at a
    have b : pc_s (fun i => pc_i (wh_in m h (pc_kp (64 * hx t + hy t + 1 + i)))) (4096 - (64 * hx t + hy t + 1)) = 0 := pc_s0 _ fun k hk => pc_0 fun i => by
      have x := (inB _ i).2
      rw [pc_kpk, Kk] at x
      omega
    have c : pc_s (fun k => pc_i (wh_in m h (pc_kp k))) (64 * hx t + hy t + 1) = pc_s (fun k => pc_i (wh_in m h (pc_kp k))) (64 * hx t + hy t) + pc_i (wh_in m h (pc_kp (64 * hx t + hy t))) := rfl
    omega
  have sL := sumL t (Nat.le_refl _)
  have sU := sumU (m - t) (by omega)
  rw [show t + (m - t) = m by omega, hm0.1, hm0.2] at sU
  have tot := pc_sp (fun i => pc_T (h i) (h (i + 1)) + pc_g h i) t (m - t)
  rw [show t + (m - t) = m by omega, pc_sa (fun i => pc_T (h i) (h (i + 1))) (pc_g h) m] at tot
  have ar := pc_area h (m - 2)
  rw [show m - 2 + 1 = m - 1 by omega] at ar
  have ar2 : pc_s (fun i => pc_T (h i) (h (i + 1))) m = pc_s (fun i => pc_T (h i) (h (i + 1))) (m - 1) + pc_T (h (m - 1)) (h 0) := by
    obtain ⟨k, rfl⟩ : ∃ k, m = k + 1 := ⟨m - 1, by omega⟩
    show pc_s (fun i => pc_T (h i) (h (i + 1))) k + pc_T (h k) (h (k + 1)) = _
    rw [hm]; rfl
  omega
/-- the other order of the places -/
theorem pc_swap (m : Nat) (h : Nat → Int × Int) : pc_s (fun v => pc_i (wh_in m h (wk_pt v))) 4096 = pc_s (fun k => pc_i (wh_in m h (pc_kp k))) 4096 := by
  have a := pc_bl (fun v => pc_i (wh_in m h (wk_pt v))) 64
  have b := pc_bl (fun k => pc_i (wh_in m h (pc_kp k))) 64
  rw [show 64 * 64 = 4096 from rfl] at a b
  rw [a, b, pc_sw]
  refine pc_sc 64 fun y hy => pc_sc 64 fun x hx => ?_
  show pc_i (wh_in m h (wk_pt (64 * x + y))) = pc_i (wh_in m h (pc_kp (64 * y + x)))
  rw [pc_kpe hx]
  unfold wk_pt
  rw [show (64 * x + y) % 64 = y by omega, show (64 * x + y) / 64 = x by omega]
end
section
/-! places -/
theorem pc_b01 (p : Prop) : 0 ≤ pc_i p ∧ pc_i p ≤ 1 := by
  by_cases h : p
  · rw [pc_1 h]; omega
  · rw [pc_0 h]; omega
theorem pc_bn (f : Nat → Prop) : ∀ n : Nat, 0 ≤ pc_s (fun i => pc_i (f i)) n ∧ pc_s (fun i => pc_i (f i)) n ≤ n
  | 0 => by show 0 ≤ (0 : Int) ∧ (0 : Int) ≤ ((0 : Nat) : Int); omega
  | n + 1 => by
    have a := pc_bn f n
    have b := pc_b01 (f n)
    show 0 ≤ pc_s (fun i => pc_i (f i)) n + pc_i (f n) ∧ pc_s (fun i => pc_i (f i)) n + pc_i (f n) ≤ ((n + 1 : Nat) : Int)
    omega
theorem pc_single (c : Nat) : ∀ n : Nat, c < n → pc_s (fun v => pc_i (v = c)) n = 1
  | 0, h => absurd h (by omega)
  | n + 1, h => by
    show pc_s (fun v => pc_i (v = c)) n + pc_i (n = c) = 1
    by_cases e : n = c
    · rw [pc_1 e, pc_s0 n (fun i hi => pc_0 (by omega))]; rfl
    · rw [pc_0 e, pc_single c n (by omega)]; rfl
theorem pc_gb {S : Int × Int → Prop} {m : Nat} {h : Nat → Int × Int} (C : ge_CH S m h) : ∀ k, 0 ≤ rl_ar h k
  | 0 => Int.le_refl _
  | k + 1 => by
    have a := pc_gb C k
    have b : 0 ≤ ge_cr (h (k + 1)) (h (k + 2)) (h 0) := ge_nx_ge (C.2.2.1 (k + 1)) (ge_ch_S C 0)
    have c : ge_cr (h 0) (h (k + 1)) (h (k + 2)) = ge_cr (h (k + 1)) (h (k + 2)) (h 0) := ge_rot _ _ _
    show 0 ≤ rl_ar h k + ge_cr (h 0) (h (k + 1)) (h (k + 2))
    omega
theorem pc_gn (h : Nat → Int × Int) : ∀ k, 0 ≤ pc_s (pc_g h) k
  | 0 => Int.le_refl _
  | k + 1 => by
    have a := pc_gn h k
    have b : 0 ≤ pc_g h k := by unfold pc_g; omega
    show 0 ≤ pc_s (pc_g h) k + pc_g h k
    omega
theorem rx_div22 {post : Int32 → Prop} : ∀ (N v u : Nat), v < N → u < 1000 → v < 1000 → post (nI (Nat.gcd u v)) → wX_divisor_22 post N (nI u) (nI v) := by
  intro N
  induction N with
  | zero => intro v u h; omega
  | succ N ih =>
    intro v u h hu hv hp
    rw [wX_divisor_22]
    by_cases z : v = 0
    · subst z
      rw [Nat.gcd_zero_right] at hp
      exact br_t rfl hp
    · have l := Nat.mod_lt u (show 0 < v by omega)
      refine br_f (nI_ne0 (by omega) (by omega)) ⟨nI_ne0 (by omega) (by omega), nm_r (e' := nI (u % v)) (pk_rem (by omega) (by omega) (by omega)) (ih (u % v) v (by omega) hv (by omega) ?_)⟩
      have e : Nat.gcd u v = Nat.gcd v (u % v) := by rw [Nat.gcd_comm u v, Nat.gcd_rec v u, Nat.gcd_comm]
      rw [← e]
      exact hp
theorem rx_divisor {a b : Int} (a1 : -63 ≤ a) (a2 : a ≤ 63) (b1 : -63 ≤ b) (b2 : b ≤ 63) {post : Int32 → Prop} (h : post (wk_i (Nat.gcd a.natAbs b.natAbs : Int))) : wpX_divisor post (wk_i a) (wk_i b) := by
  rw [← wk_n] at h
  have fin : ∃ n22 : Nat, wX_divisor_22 post n22 (nI a.natAbs) (nI b.natAbs) := ⟨1000, rx_div22 1000 _ _ (by omega) (by omega) (by omega) h⟩
  have ea : ∀ a : Int, 0 ≤ a → wk_i a = nI a.natAbs := fun a ha => by rw [wk_n]; congr 1; omega
  have en : ∀ a : Int, a < 0 → -wk_i a = nI a.natAbs := fun a ha => by rw [wk_n, wk_neg]; congr 1; omega
  have d10 : wX_divisor_10 post (wk_i b) (nI a.natAbs) := by
    unfold wX_divisor_10
    refine wk_ble 0 b (fun z => ?_) (fun z => nm_r (en b z) fin)
    rw [ea b z]; exact fin
  unfold wpX_divisor
  refine wk_ble 0 a (fun z => ?_) (fun z => ?_)
  · rw [ea a z]; exact d10
  · rw [en a z]; exact d10
section
variable {f_present f_count f_size f_keptSize f_waiting : Int32} {a_placeOf a_x a_y a_hull a_kept a_found a_order a_waitA a_waitB a_nextLow a_beforeLow a_nextHigh a_beforeHigh : Nat → Int32} {f_many : Int32} {a_spots a_left a_list : Nat → Int32} {n : Nat} {P : Nat → Int × Int} {m : Nat} {q : Nat → Nat}
theorem rx_places {S : Int × Int → Prop} (hb : ge_bd S) (X : wk_XP n P a_x a_y) (m2 : 2 ≤ m) (hm : m ≤ 24) (hq : ∀ k, k < m → a_hull k = nI (q k) ∧ q k < n) (C : ge_CH S m (fun k => P (q k))) (mn : ∀ r, S r → ge_key (P (q 0)) ≤ ge_key r) {post : Int32 → SX → Prop} (hp : post (wk_i (pc_s (fun v => pc_i (wh_in m (fun k => P (q k)) (wk_pt v))) 4096)) (f_present, f_count, nI m, f_keptSize, f_waiting, a_placeOf, a_x, a_y, a_hull, a_kept, a_found, a_order, a_waitA, a_waitB, a_nextLow, a_beforeLow, a_nextHigh, a_beforeHigh)) : ∀ (d i N : Nat), i + d = m → d < N → wX_places_26 post f_present f_count (nI m) f_keptSize f_waiting a_placeOf a_x a_y a_hull a_kept a_found a_order a_waitA a_waitB a_nextLow a_beforeLow a_nextHigh a_beforeHigh N (wk_i (pc_s (pc_g (fun k => P (q k))) i)) (nI i) := by
  have hn := X.1
  have pr : ∀ j, P (q (j % m)) = P (q j) := fun j => (ge_per C j).symm
  intro d
  induction d with
  | zero =>
    intro i N hi hN
    obtain ⟨N, rfl⟩ : ∃ M, N = M + 1 := ⟨N - 1, by omega⟩
    have e : i = m := by omega
    subst e
    rw [wX_places_26]
    refine br_t (nI_le (Nat.le_refl _) (by omega)) (rx_areaNow X hm hq ⟨wk_2, ?_⟩)
    have pick := pc_pick C hb mn
    rw [← pc_swap] at pick
    have g1 := pc_gb C (i - 2)
    have g2 := pc_gn (fun k => P (q k)) i
    have bn := pc_bn (fun v => wh_in i (fun k => P (q k)) (wk_pt v)) 4096
    have bn2 : pc_s (fun v => pc_i (wh_in i (fun k => P (q k)) (wk_pt v))) 4096 ≤ 4096 := bn.2
    rw [wk_add]
    generalize pc_s (fun v => pc_i (wh_in i (fun k => P (q k)) (wk_pt v))) 4096 = W at *
    obtain ⟨w, hw⟩ : ∃ w : Nat, W = (w : Int) + 1 := ⟨(W - 1).toNat, by omega⟩
    have e2 : rl_ar (fun k => P (q k)) (i - 2) + pc_s (pc_g (fun k => P (q k))) i = ((2 * w : Nat) : Int) := by omega
    rw [e2, ← wk_n, show nI (2 * w) / 2 = nI (2 * w / 2) from pk_div (d := 2) (by omega) (by omega) (by omega), show 2 * w / 2 = w by omega, nI_1]
    rw [hw, show (w : Int) + 1 = ((w + 1 : Nat) : Int) by omega, ← wk_n] at hp
    exact hp
  | succ d ih =>
    intro i N hi hN
    obtain ⟨N, rfl⟩ : ∃ M, N = M + 1 := ⟨N - 1, by omega⟩
    have l := Nat.mod_lt (i + 1) (show 0 < m by omega)
    obtain ⟨i1, i2⟩ := hq i (by omega)
    obtain ⟨j1, j2⟩ := hq _ l
    have xi := X.2 _ i2
    have xj := X.2 _ j2
    have vi := vp_in_nI (n := q i) (N := 24) (by omega) (by omega)
    have vj := vp_in_nI (n := q ((i + 1) % m)) (N := 24) (by omega) (by omega)
    rw [wX_places_26]
    dsimp only
    rw [nI_1, pk_rem (by omega) (by omega) (by omega), nI_clamp (show i < 2 ^ 31 by omega), nI_clamp (show (i + 1) % m < 2 ^ 31 by omega), i1, j1]
    refine br_f (nI_ge (by omega) (by omega)) ⟨vp_in_nI (by omega) (by omega), nm_e ⟨nI_ne0 (by omega) (by omega), vp_in_nI (by omega) (by omega), nm_e ⟨vj, vi, vj, vi, ?_⟩⟩⟩
    rw [nI_clamp (show q i < 2 ^ 31 by omega), nI_clamp (show q ((i + 1) % m) < 2 ^ 31 by omega), xi.1, xi.2.1, xj.1, xj.2.1, wk_sub, wk_sub]
    refine rx_divisor (by omega) (by omega) (by omega) (by omega) ?_
    rw [pr (i + 1), wk_add]
    exact nm_e (nm_e (ih (i + 1) N (by omega) (by omega)))
theorem ry_places {h : Nat → Int × Int} {c : Nat → Nat} (hm : m ≤ 24) (hc : ∀ i, i < m → a_list i = nI (c i) ∧ c i < 4096 ∧ wk_pt (c i) = h i) {S : Int × Int → Prop} (H : hu_H S m h) {post : Int32 → SY → Prop} (hp : post (wk_i (pc_s (fun v => pc_i (wh_in m h (wk_pt v))) 4096)) (nI m, a_spots, a_left, a_list)) : ∀ (d p N : Nat), p + d = 4096 → d < N → wY_places_8 post (nI m) a_spots a_left a_list N (wk_i (pc_s (fun v => pc_i (wh_in m h (wk_pt v))) p)) (nI p) := by
  intro d
  induction d with
  | zero =>
    intro p N hd hN
    obtain ⟨N, rfl⟩ : ∃ M, N = M + 1 := ⟨N - 1, by omega⟩
    have e : p = 4096 := by omega
    subst e
    rw [wY_places_8]
    exact br_t (nI_le (a := 4096) (by omega) (by omega)) hp
  | succ d ih =>
    intro p N hd hN
    obtain ⟨N, rfl⟩ : ∃ M, N = M + 1 := ⟨N - 1, by omega⟩
    have I := ih (p + 1) N (by omega) (by omega)
    obtain ⟨r, hr, V⟩ := wh_ex m h (wk_pt p)
    rw [wY_places_8]
    refine br_f (nI_ge (b := 4096) (by omega) (by omega)) (ry_where hm hc H (by omega) V (pk_le r 0 (fun z => ?_) (fun z => ?_)))
    · have no : ¬ wh_in m h (wk_pt p) := by
        rcases V with ⟨a, _⟩ | ⟨_, _, e⟩ | ⟨_, e⟩
        · exact a
        · omega
        · omega
      have e : pc_s (fun v => pc_i (wh_in m h (wk_pt v))) (p + 1) = pc_s (fun v => pc_i (wh_in m h (wk_pt v))) p := by
        show pc_s (fun v => pc_i (wh_in m h (wk_pt v))) p + pc_i (wh_in m h (wk_pt p)) = _
        rw [pc_0 no]; omega
      rw [e] at I
      exact nm_r (nI_1 p) I
    · have yes : wh_in m h (wk_pt p) := by
        rcases V with ⟨_, e⟩ | ⟨a, _, _⟩ | ⟨a, _⟩
        · omega
        · exact a
        · exact wh_si a
      have e : pc_s (fun v => pc_i (wh_in m h (wk_pt v))) (p + 1) = pc_s (fun v => pc_i (wh_in m h (wk_pt v))) p + 1 := by
        show pc_s (fun v => pc_i (wh_in m h (wk_pt v))) p + pc_i (wh_in m h (wk_pt p)) = _
        rw [pc_1 yes]
      rw [e] at I
      exact nm_r (e' := wk_i (pc_s (fun v => pc_i (wh_in m h (wk_pt v))) p + 1)) (wk_add _ 1) (nm_r (nI_1 p) I)
end
theorem i_vc_places {k : Nat} {u : SX} {v : SY} (I : i_Rel k u v) (hk : k + 3 ≤ 1536) : wpX_places (fun r u' => wpY_places (fun r' v' => r' = r ∧ i_Rel (k + 3) u' v') v) u := by
  obtain ⟨f_present, f_count, f_size, f_keptSize, f_waiting, a_placeOf, a_x, a_y, a_hull, a_kept, a_found, a_order, a_waitA, a_waitB, a_nextLow, a_beforeLow, a_nextHigh, a_beforeHigh⟩ := u
  obtain ⟨f_many, a_spots, a_left, a_list⟩ := v
  have I' : rl_R f_present a_placeOf a_spots := I
  have I2 := I'
  obtain ⟨hi, v, R⟩ := I'
  have hb : ge_bd (wy_S (bt f_present) v) := wy_Sb fun k hk b => (rl_hv R k hk b).2
  unfold wpX_places
  dsimp only
  refine rx_solve (e := 3) (by omega) (rl_hv R) fun n P m q _ _ a_x a_y a_hull _ _ _ _ _ _ _ _ hn hmn so es H X hq => ?_
  dsimp only
  have Y : ∀ {post : Int32 → SY → Prop}, (∀ (a_left a_list : Nat → Int32), post (wk_i (pc_s (fun v => pc_i (wh_in m (fun k => P (q k)) (wk_pt v))) 4096)) (nI m, a_spots, a_left, a_list)) → wpY_places post (f_many, a_spots, a_left, a_list) := fun {post} y => by
    unfold wpY_places
    dsimp only
    refine wy_look (rl_SP R) H fun left list c hm F hc => ⟨4097, ?_⟩
    exact ry_places hm hc H (y left list) 4096 0 4097 (by omega) (by omega)
  by_cases m2 : 2 ≤ m
  · have CM : ge_CH (wy_S (bt f_present) v) m (fun k => P (q k)) ∧ ∀ r, wy_S (bt f_present) v r → ge_key (P (q 0)) ≤ ge_key r := by
      rcases H with ⟨e, _⟩ | ⟨e, _⟩ | C
      · omega
      · omega
      · exact C
    refine br_t (nI_le (a := 2) m2 (by omega)) ⟨m + 1, ?_⟩
    exact rx_places hb X m2 (by omega) hq CM.1 CM.2 (Y fun _ _ => ⟨rfl, I2⟩) m 0 (m + 1) (by omega) (by omega)
  · refine br_f (nI_ge (b := 2) (by omega) (by omega)) (Y fun _ _ => ⟨?_, I2⟩)
    rw [wk_n]
    congr 1
    rcases H with ⟨e, s⟩ | ⟨e, s⟩ | ⟨C, _⟩
    · subst e
      refine pc_s0 4096 fun i hi => pc_0 fun z => ?_
      rcases z with ⟨x, _⟩ | ⟨x, _⟩ | ⟨x, _⟩ <;> omega
    · subst e
      have S0 : wy_S (bt f_present) v (P (q 0)) := (s _).mpr rfl
      obtain ⟨j, j1, j2, j3⟩ := S0
      have l := (rl_hv R j j1 j2).2
      have hc := pc_sc (f := fun w => pc_i (wh_in 1 (fun k => P (q k)) (wk_pt w))) (g := fun w => pc_i (w = v j)) 4096 (fun w hw => pc_c (by
        constructor
        · rintro (⟨_, x⟩ | ⟨x, _⟩ | ⟨x, _⟩)
          · have x' : wk_pt w = P (q 0) := x
            exact wk_pt_inj (x'.trans j3.symm)
          · omega
          · omega
        · intro x
          exact Or.inl ⟨rfl, by rw [x]; exact j3⟩))
      rw [hc, pc_single (v j) 4096 l]; rfl
    · have := C.1; omega
end

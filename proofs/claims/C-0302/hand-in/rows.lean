section
/-! pure rows to paste: stores, nI and lN arithmetic, masks, shifts, narrowing, branches by naturals (pk_le, pk_lt, pk_eq), loops (lp1 .. lp16: the measure of the state; rp1 ..: recursion), negatives. Take what you need -/
theorem pk_us {f : Nat → Int32} {k : Nat} {x : Int32} : upd f k x k = x := if_pos rfl
theorem pk_un {f : Nat → Int32} {k j : Nat} {x : Int32} (h : j ≠ k) : upd f k x j = f j := if_neg h
theorem pk_uLs {f : Nat → Int64} {k : Nat} {x : Int64} : vp_updL f k x k = x := if_pos rfl
theorem pk_uLn {f : Nat → Int64} {k j : Nat} {x : Int64} (h : j ≠ k) : vp_updL f k x j = f j := if_neg h
theorem pk_sub {a b : Nat} (h : b ≤ a) : nI a - nI b = nI (a - b) := by
  obtain ⟨c, rfl⟩ : ∃ c, a = c + b := ⟨a - b, by omega⟩
  rw [← nI_add, Int32.add_sub_cancel, Nat.add_sub_cancel]
theorem pk_m1 (n : Nat) : nI (n + 1) + (-1) = nI n := by
  rw [← nI_1, Int32.add_assoc, show (1 : Int32) + (-1) = 0 from rfl, Int32.add_zero]
theorem pk_mul (a b : Nat) : nI a * nI b = nI (a * b) := (Int32.ofNat_mul a b).symm
theorem pk_div {a d : Nat} (ha : a < 2 ^ 31) (h0 : 0 < d) (hd : d < 2 ^ 31) : nI a / nI d = nI (a / d) := by
  apply Int32.toInt_inj.mp
  rw [lg_idiv_nonneg (by rw [nI_toInt ha]; omega) (by rw [nI_toInt hd]; omega), nI_toInt ha, nI_toInt hd, nI_toInt (Nat.lt_of_le_of_lt (Nat.div_le_self a d) ha)]
  first | rfl | exact (Int.natCast_ediv _ _).symm
theorem pk_rem {a d : Nat} (ha : a < 2 ^ 31) (h0 : 0 < d) (hd : d < 2 ^ 31) : nI a - nI a / nI d * nI d = nI (a % d) := by
  rw [pk_div ha h0 hd, pk_mul, pk_sub (Nat.div_mul_le_self a d)]
  exact congrArg nI (by have := Nat.div_add_mod' a d; omega)
theorem pk_sub_toInt {a b : Nat} (ha : a < 2 ^ 30) (hb : b < 2 ^ 30) : (nI a - nI b).toInt = (a : Int) - b := by
  rw [Int32.toInt_sub, nI_toInt (by omega), nI_toInt (by omega)]
  exact Int.bmod_eq_of_le (by omega) (by omega)
theorem pk_sneg {a b : Nat} (hb : b < 2 ^ 30) (h : a < b) : nI a - nI b < 0 := by
  rw [Int32.lt_iff_toInt_lt, pk_sub_toInt (by omega) hb, show (0 : Int32).toInt = 0 from by decide]
  omega
theorem pk_ix (x : Int32) {n : Nat} (hn : n < 2 ^ 31) : x < 0 ∨ nI n ≤ x ∨ ∃ j : Nat, j < n ∧ x = nI j := by
  by_cases h : x < 0
  · exact Or.inl h
  · obtain ⟨j, hj, rfl⟩ := nI_of h
    by_cases h2 : j < n
    · exact Or.inr (Or.inr ⟨j, h2, rfl⟩)
    · exact Or.inr (Or.inl (nI_le (by omega) hj))
theorem pk_le {x y : Int32} {A B : Prop} (a b : Nat) (f : a ≤ b → A) (g : b < a → B) (hx : x = nI a := by rfl) (hy : y = nI b := by rfl) (ha : a < 2 ^ 31 := by omega) (hb : b < 2 ^ 31 := by omega) : (x ≤ y → A) ∧ (¬ x ≤ y → B) := by
  subst hx hy
  rw [nI_leI ha hb]
  exact ⟨f, fun z => g (by omega)⟩
theorem pk_lt {x y : Int32} {A B : Prop} (a b : Nat) (f : a < b → A) (g : b ≤ a → B) (hx : x = nI a := by rfl) (hy : y = nI b := by rfl) (ha : a < 2 ^ 31 := by omega) (hb : b < 2 ^ 31 := by omega) : (x < y → A) ∧ (¬ x < y → B) := by
  subst hx hy
  rw [nI_ltI ha hb]
  exact ⟨f, fun z => g (by omega)⟩
theorem pk_eq {x y : Int32} {A B : Prop} (a b : Nat) (f : a = b → A) (g : a ≠ b → B) (hx : x = nI a := by rfl) (hy : y = nI b := by rfl) (ha : a < 2 ^ 31 := by omega) (hb : b < 2 ^ 31 := by omega) : (x = y → A) ∧ (¬ x = y → B) := by
  subst hx hy
  rw [nI_eq ha hb]
  exact ⟨f, g⟩
theorem pk_in {x : Int32} (n N : Nat) (h : n < N) (hx : x = nI n := by rfl) (hN : N < 2 ^ 31 := by omega) : vp_in x N := by
  subst hx
  exact vp_in_nI h hN
theorem pk_cl {x : Int32} (n : Nat) (hx : x = nI n := by rfl) (h : n < 2 ^ 31 := by omega) : x.toNatClampNeg = n := by
  subst hx
  exact nI_clamp h
theorem pk_tn {n : Nat} (h : n < 2 ^ 32) : (nI n).toBitVec.toNat = n := Nat.mod_eq_of_lt h
theorem pk_and (x : Int32) {m : Int32} (k : Nat) (hm : m.toBitVec.toNat = 2 ^ k - 1) : x &&& m = nI (x.toBitVec.toNat % 2 ^ k) := by
  apply Int32.toBitVec_inj.mp
  apply BitVec.eq_of_toNat_eq
  rw [Int32.toBitVec_and, BitVec.toNat_and, hm, Nat.and_two_pow_sub_one_eq_mod]
  show _ = (BitVec.ofNat 32 _).toNat
  rw [BitVec.toNat_ofNat]
  exact (Nat.mod_eq_of_lt (Nat.lt_of_le_of_lt (Nat.mod_le _ _) x.toBitVec.isLt)).symm
theorem pk_andN {n : Nat} (h : n < 2 ^ 32) {m : Int32} (k : Nat) (hm : m.toBitVec.toNat = 2 ^ k - 1) : nI n &&& m = nI (n % 2 ^ k) := by
  rw [pk_and _ k hm, pk_tn h]
theorem pk_andE (x : Int32) {m : Int32} (k : Nat) (hm : m.toBitVec.toNat = 2 ^ k - 1) : ∃ j : Nat, j < 2 ^ k ∧ x &&& m = nI j := ⟨_, Nat.mod_lt _ (Nat.two_pow_pos k), pk_and x k hm⟩
theorem pk_andIn (x : Int32) {m : Int32} (k : Nat) (hm : m.toBitVec.toNat = 2 ^ k - 1) (hk : k ≤ 30) : vp_in (x &&& m) (2 ^ k) := by
  obtain ⟨j, hj, e⟩ := pk_andE x k hm
  rw [e]
  exact vp_in_nI hj (Nat.lt_of_le_of_lt (Nat.pow_le_pow_right (by decide) hk) (by decide))
theorem pk_shl (a s : Int32) (k : Nat) (hs : (s.toBitVec.smod 32).toNat = k) : (a <<< s).toBitVec.toNat = a.toBitVec.toNat * 2 ^ k % 2 ^ 32 := by
  show (a.toBitVec <<< (s.toBitVec.smod 32).toNat).toNat = _
  rw [hs, BitVec.toNat_shiftLeft, Nat.shiftLeft_eq]
theorem pk_shlN {n : Nat} (s : Int32) (k : Nat) (hs : (s.toBitVec.smod 32).toNat = k) (h : n * 2 ^ k < 2 ^ 32) : nI n <<< s = nI (n * 2 ^ k) := by
  apply Int32.toBitVec_inj.mp
  apply BitVec.eq_of_toNat_eq
  have hn : n < 2 ^ 32 := Nat.lt_of_le_of_lt (Nat.le_mul_of_pos_right n (Nat.two_pow_pos k)) h
  rw [pk_shl _ _ k hs, pk_tn hn, pk_tn h, Nat.mod_eq_of_lt h]
theorem pk_shr (a s : Int32) (k : Nat) (hs : (s.toBitVec.smod 32).toNat = k) : (a >>> s).toInt = a.toInt >>> k := by
  show (a.toBitVec.sshiftRight (s.toBitVec.smod 32).toNat).toInt = _
  rw [hs, BitVec.toInt_sshiftRight]
  rfl
theorem pk_shrN {n : Nat} (h : n < 2 ^ 31) (s : Int32) (k : Nat) (hs : (s.toBitVec.smod 32).toNat = k) : nI n >>> s = nI (n / 2 ^ k) := by
  apply Int32.toInt_inj.mp
  have h2 : n / 2 ^ k ≤ n := Nat.div_le_self _ _
  rw [pk_shr _ _ k hs, nI_toInt h, nI_toInt (by omega), Int.shiftRight_eq_div_pow]
  rfl
theorem pk_ushr (x s : Int32) (k : Nat) (hs : ((s.toUInt32 &&& Int32.toUInt32 31).toBitVec % 32).toNat = k) : (x.toUInt32 >>> (s.toUInt32 &&& Int32.toUInt32 31)).toInt32.toBitVec.toNat = x.toBitVec.toNat / 2 ^ k := by
  have e : (x.toUInt32 >>> (s.toUInt32 &&& Int32.toUInt32 31)).toInt32.toBitVec = x.toBitVec >>> k := by
    rw [← hs]
    exact UInt32.toBitVec_shiftRight _ _
  rw [e, BitVec.toNat_ushiftRight, Nat.shiftRight_eq_div_pow]
theorem pk_ushrN {n : Nat} (hn : n < 2 ^ 32) (s : Int32) (k : Nat) (hs : ((s.toUInt32 &&& Int32.toUInt32 31).toBitVec % 32).toNat = k) : ((nI n).toUInt32 >>> (s.toUInt32 &&& Int32.toUInt32 31)).toInt32 = nI (n / 2 ^ k) := by
  apply Int32.toBitVec_inj.mp
  apply BitVec.eq_of_toNat_eq
  rw [pk_ushr _ s k hs, pk_tn hn, pk_tn (Nat.lt_of_le_of_lt (Nat.div_le_self _ _) hn)]
theorem pk_nb (z : Int32) : narrow .byte (.int z.toInt8.toInt32) = .int z.toInt8.toInt32 := congrArg Value.int (by simp)
theorem pk_ns (z : Int32) : narrow .short (.int z.toInt16.toInt32) = .int z.toInt16.toInt32 := congrArg Value.int (by simp)
theorem pk_fb (r : Int32) : fits .byte (.int r.toInt8.toInt32) = true := by
  have ⟨a, b⟩ := lg_i2b_range r
  have h1 : (-128 : Int32).toInt = -128 := by decide
  have h2 : (127 : Int32).toInt = 127 := by decide
  simp only [fits, Bool.and_eq_true, decide_eq_true_eq, Int32.le_iff_toInt_le, h1, h2]
  omega
theorem pk_fs (r : Int32) : fits .short (.int r.toInt16.toInt32) = true := by
  have ⟨a, b⟩ := lg_i2s_range r
  have h1 : (-32768 : Int32).toInt = -32768 := by decide
  have h2 : (32767 : Int32).toInt = 32767 := by decide
  simp only [fits, Bool.and_eq_true, decide_eq_true_eq, Int32.le_iff_toInt_le, h1, h2]
  omega
theorem pk_charN {q : Nat} (hq : q < 65536) : narrow .char (.int (nI q)) = .int (nI q) ∧ fits .char (.int (nI q)) = true := by
  constructor
  · have e : (nI q).toUInt32.toUInt16.toUInt32.toInt32 = nI q := by
      apply Int32.toBitVec_inj.mp
      apply BitVec.eq_of_toNat_eq
      show (nI q).toUInt32.toUInt16.toUInt32.toNat = q % 2 ^ 32
      rw [UInt16.toNat_toUInt32, UInt32.toNat_toUInt16, show (nI q).toUInt32.toNat = q % 2 ^ 32 from rfl]
      omega
    exact congrArg Value.int e
  · have a : (0 : Int32) ≤ nI q := nI_pos' (by omega)
    have b : nI q ≤ 65535 := nI_le (b := 65535) (by omega) (by decide)
    show (decide ((0 : Int32) ≤ nI q) && decide (nI q ≤ 65535)) = true
    rw [decide_eq_true a, decide_eq_true b]
    rfl
theorem pk_char (x : Int32) : (x.toUInt32 % 65536).toInt32 = nI (x.toBitVec.toNat % 65536) := by
  apply Int32.toBitVec_inj.mp
  apply BitVec.eq_of_toNat_eq
  rw [pk_tn (by omega)]
  show (x.toUInt32 % 65536).toNat = _
  rw [UInt32.toNat_mod]
  rfl
theorem pk_nc (x : Int32) : narrow .char (.int (x.toUInt32 % 65536).toInt32) = .int (x.toUInt32 % 65536).toInt32 := by
  rw [pk_char]
  exact (pk_charN (Nat.mod_lt _ (by decide))).1
theorem pk_fc (x : Int32) : fits .char (.int (x.toUInt32 % 65536).toInt32) = true := by
  rw [pk_char]
  exact (pk_charN (Nat.mod_lt _ (by decide))).2
theorem pk_vb (z : Int32) : vp_nar .byte z.toInt8.toInt32 = z.toInt8.toInt32 := by rw [vp_nar_byte]; simp
theorem pk_vs (z : Int32) : vp_nar .short z.toInt16.toInt32 = z.toInt16.toInt32 := by rw [vp_nar_short]; simp
theorem pk_vc (z : Int32) : vp_nar .char (z.toUInt32 % 65536).toInt32 = (z.toUInt32 % 65536).toInt32 := Value.int.inj (pk_nc z)
theorem pk_lT {n : Nat} (h : n < 2 ^ 63) : (lN n).toInt = (n : Int) := lg_ofNat_toInt h
theorem pk_lLT {a b : Nat} (ha : a < 2 ^ 63) (hb : b < 2 ^ 63) : lN a < lN b ↔ a < b := by
  rw [Int64.lt_iff_toInt_lt, pk_lT ha, pk_lT hb]; omega
theorem pk_lLE {a b : Nat} (ha : a < 2 ^ 63) (hb : b < 2 ^ 63) : lN a ≤ lN b ↔ a ≤ b := by
  rw [Int64.le_iff_toInt_le, pk_lT ha, pk_lT hb]; omega
theorem pk_lEQ {a b : Nat} (ha : a < 2 ^ 63) (hb : b < 2 ^ 63) : lN a = lN b ↔ a = b := by
  rw [← Int64.toInt_inj, pk_lT ha, pk_lT hb]; omega
theorem pk_lOf {x : Int64} (h : ¬ x < 0) : ∃ k : Nat, k < 2 ^ 63 ∧ x = lN k := by
  rw [Int64.lt_iff_toInt_lt] at h
  have h0 : (0 : Int64).toInt = 0 := by decide
  have hx := Int64.toInt_lt x
  refine ⟨x.toInt.toNat, by omega, Int64.toInt_inj.mp ?_⟩
  rw [pk_lT (by omega)]
  omega
theorem pk_lDiv {a b : Nat} (ha : a < 2 ^ 63) (h0 : 0 < b) (hb : b < 2 ^ 63) : lN a / lN b = lN (a / b) := by
  apply Int64.toInt_inj.mp
  rw [lg_ldiv_nonneg (by rw [pk_lT ha]; omega) (by rw [pk_lT hb]; omega), pk_lT ha, pk_lT hb, pk_lT (Nat.lt_of_le_of_lt (Nat.div_le_self a b) ha)]
  rfl
theorem pk_lRem {a b : Nat} (ha : a < 2 ^ 63) (h0 : 0 < b) (hb : b < 2 ^ 63) : lN a - lN a / lN b * lN b = lN (a % b) := by
  rw [pk_lDiv ha h0 hb, lN_mul, lN_sub (Nat.div_mul_le_self a b)]
  exact congrArg lN (by have := Nat.div_add_mod' a b; omega)
theorem pk_loop {σ : Type} (W : Nat → Nat → σ → Prop) (I : Nat → σ → Prop) (e i0 : Nat) (s : σ) (hi : i0 ≤ e) (h0 : I i0 s) (hx : ∀ n s, I e s → W (n + 1) e s)
    (hs : ∀ n i s, i < e → I i s → (∀ s', I (i + 1) s' → W n (i + 1) s') → W (n + 1) i s) : ∃ n, W n i0 s :=
  ⟨e + 1, loop_i W I e hx hs (e + 1) i0 s hi (by omega) h0⟩
theorem pk_loopD {σ : Type} (W : Nat → Nat → σ → Prop) (I : Nat → σ → Prop) (hx : ∀ n s, I 0 s → W (n + 1) 0 s)
    (hs : ∀ n i s, I (i + 1) s → (∀ s', I i s' → W n i s') → W (n + 1) (i + 1) s) : ∀ (e : Nat) (s : σ), I e s → W (e + 1) e s := by
  intro e
  induction e with
  | zero => exact fun s h => hx 0 s h
  | succ e ih => exact fun s h => hs (e + 1) e s h (fun s' h' => ih s' h')
theorem lp1 {A1 : Type} (W : Nat → A1 → Prop) (I : A1 → Prop) (μ : A1 → Nat) (hs : ∀ (n : Nat) (a1 : A1), I a1 → (∀ (b1 : A1), I b1 → μ b1 < μ a1 → W n b1) → W (n + 1) a1) (a1 : A1) (h : I a1) : ∃ n, W n a1 :=
  loop_m (σ := A1) (fun n s => W n s) (fun s => I s) (fun s => μ s) (fun n s hI hk => hs n s hI (fun b1 h9 hm => hk b1 h9 hm)) a1 h
theorem lp2 {A1 A2 : Type} (W : Nat → A1 → A2 → Prop) (I : A1 → A2 → Prop) (μ : A1 → A2 → Nat) (hs : ∀ (n : Nat) (a1 : A1) (a2 : A2), I a1 a2 → (∀ (b1 : A1) (b2 : A2), I b1 b2 → μ b1 b2 < μ a1 a2 → W n b1 b2) → W (n + 1) a1 a2) (a1 : A1) (a2 : A2) (h : I a1 a2) : ∃ n, W n a1 a2 :=
  loop_m (σ := A1 × A2) (fun n s => W n s.1 s.2) (fun s => I s.1 s.2) (fun s => μ s.1 s.2) (fun n s hI hk => hs n s.1 s.2 hI (fun b1 b2 h9 hm => hk (b1, b2) h9 hm)) (a1, a2) h
theorem lp3 {A1 A2 A3 : Type} (W : Nat → A1 → A2 → A3 → Prop) (I : A1 → A2 → A3 → Prop) (μ : A1 → A2 → A3 → Nat) (hs : ∀ (n : Nat) (a1 : A1) (a2 : A2) (a3 : A3), I a1 a2 a3 → (∀ (b1 : A1) (b2 : A2) (b3 : A3), I b1 b2 b3 → μ b1 b2 b3 < μ a1 a2 a3 → W n b1 b2 b3) → W (n + 1) a1 a2 a3) (a1 : A1) (a2 : A2) (a3 : A3) (h : I a1 a2 a3) : ∃ n, W n a1 a2 a3 :=
  loop_m (σ := A1 × A2 × A3) (fun n s => W n s.1 s.2.1 s.2.2) (fun s => I s.1 s.2.1 s.2.2) (fun s => μ s.1 s.2.1 s.2.2) (fun n s hI hk => hs n s.1 s.2.1 s.2.2 hI (fun b1 b2 b3 h9 hm => hk (b1, b2, b3) h9 hm)) (a1, a2, a3) h
theorem lp4 {A1 A2 A3 A4 : Type} (W : Nat → A1 → A2 → A3 → A4 → Prop) (I : A1 → A2 → A3 → A4 → Prop) (μ : A1 → A2 → A3 → A4 → Nat) (hs : ∀ (n : Nat) (a1 : A1) (a2 : A2) (a3 : A3) (a4 : A4), I a1 a2 a3 a4 → (∀ (b1 : A1) (b2 : A2) (b3 : A3) (b4 : A4), I b1 b2 b3 b4 → μ b1 b2 b3 b4 < μ a1 a2 a3 a4 → W n b1 b2 b3 b4) → W (n + 1) a1 a2 a3 a4) (a1 : A1) (a2 : A2) (a3 : A3) (a4 : A4) (h : I a1 a2 a3 a4) : ∃ n, W n a1 a2 a3 a4 :=
  loop_m (σ := A1 × A2 × A3 × A4) (fun n s => W n s.1 s.2.1 s.2.2.1 s.2.2.2) (fun s => I s.1 s.2.1 s.2.2.1 s.2.2.2) (fun s => μ s.1 s.2.1 s.2.2.1 s.2.2.2) (fun n s hI hk => hs n s.1 s.2.1 s.2.2.1 s.2.2.2 hI (fun b1 b2 b3 b4 h9 hm => hk (b1, b2, b3, b4) h9 hm)) (a1, a2, a3, a4) h
theorem lp5 {A1 A2 A3 A4 A5 : Type} (W : Nat → A1 → A2 → A3 → A4 → A5 → Prop) (I : A1 → A2 → A3 → A4 → A5 → Prop) (μ : A1 → A2 → A3 → A4 → A5 → Nat) (hs : ∀ (n : Nat) (a1 : A1) (a2 : A2) (a3 : A3) (a4 : A4) (a5 : A5), I a1 a2 a3 a4 a5 → (∀ (b1 : A1) (b2 : A2) (b3 : A3) (b4 : A4) (b5 : A5), I b1 b2 b3 b4 b5 → μ b1 b2 b3 b4 b5 < μ a1 a2 a3 a4 a5 → W n b1 b2 b3 b4 b5) → W (n + 1) a1 a2 a3 a4 a5) (a1 : A1) (a2 : A2) (a3 : A3) (a4 : A4) (a5 : A5) (h : I a1 a2 a3 a4 a5) : ∃ n, W n a1 a2 a3 a4 a5 :=
  loop_m (σ := A1 × A2 × A3 × A4 × A5) (fun n s => W n s.1 s.2.1 s.2.2.1 s.2.2.2.1 s.2.2.2.2) (fun s => I s.1 s.2.1 s.2.2.1 s.2.2.2.1 s.2.2.2.2) (fun s => μ s.1 s.2.1 s.2.2.1 s.2.2.2.1 s.2.2.2.2) (fun n s hI hk => hs n s.1 s.2.1 s.2.2.1 s.2.2.2.1 s.2.2.2.2 hI (fun b1 b2 b3 b4 b5 h9 hm => hk (b1, b2, b3, b4, b5) h9 hm)) (a1, a2, a3, a4, a5) h
theorem lp6 {A1 A2 A3 A4 A5 A6 : Type} (W : Nat → A1 → A2 → A3 → A4 → A5 → A6 → Prop) (I : A1 → A2 → A3 → A4 → A5 → A6 → Prop) (μ : A1 → A2 → A3 → A4 → A5 → A6 → Nat) (hs : ∀ (n : Nat) (a1 : A1) (a2 : A2) (a3 : A3) (a4 : A4) (a5 : A5) (a6 : A6), I a1 a2 a3 a4 a5 a6 → (∀ (b1 : A1) (b2 : A2) (b3 : A3) (b4 : A4) (b5 : A5) (b6 : A6), I b1 b2 b3 b4 b5 b6 → μ b1 b2 b3 b4 b5 b6 < μ a1 a2 a3 a4 a5 a6 → W n b1 b2 b3 b4 b5 b6) → W (n + 1) a1 a2 a3 a4 a5 a6) (a1 : A1) (a2 : A2) (a3 : A3) (a4 : A4) (a5 : A5) (a6 : A6) (h : I a1 a2 a3 a4 a5 a6) : ∃ n, W n a1 a2 a3 a4 a5 a6 :=
  loop_m (σ := A1 × A2 × A3 × A4 × A5 × A6) (fun n s => W n s.1 s.2.1 s.2.2.1 s.2.2.2.1 s.2.2.2.2.1 s.2.2.2.2.2) (fun s => I s.1 s.2.1 s.2.2.1 s.2.2.2.1 s.2.2.2.2.1 s.2.2.2.2.2) (fun s => μ s.1 s.2.1 s.2.2.1 s.2.2.2.1 s.2.2.2.2.1 s.2.2.2.2.2) (fun n s hI hk => hs n s.1 s.2.1 s.2.2.1 s.2.2.2.1 s.2.2.2.2.1 s.2.2.2.2.2 hI (fun b1 b2 b3 b4 b5 b6 h9 hm => hk (b1, b2, b3, b4, b5, b6) h9 hm)) (a1, a2, a3, a4, a5, a6) h
theorem lp7 {A1 A2 A3 A4 A5 A6 A7 : Type} (W : Nat → A1 → A2 → A3 → A4 → A5 → A6 → A7 → Prop) (I : A1 → A2 → A3 → A4 → A5 → A6 → A7 → Prop) (μ : A1 → A2 → A3 → A4 → A5 → A6 → A7 → Nat) (hs : ∀ (n : Nat) (a1 : A1) (a2 : A2) (a3 : A3) (a4 : A4) (a5 : A5) (a6 : A6) (a7 : A7), I a1 a2 a3 a4 a5 a6 a7 → (∀ (b1 : A1) (b2 : A2) (b3 : A3) (b4 : A4) (b5 : A5) (b6 : A6) (b7 : A7), I b1 b2 b3 b4 b5 b6 b7 → μ b1 b2 b3 b4 b5 b6 b7 < μ a1 a2 a3 a4 a5 a6 a7 → W n b1 b2 b3 b4 b5 b6 b7) → W (n + 1) a1 a2 a3 a4 a5 a6 a7) (a1 : A1) (a2 : A2) (a3 : A3) (a4 : A4) (a5 : A5) (a6 : A6) (a7 : A7) (h : I a1 a2 a3 a4 a5 a6 a7) : ∃ n, W n a1 a2 a3 a4 a5 a6 a7 :=
  loop_m (σ := A1 × A2 × A3 × A4 × A5 × A6 × A7) (fun n s => W n s.1 s.2.1 s.2.2.1 s.2.2.2.1 s.2.2.2.2.1 s.2.2.2.2.2.1 s.2.2.2.2.2.2) (fun s => I s.1 s.2.1 s.2.2.1 s.2.2.2.1 s.2.2.2.2.1 s.2.2.2.2.2.1 s.2.2.2.2.2.2) (fun s => μ s.1 s.2.1 s.2.2.1 s.2.2.2.1 s.2.2.2.2.1 s.2.2.2.2.2.1 s.2.2.2.2.2.2) (fun n s hI hk => hs n s.1 s.2.1 s.2.2.1 s.2.2.2.1 s.2.2.2.2.1 s.2.2.2.2.2.1 s.2.2.2.2.2.2 hI (fun b1 b2 b3 b4 b5 b6 b7 h9 hm => hk (b1, b2, b3, b4, b5, b6, b7) h9 hm)) (a1, a2, a3, a4, a5, a6, a7) h
theorem lp8 {A1 A2 A3 A4 A5 A6 A7 A8 : Type} (W : Nat → A1 → A2 → A3 → A4 → A5 → A6 → A7 → A8 → Prop) (I : A1 → A2 → A3 → A4 → A5 → A6 → A7 → A8 → Prop) (μ : A1 → A2 → A3 → A4 → A5 → A6 → A7 → A8 → Nat) (hs : ∀ (n : Nat) (a1 : A1) (a2 : A2) (a3 : A3) (a4 : A4) (a5 : A5) (a6 : A6) (a7 : A7) (a8 : A8), I a1 a2 a3 a4 a5 a6 a7 a8 → (∀ (b1 : A1) (b2 : A2) (b3 : A3) (b4 : A4) (b5 : A5) (b6 : A6) (b7 : A7) (b8 : A8), I b1 b2 b3 b4 b5 b6 b7 b8 → μ b1 b2 b3 b4 b5 b6 b7 b8 < μ a1 a2 a3 a4 a5 a6 a7 a8 → W n b1 b2 b3 b4 b5 b6 b7 b8) → W (n + 1) a1 a2 a3 a4 a5 a6 a7 a8) (a1 : A1) (a2 : A2) (a3 : A3) (a4 : A4) (a5 : A5) (a6 : A6) (a7 : A7) (a8 : A8) (h : I a1 a2 a3 a4 a5 a6 a7 a8) : ∃ n, W n a1 a2 a3 a4 a5 a6 a7 a8 :=
  loop_m (σ := A1 × A2 × A3 × A4 × A5 × A6 × A7 × A8) (fun n s => W n s.1 s.2.1 s.2.2.1 s.2.2.2.1 s.2.2.2.2.1 s.2.2.2.2.2.1 s.2.2.2.2.2.2.1 s.2.2.2.2.2.2.2) (fun s => I s.1 s.2.1 s.2.2.1 s.2.2.2.1 s.2.2.2.2.1 s.2.2.2.2.2.1 s.2.2.2.2.2.2.1 s.2.2.2.2.2.2.2) (fun s => μ s.1 s.2.1 s.2.2.1 s.2.2.2.1 s.2.2.2.2.1 s.2.2.2.2.2.1 s.2.2.2.2.2.2.1 s.2.2.2.2.2.2.2) (fun n s hI hk => hs n s.1 s.2.1 s.2.2.1 s.2.2.2.1 s.2.2.2.2.1 s.2.2.2.2.2.1 s.2.2.2.2.2.2.1 s.2.2.2.2.2.2.2 hI (fun b1 b2 b3 b4 b5 b6 b7 b8 h9 hm => hk (b1, b2, b3, b4, b5, b6, b7, b8) h9 hm)) (a1, a2, a3, a4, a5, a6, a7, a8) h
theorem lp9 {A1 A2 A3 A4 A5 A6 A7 A8 A9 : Type} (W : Nat → A1 → A2 → A3 → A4 → A5 → A6 → A7 → A8 → A9 → Prop) (I : A1 → A2 → A3 → A4 → A5 → A6 → A7 → A8 → A9 → Prop) (μ : A1 → A2 → A3 → A4 → A5 → A6 → A7 → A8 → A9 → Nat) (hs : ∀ (n : Nat) (a1 : A1) (a2 : A2) (a3 : A3) (a4 : A4) (a5 : A5) (a6 : A6) (a7 : A7) (a8 : A8) (a9 : A9), I a1 a2 a3 a4 a5 a6 a7 a8 a9 → (∀ (b1 : A1) (b2 : A2) (b3 : A3) (b4 : A4) (b5 : A5) (b6 : A6) (b7 : A7) (b8 : A8) (b9 : A9), I b1 b2 b3 b4 b5 b6 b7 b8 b9 → μ b1 b2 b3 b4 b5 b6 b7 b8 b9 < μ a1 a2 a3 a4 a5 a6 a7 a8 a9 → W n b1 b2 b3 b4 b5 b6 b7 b8 b9) → W (n + 1) a1 a2 a3 a4 a5 a6 a7 a8 a9) (a1 : A1) (a2 : A2) (a3 : A3) (a4 : A4) (a5 : A5) (a6 : A6) (a7 : A7) (a8 : A8) (a9 : A9) (h : I a1 a2 a3 a4 a5 a6 a7 a8 a9) : ∃ n, W n a1 a2 a3 a4 a5 a6 a7 a8 a9 :=
  loop_m (σ := A1 × A2 × A3 × A4 × A5 × A6 × A7 × A8 × A9) (fun n s => W n s.1 s.2.1 s.2.2.1 s.2.2.2.1 s.2.2.2.2.1 s.2.2.2.2.2.1 s.2.2.2.2.2.2.1 s.2.2.2.2.2.2.2.1 s.2.2.2.2.2.2.2.2) (fun s => I s.1 s.2.1 s.2.2.1 s.2.2.2.1 s.2.2.2.2.1 s.2.2.2.2.2.1 s.2.2.2.2.2.2.1 s.2.2.2.2.2.2.2.1 s.2.2.2.2.2.2.2.2) (fun s => μ s.1 s.2.1 s.2.2.1 s.2.2.2.1 s.2.2.2.2.1 s.2.2.2.2.2.1 s.2.2.2.2.2.2.1 s.2.2.2.2.2.2.2.1 s.2.2.2.2.2.2.2.2) (fun n s hI hk => hs n s.1 s.2.1 s.2.2.1 s.2.2.2.1 s.2.2.2.2.1 s.2.2.2.2.2.1 s.2.2.2.2.2.2.1 s.2.2.2.2.2.2.2.1 s.2.2.2.2.2.2.2.2 hI (fun b1 b2 b3 b4 b5 b6 b7 b8 b9 h9 hm => hk (b1, b2, b3, b4, b5, b6, b7, b8, b9) h9 hm)) (a1, a2, a3, a4, a5, a6, a7, a8, a9) h
theorem lp10 {A1 A2 A3 A4 A5 A6 A7 A8 A9 A10 : Type} (W : Nat → A1 → A2 → A3 → A4 → A5 → A6 → A7 → A8 → A9 → A10 → Prop) (I : A1 → A2 → A3 → A4 → A5 → A6 → A7 → A8 → A9 → A10 → Prop) (μ : A1 → A2 → A3 → A4 → A5 → A6 → A7 → A8 → A9 → A10 → Nat) (hs : ∀ (n : Nat) (a1 : A1) (a2 : A2) (a3 : A3) (a4 : A4) (a5 : A5) (a6 : A6) (a7 : A7) (a8 : A8) (a9 : A9) (a10 : A10), I a1 a2 a3 a4 a5 a6 a7 a8 a9 a10 → (∀ (b1 : A1) (b2 : A2) (b3 : A3) (b4 : A4) (b5 : A5) (b6 : A6) (b7 : A7) (b8 : A8) (b9 : A9) (b10 : A10), I b1 b2 b3 b4 b5 b6 b7 b8 b9 b10 → μ b1 b2 b3 b4 b5 b6 b7 b8 b9 b10 < μ a1 a2 a3 a4 a5 a6 a7 a8 a9 a10 → W n b1 b2 b3 b4 b5 b6 b7 b8 b9 b10) → W (n + 1) a1 a2 a3 a4 a5 a6 a7 a8 a9 a10) (a1 : A1) (a2 : A2) (a3 : A3) (a4 : A4) (a5 : A5) (a6 : A6) (a7 : A7) (a8 : A8) (a9 : A9) (a10 : A10) (h : I a1 a2 a3 a4 a5 a6 a7 a8 a9 a10) : ∃ n, W n a1 a2 a3 a4 a5 a6 a7 a8 a9 a10 :=
  loop_m (σ := A1 × A2 × A3 × A4 × A5 × A6 × A7 × A8 × A9 × A10) (fun n s => W n s.1 s.2.1 s.2.2.1 s.2.2.2.1 s.2.2.2.2.1 s.2.2.2.2.2.1 s.2.2.2.2.2.2.1 s.2.2.2.2.2.2.2.1 s.2.2.2.2.2.2.2.2.1 s.2.2.2.2.2.2.2.2.2) (fun s => I s.1 s.2.1 s.2.2.1 s.2.2.2.1 s.2.2.2.2.1 s.2.2.2.2.2.1 s.2.2.2.2.2.2.1 s.2.2.2.2.2.2.2.1 s.2.2.2.2.2.2.2.2.1 s.2.2.2.2.2.2.2.2.2) (fun s => μ s.1 s.2.1 s.2.2.1 s.2.2.2.1 s.2.2.2.2.1 s.2.2.2.2.2.1 s.2.2.2.2.2.2.1 s.2.2.2.2.2.2.2.1 s.2.2.2.2.2.2.2.2.1 s.2.2.2.2.2.2.2.2.2) (fun n s hI hk => hs n s.1 s.2.1 s.2.2.1 s.2.2.2.1 s.2.2.2.2.1 s.2.2.2.2.2.1 s.2.2.2.2.2.2.1 s.2.2.2.2.2.2.2.1 s.2.2.2.2.2.2.2.2.1 s.2.2.2.2.2.2.2.2.2 hI (fun b1 b2 b3 b4 b5 b6 b7 b8 b9 b10 h9 hm => hk (b1, b2, b3, b4, b5, b6, b7, b8, b9, b10) h9 hm)) (a1, a2, a3, a4, a5, a6, a7, a8, a9, a10) h
theorem lp11 {A1 A2 A3 A4 A5 A6 A7 A8 A9 A10 A11 : Type} (W : Nat → A1 → A2 → A3 → A4 → A5 → A6 → A7 → A8 → A9 → A10 → A11 → Prop) (I : A1 → A2 → A3 → A4 → A5 → A6 → A7 → A8 → A9 → A10 → A11 → Prop) (μ : A1 → A2 → A3 → A4 → A5 → A6 → A7 → A8 → A9 → A10 → A11 → Nat) (hs : ∀ (n : Nat) (a1 : A1) (a2 : A2) (a3 : A3) (a4 : A4) (a5 : A5) (a6 : A6) (a7 : A7) (a8 : A8) (a9 : A9) (a10 : A10) (a11 : A11), I a1 a2 a3 a4 a5 a6 a7 a8 a9 a10 a11 → (∀ (b1 : A1) (b2 : A2) (b3 : A3) (b4 : A4) (b5 : A5) (b6 : A6) (b7 : A7) (b8 : A8) (b9 : A9) (b10 : A10) (b11 : A11), I b1 b2 b3 b4 b5 b6 b7 b8 b9 b10 b11 → μ b1 b2 b3 b4 b5 b6 b7 b8 b9 b10 b11 < μ a1 a2 a3 a4 a5 a6 a7 a8 a9 a10 a11 → W n b1 b2 b3 b4 b5 b6 b7 b8 b9 b10 b11) → W (n + 1) a1 a2 a3 a4 a5 a6 a7 a8 a9 a10 a11) (a1 : A1) (a2 : A2) (a3 : A3) (a4 : A4) (a5 : A5) (a6 : A6) (a7 : A7) (a8 : A8) (a9 : A9) (a10 : A10) (a11 : A11) (h : I a1 a2 a3 a4 a5 a6 a7 a8 a9 a10 a11) : ∃ n, W n a1 a2 a3 a4 a5 a6 a7 a8 a9 a10 a11 :=
  loop_m (σ := A1 × A2 × A3 × A4 × A5 × A6 × A7 × A8 × A9 × A10 × A11) (fun n s => W n s.1 s.2.1 s.2.2.1 s.2.2.2.1 s.2.2.2.2.1 s.2.2.2.2.2.1 s.2.2.2.2.2.2.1 s.2.2.2.2.2.2.2.1 s.2.2.2.2.2.2.2.2.1 s.2.2.2.2.2.2.2.2.2.1 s.2.2.2.2.2.2.2.2.2.2) (fun s => I s.1 s.2.1 s.2.2.1 s.2.2.2.1 s.2.2.2.2.1 s.2.2.2.2.2.1 s.2.2.2.2.2.2.1 s.2.2.2.2.2.2.2.1 s.2.2.2.2.2.2.2.2.1 s.2.2.2.2.2.2.2.2.2.1 s.2.2.2.2.2.2.2.2.2.2) (fun s => μ s.1 s.2.1 s.2.2.1 s.2.2.2.1 s.2.2.2.2.1 s.2.2.2.2.2.1 s.2.2.2.2.2.2.1 s.2.2.2.2.2.2.2.1 s.2.2.2.2.2.2.2.2.1 s.2.2.2.2.2.2.2.2.2.1 s.2.2.2.2.2.2.2.2.2.2) (fun n s hI hk => hs n s.1 s.2.1 s.2.2.1 s.2.2.2.1 s.2.2.2.2.1 s.2.2.2.2.2.1 s.2.2.2.2.2.2.1 s.2.2.2.2.2.2.2.1 s.2.2.2.2.2.2.2.2.1 s.2.2.2.2.2.2.2.2.2.1 s.2.2.2.2.2.2.2.2.2.2 hI (fun b1 b2 b3 b4 b5 b6 b7 b8 b9 b10 b11 h9 hm => hk (b1, b2, b3, b4, b5, b6, b7, b8, b9, b10, b11) h9 hm)) (a1, a2, a3, a4, a5, a6, a7, a8, a9, a10, a11) h
theorem lp12 {A1 A2 A3 A4 A5 A6 A7 A8 A9 A10 A11 A12 : Type} (W : Nat → A1 → A2 → A3 → A4 → A5 → A6 → A7 → A8 → A9 → A10 → A11 → A12 → Prop) (I : A1 → A2 → A3 → A4 → A5 → A6 → A7 → A8 → A9 → A10 → A11 → A12 → Prop) (μ : A1 → A2 → A3 → A4 → A5 → A6 → A7 → A8 → A9 → A10 → A11 → A12 → Nat) (hs : ∀ (n : Nat) (a1 : A1) (a2 : A2) (a3 : A3) (a4 : A4) (a5 : A5) (a6 : A6) (a7 : A7) (a8 : A8) (a9 : A9) (a10 : A10) (a11 : A11) (a12 : A12), I a1 a2 a3 a4 a5 a6 a7 a8 a9 a10 a11 a12 → (∀ (b1 : A1) (b2 : A2) (b3 : A3) (b4 : A4) (b5 : A5) (b6 : A6) (b7 : A7) (b8 : A8) (b9 : A9) (b10 : A10) (b11 : A11) (b12 : A12), I b1 b2 b3 b4 b5 b6 b7 b8 b9 b10 b11 b12 → μ b1 b2 b3 b4 b5 b6 b7 b8 b9 b10 b11 b12 < μ a1 a2 a3 a4 a5 a6 a7 a8 a9 a10 a11 a12 → W n b1 b2 b3 b4 b5 b6 b7 b8 b9 b10 b11 b12) → W (n + 1) a1 a2 a3 a4 a5 a6 a7 a8 a9 a10 a11 a12) (a1 : A1) (a2 : A2) (a3 : A3) (a4 : A4) (a5 : A5) (a6 : A6) (a7 : A7) (a8 : A8) (a9 : A9) (a10 : A10) (a11 : A11) (a12 : A12) (h : I a1 a2 a3 a4 a5 a6 a7 a8 a9 a10 a11 a12) : ∃ n, W n a1 a2 a3 a4 a5 a6 a7 a8 a9 a10 a11 a12 :=
  loop_m (σ := A1 × A2 × A3 × A4 × A5 × A6 × A7 × A8 × A9 × A10 × A11 × A12) (fun n s => W n s.1 s.2.1 s.2.2.1 s.2.2.2.1 s.2.2.2.2.1 s.2.2.2.2.2.1 s.2.2.2.2.2.2.1 s.2.2.2.2.2.2.2.1 s.2.2.2.2.2.2.2.2.1 s.2.2.2.2.2.2.2.2.2.1 s.2.2.2.2.2.2.2.2.2.2.1 s.2.2.2.2.2.2.2.2.2.2.2) (fun s => I s.1 s.2.1 s.2.2.1 s.2.2.2.1 s.2.2.2.2.1 s.2.2.2.2.2.1 s.2.2.2.2.2.2.1 s.2.2.2.2.2.2.2.1 s.2.2.2.2.2.2.2.2.1 s.2.2.2.2.2.2.2.2.2.1 s.2.2.2.2.2.2.2.2.2.2.1 s.2.2.2.2.2.2.2.2.2.2.2) (fun s => μ s.1 s.2.1 s.2.2.1 s.2.2.2.1 s.2.2.2.2.1 s.2.2.2.2.2.1 s.2.2.2.2.2.2.1 s.2.2.2.2.2.2.2.1 s.2.2.2.2.2.2.2.2.1 s.2.2.2.2.2.2.2.2.2.1 s.2.2.2.2.2.2.2.2.2.2.1 s.2.2.2.2.2.2.2.2.2.2.2) (fun n s hI hk => hs n s.1 s.2.1 s.2.2.1 s.2.2.2.1 s.2.2.2.2.1 s.2.2.2.2.2.1 s.2.2.2.2.2.2.1 s.2.2.2.2.2.2.2.1 s.2.2.2.2.2.2.2.2.1 s.2.2.2.2.2.2.2.2.2.1 s.2.2.2.2.2.2.2.2.2.2.1 s.2.2.2.2.2.2.2.2.2.2.2 hI (fun b1 b2 b3 b4 b5 b6 b7 b8 b9 b10 b11 b12 h9 hm => hk (b1, b2, b3, b4, b5, b6, b7, b8, b9, b10, b11, b12) h9 hm)) (a1, a2, a3, a4, a5, a6, a7, a8, a9, a10, a11, a12) h
theorem lp13 {A1 A2 A3 A4 A5 A6 A7 A8 A9 A10 A11 A12 A13 : Type} (W : Nat → A1 → A2 → A3 → A4 → A5 → A6 → A7 → A8 → A9 → A10 → A11 → A12 → A13 → Prop) (I : A1 → A2 → A3 → A4 → A5 → A6 → A7 → A8 → A9 → A10 → A11 → A12 → A13 → Prop) (μ : A1 → A2 → A3 → A4 → A5 → A6 → A7 → A8 → A9 → A10 → A11 → A12 → A13 → Nat) (hs : ∀ (n : Nat) (a1 : A1) (a2 : A2) (a3 : A3) (a4 : A4) (a5 : A5) (a6 : A6) (a7 : A7) (a8 : A8) (a9 : A9) (a10 : A10) (a11 : A11) (a12 : A12) (a13 : A13), I a1 a2 a3 a4 a5 a6 a7 a8 a9 a10 a11 a12 a13 → (∀ (b1 : A1) (b2 : A2) (b3 : A3) (b4 : A4) (b5 : A5) (b6 : A6) (b7 : A7) (b8 : A8) (b9 : A9) (b10 : A10) (b11 : A11) (b12 : A12) (b13 : A13), I b1 b2 b3 b4 b5 b6 b7 b8 b9 b10 b11 b12 b13 → μ b1 b2 b3 b4 b5 b6 b7 b8 b9 b10 b11 b12 b13 < μ a1 a2 a3 a4 a5 a6 a7 a8 a9 a10 a11 a12 a13 → W n b1 b2 b3 b4 b5 b6 b7 b8 b9 b10 b11 b12 b13) → W (n + 1) a1 a2 a3 a4 a5 a6 a7 a8 a9 a10 a11 a12 a13) (a1 : A1) (a2 : A2) (a3 : A3) (a4 : A4) (a5 : A5) (a6 : A6) (a7 : A7) (a8 : A8) (a9 : A9) (a10 : A10) (a11 : A11) (a12 : A12) (a13 : A13) (h : I a1 a2 a3 a4 a5 a6 a7 a8 a9 a10 a11 a12 a13) : ∃ n, W n a1 a2 a3 a4 a5 a6 a7 a8 a9 a10 a11 a12 a13 :=
  loop_m (σ := A1 × A2 × A3 × A4 × A5 × A6 × A7 × A8 × A9 × A10 × A11 × A12 × A13) (fun n s => W n s.1 s.2.1 s.2.2.1 s.2.2.2.1 s.2.2.2.2.1 s.2.2.2.2.2.1 s.2.2.2.2.2.2.1 s.2.2.2.2.2.2.2.1 s.2.2.2.2.2.2.2.2.1 s.2.2.2.2.2.2.2.2.2.1 s.2.2.2.2.2.2.2.2.2.2.1 s.2.2.2.2.2.2.2.2.2.2.2.1 s.2.2.2.2.2.2.2.2.2.2.2.2) (fun s => I s.1 s.2.1 s.2.2.1 s.2.2.2.1 s.2.2.2.2.1 s.2.2.2.2.2.1 s.2.2.2.2.2.2.1 s.2.2.2.2.2.2.2.1 s.2.2.2.2.2.2.2.2.1 s.2.2.2.2.2.2.2.2.2.1 s.2.2.2.2.2.2.2.2.2.2.1 s.2.2.2.2.2.2.2.2.2.2.2.1 s.2.2.2.2.2.2.2.2.2.2.2.2) (fun s => μ s.1 s.2.1 s.2.2.1 s.2.2.2.1 s.2.2.2.2.1 s.2.2.2.2.2.1 s.2.2.2.2.2.2.1 s.2.2.2.2.2.2.2.1 s.2.2.2.2.2.2.2.2.1 s.2.2.2.2.2.2.2.2.2.1 s.2.2.2.2.2.2.2.2.2.2.1 s.2.2.2.2.2.2.2.2.2.2.2.1 s.2.2.2.2.2.2.2.2.2.2.2.2) (fun n s hI hk => hs n s.1 s.2.1 s.2.2.1 s.2.2.2.1 s.2.2.2.2.1 s.2.2.2.2.2.1 s.2.2.2.2.2.2.1 s.2.2.2.2.2.2.2.1 s.2.2.2.2.2.2.2.2.1 s.2.2.2.2.2.2.2.2.2.1 s.2.2.2.2.2.2.2.2.2.2.1 s.2.2.2.2.2.2.2.2.2.2.2.1 s.2.2.2.2.2.2.2.2.2.2.2.2 hI (fun b1 b2 b3 b4 b5 b6 b7 b8 b9 b10 b11 b12 b13 h9 hm => hk (b1, b2, b3, b4, b5, b6, b7, b8, b9, b10, b11, b12, b13) h9 hm)) (a1, a2, a3, a4, a5, a6, a7, a8, a9, a10, a11, a12, a13) h
theorem lp14 {A1 A2 A3 A4 A5 A6 A7 A8 A9 A10 A11 A12 A13 A14 : Type} (W : Nat → A1 → A2 → A3 → A4 → A5 → A6 → A7 → A8 → A9 → A10 → A11 → A12 → A13 → A14 → Prop) (I : A1 → A2 → A3 → A4 → A5 → A6 → A7 → A8 → A9 → A10 → A11 → A12 → A13 → A14 → Prop) (μ : A1 → A2 → A3 → A4 → A5 → A6 → A7 → A8 → A9 → A10 → A11 → A12 → A13 → A14 → Nat) (hs : ∀ (n : Nat) (a1 : A1) (a2 : A2) (a3 : A3) (a4 : A4) (a5 : A5) (a6 : A6) (a7 : A7) (a8 : A8) (a9 : A9) (a10 : A10) (a11 : A11) (a12 : A12) (a13 : A13) (a14 : A14), I a1 a2 a3 a4 a5 a6 a7 a8 a9 a10 a11 a12 a13 a14 → (∀ (b1 : A1) (b2 : A2) (b3 : A3) (b4 : A4) (b5 : A5) (b6 : A6) (b7 : A7) (b8 : A8) (b9 : A9) (b10 : A10) (b11 : A11) (b12 : A12) (b13 : A13) (b14 : A14), I b1 b2 b3 b4 b5 b6 b7 b8 b9 b10 b11 b12 b13 b14 → μ b1 b2 b3 b4 b5 b6 b7 b8 b9 b10 b11 b12 b13 b14 < μ a1 a2 a3 a4 a5 a6 a7 a8 a9 a10 a11 a12 a13 a14 → W n b1 b2 b3 b4 b5 b6 b7 b8 b9 b10 b11 b12 b13 b14) → W (n + 1) a1 a2 a3 a4 a5 a6 a7 a8 a9 a10 a11 a12 a13 a14) (a1 : A1) (a2 : A2) (a3 : A3) (a4 : A4) (a5 : A5) (a6 : A6) (a7 : A7) (a8 : A8) (a9 : A9) (a10 : A10) (a11 : A11) (a12 : A12) (a13 : A13) (a14 : A14) (h : I a1 a2 a3 a4 a5 a6 a7 a8 a9 a10 a11 a12 a13 a14) : ∃ n, W n a1 a2 a3 a4 a5 a6 a7 a8 a9 a10 a11 a12 a13 a14 :=
  loop_m (σ := A1 × A2 × A3 × A4 × A5 × A6 × A7 × A8 × A9 × A10 × A11 × A12 × A13 × A14) (fun n s => W n s.1 s.2.1 s.2.2.1 s.2.2.2.1 s.2.2.2.2.1 s.2.2.2.2.2.1 s.2.2.2.2.2.2.1 s.2.2.2.2.2.2.2.1 s.2.2.2.2.2.2.2.2.1 s.2.2.2.2.2.2.2.2.2.1 s.2.2.2.2.2.2.2.2.2.2.1 s.2.2.2.2.2.2.2.2.2.2.2.1 s.2.2.2.2.2.2.2.2.2.2.2.2.1 s.2.2.2.2.2.2.2.2.2.2.2.2.2) (fun s => I s.1 s.2.1 s.2.2.1 s.2.2.2.1 s.2.2.2.2.1 s.2.2.2.2.2.1 s.2.2.2.2.2.2.1 s.2.2.2.2.2.2.2.1 s.2.2.2.2.2.2.2.2.1 s.2.2.2.2.2.2.2.2.2.1 s.2.2.2.2.2.2.2.2.2.2.1 s.2.2.2.2.2.2.2.2.2.2.2.1 s.2.2.2.2.2.2.2.2.2.2.2.2.1 s.2.2.2.2.2.2.2.2.2.2.2.2.2) (fun s => μ s.1 s.2.1 s.2.2.1 s.2.2.2.1 s.2.2.2.2.1 s.2.2.2.2.2.1 s.2.2.2.2.2.2.1 s.2.2.2.2.2.2.2.1 s.2.2.2.2.2.2.2.2.1 s.2.2.2.2.2.2.2.2.2.1 s.2.2.2.2.2.2.2.2.2.2.1 s.2.2.2.2.2.2.2.2.2.2.2.1 s.2.2.2.2.2.2.2.2.2.2.2.2.1 s.2.2.2.2.2.2.2.2.2.2.2.2.2) (fun n s hI hk => hs n s.1 s.2.1 s.2.2.1 s.2.2.2.1 s.2.2.2.2.1 s.2.2.2.2.2.1 s.2.2.2.2.2.2.1 s.2.2.2.2.2.2.2.1 s.2.2.2.2.2.2.2.2.1 s.2.2.2.2.2.2.2.2.2.1 s.2.2.2.2.2.2.2.2.2.2.1 s.2.2.2.2.2.2.2.2.2.2.2.1 s.2.2.2.2.2.2.2.2.2.2.2.2.1 s.2.2.2.2.2.2.2.2.2.2.2.2.2 hI (fun b1 b2 b3 b4 b5 b6 b7 b8 b9 b10 b11 b12 b13 b14 h9 hm => hk (b1, b2, b3, b4, b5, b6, b7, b8, b9, b10, b11, b12, b13, b14) h9 hm)) (a1, a2, a3, a4, a5, a6, a7, a8, a9, a10, a11, a12, a13, a14) h
theorem lp15 {A1 A2 A3 A4 A5 A6 A7 A8 A9 A10 A11 A12 A13 A14 A15 : Type} (W : Nat → A1 → A2 → A3 → A4 → A5 → A6 → A7 → A8 → A9 → A10 → A11 → A12 → A13 → A14 → A15 → Prop) (I : A1 → A2 → A3 → A4 → A5 → A6 → A7 → A8 → A9 → A10 → A11 → A12 → A13 → A14 → A15 → Prop) (μ : A1 → A2 → A3 → A4 → A5 → A6 → A7 → A8 → A9 → A10 → A11 → A12 → A13 → A14 → A15 → Nat) (hs : ∀ (n : Nat) (a1 : A1) (a2 : A2) (a3 : A3) (a4 : A4) (a5 : A5) (a6 : A6) (a7 : A7) (a8 : A8) (a9 : A9) (a10 : A10) (a11 : A11) (a12 : A12) (a13 : A13) (a14 : A14) (a15 : A15), I a1 a2 a3 a4 a5 a6 a7 a8 a9 a10 a11 a12 a13 a14 a15 → (∀ (b1 : A1) (b2 : A2) (b3 : A3) (b4 : A4) (b5 : A5) (b6 : A6) (b7 : A7) (b8 : A8) (b9 : A9) (b10 : A10) (b11 : A11) (b12 : A12) (b13 : A13) (b14 : A14) (b15 : A15), I b1 b2 b3 b4 b5 b6 b7 b8 b9 b10 b11 b12 b13 b14 b15 → μ b1 b2 b3 b4 b5 b6 b7 b8 b9 b10 b11 b12 b13 b14 b15 < μ a1 a2 a3 a4 a5 a6 a7 a8 a9 a10 a11 a12 a13 a14 a15 → W n b1 b2 b3 b4 b5 b6 b7 b8 b9 b10 b11 b12 b13 b14 b15) → W (n + 1) a1 a2 a3 a4 a5 a6 a7 a8 a9 a10 a11 a12 a13 a14 a15) (a1 : A1) (a2 : A2) (a3 : A3) (a4 : A4) (a5 : A5) (a6 : A6) (a7 : A7) (a8 : A8) (a9 : A9) (a10 : A10) (a11 : A11) (a12 : A12) (a13 : A13) (a14 : A14) (a15 : A15) (h : I a1 a2 a3 a4 a5 a6 a7 a8 a9 a10 a11 a12 a13 a14 a15) : ∃ n, W n a1 a2 a3 a4 a5 a6 a7 a8 a9 a10 a11 a12 a13 a14 a15 :=
  loop_m (σ := A1 × A2 × A3 × A4 × A5 × A6 × A7 × A8 × A9 × A10 × A11 × A12 × A13 × A14 × A15) (fun n s => W n s.1 s.2.1 s.2.2.1 s.2.2.2.1 s.2.2.2.2.1 s.2.2.2.2.2.1 s.2.2.2.2.2.2.1 s.2.2.2.2.2.2.2.1 s.2.2.2.2.2.2.2.2.1 s.2.2.2.2.2.2.2.2.2.1 s.2.2.2.2.2.2.2.2.2.2.1 s.2.2.2.2.2.2.2.2.2.2.2.1 s.2.2.2.2.2.2.2.2.2.2.2.2.1 s.2.2.2.2.2.2.2.2.2.2.2.2.2.1 s.2.2.2.2.2.2.2.2.2.2.2.2.2.2) (fun s => I s.1 s.2.1 s.2.2.1 s.2.2.2.1 s.2.2.2.2.1 s.2.2.2.2.2.1 s.2.2.2.2.2.2.1 s.2.2.2.2.2.2.2.1 s.2.2.2.2.2.2.2.2.1 s.2.2.2.2.2.2.2.2.2.1 s.2.2.2.2.2.2.2.2.2.2.1 s.2.2.2.2.2.2.2.2.2.2.2.1 s.2.2.2.2.2.2.2.2.2.2.2.2.1 s.2.2.2.2.2.2.2.2.2.2.2.2.2.1 s.2.2.2.2.2.2.2.2.2.2.2.2.2.2) (fun s => μ s.1 s.2.1 s.2.2.1 s.2.2.2.1 s.2.2.2.2.1 s.2.2.2.2.2.1 s.2.2.2.2.2.2.1 s.2.2.2.2.2.2.2.1 s.2.2.2.2.2.2.2.2.1 s.2.2.2.2.2.2.2.2.2.1 s.2.2.2.2.2.2.2.2.2.2.1 s.2.2.2.2.2.2.2.2.2.2.2.1 s.2.2.2.2.2.2.2.2.2.2.2.2.1 s.2.2.2.2.2.2.2.2.2.2.2.2.2.1 s.2.2.2.2.2.2.2.2.2.2.2.2.2.2) (fun n s hI hk => hs n s.1 s.2.1 s.2.2.1 s.2.2.2.1 s.2.2.2.2.1 s.2.2.2.2.2.1 s.2.2.2.2.2.2.1 s.2.2.2.2.2.2.2.1 s.2.2.2.2.2.2.2.2.1 s.2.2.2.2.2.2.2.2.2.1 s.2.2.2.2.2.2.2.2.2.2.1 s.2.2.2.2.2.2.2.2.2.2.2.1 s.2.2.2.2.2.2.2.2.2.2.2.2.1 s.2.2.2.2.2.2.2.2.2.2.2.2.2.1 s.2.2.2.2.2.2.2.2.2.2.2.2.2.2 hI (fun b1 b2 b3 b4 b5 b6 b7 b8 b9 b10 b11 b12 b13 b14 b15 h9 hm => hk (b1, b2, b3, b4, b5, b6, b7, b8, b9, b10, b11, b12, b13, b14, b15) h9 hm)) (a1, a2, a3, a4, a5, a6, a7, a8, a9, a10, a11, a12, a13, a14, a15) h
theorem lp16 {A1 A2 A3 A4 A5 A6 A7 A8 A9 A10 A11 A12 A13 A14 A15 A16 : Type} (W : Nat → A1 → A2 → A3 → A4 → A5 → A6 → A7 → A8 → A9 → A10 → A11 → A12 → A13 → A14 → A15 → A16 → Prop) (I : A1 → A2 → A3 → A4 → A5 → A6 → A7 → A8 → A9 → A10 → A11 → A12 → A13 → A14 → A15 → A16 → Prop) (μ : A1 → A2 → A3 → A4 → A5 → A6 → A7 → A8 → A9 → A10 → A11 → A12 → A13 → A14 → A15 → A16 → Nat) (hs : ∀ (n : Nat) (a1 : A1) (a2 : A2) (a3 : A3) (a4 : A4) (a5 : A5) (a6 : A6) (a7 : A7) (a8 : A8) (a9 : A9) (a10 : A10) (a11 : A11) (a12 : A12) (a13 : A13) (a14 : A14) (a15 : A15) (a16 : A16), I a1 a2 a3 a4 a5 a6 a7 a8 a9 a10 a11 a12 a13 a14 a15 a16 → (∀ (b1 : A1) (b2 : A2) (b3 : A3) (b4 : A4) (b5 : A5) (b6 : A6) (b7 : A7) (b8 : A8) (b9 : A9) (b10 : A10) (b11 : A11) (b12 : A12) (b13 : A13) (b14 : A14) (b15 : A15) (b16 : A16), I b1 b2 b3 b4 b5 b6 b7 b8 b9 b10 b11 b12 b13 b14 b15 b16 → μ b1 b2 b3 b4 b5 b6 b7 b8 b9 b10 b11 b12 b13 b14 b15 b16 < μ a1 a2 a3 a4 a5 a6 a7 a8 a9 a10 a11 a12 a13 a14 a15 a16 → W n b1 b2 b3 b4 b5 b6 b7 b8 b9 b10 b11 b12 b13 b14 b15 b16) → W (n + 1) a1 a2 a3 a4 a5 a6 a7 a8 a9 a10 a11 a12 a13 a14 a15 a16) (a1 : A1) (a2 : A2) (a3 : A3) (a4 : A4) (a5 : A5) (a6 : A6) (a7 : A7) (a8 : A8) (a9 : A9) (a10 : A10) (a11 : A11) (a12 : A12) (a13 : A13) (a14 : A14) (a15 : A15) (a16 : A16) (h : I a1 a2 a3 a4 a5 a6 a7 a8 a9 a10 a11 a12 a13 a14 a15 a16) : ∃ n, W n a1 a2 a3 a4 a5 a6 a7 a8 a9 a10 a11 a12 a13 a14 a15 a16 :=
  loop_m (σ := A1 × A2 × A3 × A4 × A5 × A6 × A7 × A8 × A9 × A10 × A11 × A12 × A13 × A14 × A15 × A16) (fun n s => W n s.1 s.2.1 s.2.2.1 s.2.2.2.1 s.2.2.2.2.1 s.2.2.2.2.2.1 s.2.2.2.2.2.2.1 s.2.2.2.2.2.2.2.1 s.2.2.2.2.2.2.2.2.1 s.2.2.2.2.2.2.2.2.2.1 s.2.2.2.2.2.2.2.2.2.2.1 s.2.2.2.2.2.2.2.2.2.2.2.1 s.2.2.2.2.2.2.2.2.2.2.2.2.1 s.2.2.2.2.2.2.2.2.2.2.2.2.2.1 s.2.2.2.2.2.2.2.2.2.2.2.2.2.2.1 s.2.2.2.2.2.2.2.2.2.2.2.2.2.2.2) (fun s => I s.1 s.2.1 s.2.2.1 s.2.2.2.1 s.2.2.2.2.1 s.2.2.2.2.2.1 s.2.2.2.2.2.2.1 s.2.2.2.2.2.2.2.1 s.2.2.2.2.2.2.2.2.1 s.2.2.2.2.2.2.2.2.2.1 s.2.2.2.2.2.2.2.2.2.2.1 s.2.2.2.2.2.2.2.2.2.2.2.1 s.2.2.2.2.2.2.2.2.2.2.2.2.1 s.2.2.2.2.2.2.2.2.2.2.2.2.2.1 s.2.2.2.2.2.2.2.2.2.2.2.2.2.2.1 s.2.2.2.2.2.2.2.2.2.2.2.2.2.2.2) (fun s => μ s.1 s.2.1 s.2.2.1 s.2.2.2.1 s.2.2.2.2.1 s.2.2.2.2.2.1 s.2.2.2.2.2.2.1 s.2.2.2.2.2.2.2.1 s.2.2.2.2.2.2.2.2.1 s.2.2.2.2.2.2.2.2.2.1 s.2.2.2.2.2.2.2.2.2.2.1 s.2.2.2.2.2.2.2.2.2.2.2.1 s.2.2.2.2.2.2.2.2.2.2.2.2.1 s.2.2.2.2.2.2.2.2.2.2.2.2.2.1 s.2.2.2.2.2.2.2.2.2.2.2.2.2.2.1 s.2.2.2.2.2.2.2.2.2.2.2.2.2.2.2) (fun n s hI hk => hs n s.1 s.2.1 s.2.2.1 s.2.2.2.1 s.2.2.2.2.1 s.2.2.2.2.2.1 s.2.2.2.2.2.2.1 s.2.2.2.2.2.2.2.1 s.2.2.2.2.2.2.2.2.1 s.2.2.2.2.2.2.2.2.2.1 s.2.2.2.2.2.2.2.2.2.2.1 s.2.2.2.2.2.2.2.2.2.2.2.1 s.2.2.2.2.2.2.2.2.2.2.2.2.1 s.2.2.2.2.2.2.2.2.2.2.2.2.2.1 s.2.2.2.2.2.2.2.2.2.2.2.2.2.2.1 s.2.2.2.2.2.2.2.2.2.2.2.2.2.2.2 hI (fun b1 b2 b3 b4 b5 b6 b7 b8 b9 b10 b11 b12 b13 b14 b15 b16 h9 hm => hk (b1, b2, b3, b4, b5, b6, b7, b8, b9, b10, b11, b12, b13, b14, b15, b16) h9 hm)) (a1, a2, a3, a4, a5, a6, a7, a8, a9, a10, a11, a12, a13, a14, a15, a16) h
theorem pk_least (P : Nat → Prop) (h : ∃ k, P k) : ∃ k, P k ∧ ∀ j, j < k → ¬ P j := by
  obtain ⟨k, hk⟩ := h
  induction k using Nat.strongRecOn with
  | ind k ih =>
    by_cases e : ∃ j, j < k ∧ P j
    · obtain ⟨j, hj, pj⟩ := e
      exact ih j hj pj
    · exact ⟨k, hk, fun j hj pj => e ⟨j, hj, pj⟩⟩
theorem rp1 {ρ A1 : Type} (W : Nat → (ρ → Prop) → A1 → Prop) (ok : A1 → Prop) (μ : A1 → Nat) (val : A1 → ρ)
    (hs : ∀ (d : Nat) (post : ρ → Prop) (a1 : A1), ok a1 → post (val a1) → (∀ (post' : ρ → Prop) (b1 : A1), ok b1 → μ b1 < μ a1 → post' (val b1) → W d post' b1) → W (d + 1) post a1) :
    ∀ (d : Nat) (post : ρ → Prop) (a1 : A1), ok a1 → μ a1 < d → post (val a1) → W d post a1 := by
  intro d
  induction d with
  | zero => intro post a1 _ h; omega
  | succ d ih =>
    intro post a1 ho hm hp
    exact hs d post a1 ho hp (fun post' b1 ho' hm' hp' => ih post' b1 ho' (by omega) hp')
theorem rp2 {ρ A1 A2 : Type} (W : Nat → (ρ → Prop) → A1 → A2 → Prop) (ok : A1 → A2 → Prop) (μ : A1 → A2 → Nat) (val : A1 → A2 → ρ)
    (hs : ∀ (d : Nat) (post : ρ → Prop) (a1 : A1) (a2 : A2), ok a1 a2 → post (val a1 a2) → (∀ (post' : ρ → Prop) (b1 : A1) (b2 : A2), ok b1 b2 → μ b1 b2 < μ a1 a2 → post' (val b1 b2) → W d post' b1 b2) → W (d + 1) post a1 a2) :
    ∀ (d : Nat) (post : ρ → Prop) (a1 : A1) (a2 : A2), ok a1 a2 → μ a1 a2 < d → post (val a1 a2) → W d post a1 a2 := by
  intro d
  induction d with
  | zero => intro post a1 a2 _ h; omega
  | succ d ih =>
    intro post a1 a2 ho hm hp
    exact hs d post a1 a2 ho hp (fun post' b1 b2 ho' hm' hp' => ih post' b1 b2 ho' (by omega) hp')
theorem rp3 {ρ A1 A2 A3 : Type} (W : Nat → (ρ → Prop) → A1 → A2 → A3 → Prop) (ok : A1 → A2 → A3 → Prop) (μ : A1 → A2 → A3 → Nat) (val : A1 → A2 → A3 → ρ)
    (hs : ∀ (d : Nat) (post : ρ → Prop) (a1 : A1) (a2 : A2) (a3 : A3), ok a1 a2 a3 → post (val a1 a2 a3) → (∀ (post' : ρ → Prop) (b1 : A1) (b2 : A2) (b3 : A3), ok b1 b2 b3 → μ b1 b2 b3 < μ a1 a2 a3 → post' (val b1 b2 b3) → W d post' b1 b2 b3) → W (d + 1) post a1 a2 a3) :
    ∀ (d : Nat) (post : ρ → Prop) (a1 : A1) (a2 : A2) (a3 : A3), ok a1 a2 a3 → μ a1 a2 a3 < d → post (val a1 a2 a3) → W d post a1 a2 a3 := by
  intro d
  induction d with
  | zero => intro post a1 a2 a3 _ h; omega
  | succ d ih =>
    intro post a1 a2 a3 ho hm hp
    exact hs d post a1 a2 a3 ho hp (fun post' b1 b2 b3 ho' hm' hp' => ih post' b1 b2 b3 ho' (by omega) hp')
theorem rp4 {ρ A1 A2 A3 A4 : Type} (W : Nat → (ρ → Prop) → A1 → A2 → A3 → A4 → Prop) (ok : A1 → A2 → A3 → A4 → Prop) (μ : A1 → A2 → A3 → A4 → Nat) (val : A1 → A2 → A3 → A4 → ρ)
    (hs : ∀ (d : Nat) (post : ρ → Prop) (a1 : A1) (a2 : A2) (a3 : A3) (a4 : A4), ok a1 a2 a3 a4 → post (val a1 a2 a3 a4) → (∀ (post' : ρ → Prop) (b1 : A1) (b2 : A2) (b3 : A3) (b4 : A4), ok b1 b2 b3 b4 → μ b1 b2 b3 b4 < μ a1 a2 a3 a4 → post' (val b1 b2 b3 b4) → W d post' b1 b2 b3 b4) → W (d + 1) post a1 a2 a3 a4) :
    ∀ (d : Nat) (post : ρ → Prop) (a1 : A1) (a2 : A2) (a3 : A3) (a4 : A4), ok a1 a2 a3 a4 → μ a1 a2 a3 a4 < d → post (val a1 a2 a3 a4) → W d post a1 a2 a3 a4 := by
  intro d
  induction d with
  | zero => intro post a1 a2 a3 a4 _ h; omega
  | succ d ih =>
    intro post a1 a2 a3 a4 ho hm hp
    exact hs d post a1 a2 a3 a4 ho hp (fun post' b1 b2 b3 b4 ho' hm' hp' => ih post' b1 b2 b3 b4 ho' (by omega) hp')
theorem rp5 {ρ A1 A2 A3 A4 A5 : Type} (W : Nat → (ρ → Prop) → A1 → A2 → A3 → A4 → A5 → Prop) (ok : A1 → A2 → A3 → A4 → A5 → Prop) (μ : A1 → A2 → A3 → A4 → A5 → Nat) (val : A1 → A2 → A3 → A4 → A5 → ρ)
    (hs : ∀ (d : Nat) (post : ρ → Prop) (a1 : A1) (a2 : A2) (a3 : A3) (a4 : A4) (a5 : A5), ok a1 a2 a3 a4 a5 → post (val a1 a2 a3 a4 a5) → (∀ (post' : ρ → Prop) (b1 : A1) (b2 : A2) (b3 : A3) (b4 : A4) (b5 : A5), ok b1 b2 b3 b4 b5 → μ b1 b2 b3 b4 b5 < μ a1 a2 a3 a4 a5 → post' (val b1 b2 b3 b4 b5) → W d post' b1 b2 b3 b4 b5) → W (d + 1) post a1 a2 a3 a4 a5) :
    ∀ (d : Nat) (post : ρ → Prop) (a1 : A1) (a2 : A2) (a3 : A3) (a4 : A4) (a5 : A5), ok a1 a2 a3 a4 a5 → μ a1 a2 a3 a4 a5 < d → post (val a1 a2 a3 a4 a5) → W d post a1 a2 a3 a4 a5 := by
  intro d
  induction d with
  | zero => intro post a1 a2 a3 a4 a5 _ h; omega
  | succ d ih =>
    intro post a1 a2 a3 a4 a5 ho hm hp
    exact hs d post a1 a2 a3 a4 a5 ho hp (fun post' b1 b2 b3 b4 b5 ho' hm' hp' => ih post' b1 b2 b3 b4 b5 ho' (by omega) hp')
theorem rp6 {ρ A1 A2 A3 A4 A5 A6 : Type} (W : Nat → (ρ → Prop) → A1 → A2 → A3 → A4 → A5 → A6 → Prop) (ok : A1 → A2 → A3 → A4 → A5 → A6 → Prop) (μ : A1 → A2 → A3 → A4 → A5 → A6 → Nat) (val : A1 → A2 → A3 → A4 → A5 → A6 → ρ)
    (hs : ∀ (d : Nat) (post : ρ → Prop) (a1 : A1) (a2 : A2) (a3 : A3) (a4 : A4) (a5 : A5) (a6 : A6), ok a1 a2 a3 a4 a5 a6 → post (val a1 a2 a3 a4 a5 a6) → (∀ (post' : ρ → Prop) (b1 : A1) (b2 : A2) (b3 : A3) (b4 : A4) (b5 : A5) (b6 : A6), ok b1 b2 b3 b4 b5 b6 → μ b1 b2 b3 b4 b5 b6 < μ a1 a2 a3 a4 a5 a6 → post' (val b1 b2 b3 b4 b5 b6) → W d post' b1 b2 b3 b4 b5 b6) → W (d + 1) post a1 a2 a3 a4 a5 a6) :
    ∀ (d : Nat) (post : ρ → Prop) (a1 : A1) (a2 : A2) (a3 : A3) (a4 : A4) (a5 : A5) (a6 : A6), ok a1 a2 a3 a4 a5 a6 → μ a1 a2 a3 a4 a5 a6 < d → post (val a1 a2 a3 a4 a5 a6) → W d post a1 a2 a3 a4 a5 a6 := by
  intro d
  induction d with
  | zero => intro post a1 a2 a3 a4 a5 a6 _ h; omega
  | succ d ih =>
    intro post a1 a2 a3 a4 a5 a6 ho hm hp
    exact hs d post a1 a2 a3 a4 a5 a6 ho hp (fun post' b1 b2 b3 b4 b5 b6 ho' hm' hp' => ih post' b1 b2 b3 b4 b5 b6 ho' (by omega) hp')
theorem rec_p {σ ρ : Type} (W : Nat → (ρ → Prop) → σ → Prop) (ok : σ → Prop) (μ : σ → Nat) (val : σ → ρ)
    (hs : ∀ d s post, ok s → post (val s) → (∀ s' post', ok s' → μ s' < μ s → post' (val s') → W d post' s') → W (d + 1) post s) :
    ∀ d s post, ok s → μ s < d → post (val s) → W d post s := by
  intro d
  induction d with
  | zero => intro s post _ h; omega
  | succ d ih =>
    intro s post ho hm hp
    exact hs d s post ho hp (fun s' post' ho' hm' hp' => ih s' post' ho' (by omega) hp')
theorem rec_q {σ ρ : Type} (W : Nat → (ρ → Prop) → σ → Prop) (ok : σ → Prop) (μ : σ → Nat) (Q : σ → ρ → Prop)
    (hs : ∀ d s post, ok s → (∀ r, Q s r → post r) → (∀ s' post', ok s' → μ s' < μ s → (∀ r, Q s' r → post' r) → W d post' s') → W (d + 1) post s) :
    ∀ d s post, ok s → μ s < d → (∀ r, Q s r → post r) → W d post s := by
  intro d
  induction d with
  | zero => intro s post _ h; omega
  | succ d ih =>
    intro s post ho hm hp
    exact hs d s post ho hp (fun s' post' ho' hm' hp' => ih s' post' ho' (by omega) hp')
def bx_sum (f : Nat → Int32) : Nat → Int32
  | 0 => 0
  | n + 1 => bx_sum f n + f n
theorem ek_u {A : Prop} {B : Nat → Prop} {k N : Nat} (hk : k < N) (h : B k) : (some k = none → A) ∧ (∀ y : Nat, some k = some y → (y < N ∧ B y)) :=
  ⟨fun z => absurd z (Option.some_ne_none k), fun _ e => (by cases e; exact ⟨hk, h⟩)⟩
theorem ek_nu {A : Prop} {B : Nat → Prop} (h : A) : ((none : Option Nat) = none → A) ∧ (∀ y : Nat, (none : Option Nat) = some y → B y) :=
  ⟨fun _ => h, fun _ e => (by cases e)⟩
theorem ek_if {c d A B : Prop} (e : c ↔ d) (f : d → A) (g : ¬ d → B) : (c → A) ∧ (¬ c → B) :=
  ⟨fun z => f (e.mp z), fun z => g (fun y => z (e.mpr y))⟩
theorem ek_v {α : Sort _} {P : α → Prop} {a b : α} (e : a = b) (h : P b) : P a := e ▸ h
theorem co_some {x : Option Nat} {A : Prop} {B : Nat → Prop} (i : Nat) (h : B i) (hx : x = some i := by rfl) : (x = none → A) ∧ (∀ y : Nat, x = some y → B y) := by
  subst hx
  exact ⟨fun e => (nomatch e), fun y e => Option.some.inj e ▸ h⟩
theorem co_none {x : Option Nat} {A : Prop} {B : Nat → Prop} (h : A) (hx : x = none := by rfl) : (x = none → A) ∧ (∀ y : Nat, x = some y → B y) := by
  subst hx
  exact ⟨fun _ => h, fun y e => (nomatch e)⟩
theorem co_any {x : Option Nat} {A : Prop} {B : Nat → Prop} (hn : x = none → A) (hs : ∀ i : Nat, x = some i → B i) : (x = none → A) ∧ (∀ y : Nat, x = some y → B y) := ⟨hn, hs⟩
theorem co_2 {P : Nat → Prop} (h0 : P 0) (h1 : P 1) {i : Nat} (hi : i < 2) : P i :=
  match i, hi with
  | 0, _ => h0
  | 1, _ => h1
theorem co_3 {P : Nat → Prop} (h0 : P 0) (h1 : P 1) (h2 : P 2) {i : Nat} (hi : i < 3) : P i :=
  match i, hi with
  | 0, _ => h0
  | 1, _ => h1
  | 2, _ => h2
theorem co_4 {P : Nat → Prop} (h0 : P 0) (h1 : P 1) (h2 : P 2) (h3 : P 3) {i : Nat} (hi : i < 4) : P i :=
  match i, hi with
  | 0, _ => h0
  | 1, _ => h1
  | 2, _ => h2
  | 3, _ => h3
theorem co_dec {N : Nat} {P : Nat → Prop} [DecidablePred P] (h : (List.range N).all (fun i => decide (P i)) = true) {i : Nat} (hi : i < N) : P i := by
  have := List.all_eq_true.mp h i (List.mem_range.mpr hi)
  exact of_decide_eq_true this
theorem co_tab {α : Type} {l : List α} {d : α} {P : α → Prop} (h : ∀ a, a ∈ l → P a) {i : Nat} (hi : i < l.length) : P (l.getD i d) := by
  rw [List.getD_eq_getElem?_getD, List.getElem?_eq_getElem hi]
  exact h _ (List.getElem_mem hi)
theorem pk_mu {x : Int32} {L : Nat} (h0 : ¬ x < 0) (h : ¬ nI L ≤ x) (hL : L < 2 ^ 31) : ∃ j : Nat, j < L ∧ x = nI j ∧ x + 1 = nI (j + 1) ∧ x.toNatClampNeg = j ∧ L - (x + 1).toNatClampNeg < L - x.toNatClampNeg := by
  obtain ⟨j, hj, rfl⟩ := nI_of h0
  have hl : j < L := Nat.not_le.mp fun q => h (nI_le q hj)
  refine ⟨j, hl, rfl, nI_1 j, nI_clamp hj, ?_⟩
  rw [nI_1, nI_clamp (by omega), nI_clamp hj]
  omega
theorem op_s {α : Type} {r : Option α} {A : Prop} {B : α → Prop} {y : α} (h : r = some y) (b : B y) : (r = none → A) ∧ ∀ z, r = some z → B z :=
  ⟨fun e => (by rw [h] at e; cases e), fun z e => (by rw [h] at e; cases e; exact b)⟩
def l_holds {α : Type} (a : Nat → Option Nat) (LP : List Nat) (p : Nat → α) (c : Nat) (b : Nat → α) : Prop :=
  ∀ j, j < c → ∃ y, a j = some y ∧ y ∈ LP ∧ p y = b j
theorem l_holds_0 {α : Type} {a : Nat → Option Nat} {LP : List Nat} {p b : Nat → α} : l_holds a LP p 0 b := fun j h => absurd h (Nat.not_lt_zero j)
theorem l_in_new (LP : List Nat) (q : Nat) : q ∈ LP ++ [q] := List.mem_append.mpr (Or.inr (List.mem_singleton.mpr rfl))
def l_sum (b : Nat → Int32) : Nat → Int32
  | 0 => 0
  | k + 1 => l_sum b k + b k
theorem sb_shr0 (x : Int32) : x >>> ((0 : Int32) &&& 31) = x := by
  rw [show ((0 : Int32) &&& 31) = 0 by decide]
  simp
theorem sb_shl0 (x : Int32) : x <<< ((0 : Int32) &&& 31) = x := by
  rw [show ((0 : Int32) &&& 31) = 0 by decide]
  simp
theorem sb_cl0 : (0 : Int32).toNatClampNeg = 0 := by decide
theorem sb_m1 {p : Nat} (h : 0 < p) : nI p + (-1) = nI (p - 1) := by
  obtain ⟨q, rfl⟩ : ∃ q, p = q + 1 := ⟨p - 1, by omega⟩
  exact pk_m1 q
def sb_b (c : Nat) : Int32 := (nI c).toInt8.toInt32
theorem sb_byte : ∀ c, c < 256 → sb_b c &&& 255 = nI c ∧ ((nI c).toUInt32 % 65536).toInt32 = nI c ∧ nI c ≤ 255 := by decide +kernel
def sb_Fit (a : Nat → Int32) : Prop := ∀ j, fits .byte (.int (a j)) = true
def sb_Lat (t : Nat → Nat) (n : Nat) (a : Nat → Int32) : Prop := ∀ j, j < n → t j < 256 ∧ a j = sb_b (t j)
theorem sb_fitB (c : Nat) : fits .byte (.int (sb_b c)) = true := pk_fb _
theorem sb_fit0 : sb_Fit (fun _ => 0) := fun _ => by
  show fits .byte (.int 0) = true
  decide
theorem sb_fitU {a : Nat → Int32} {k : Nat} {x : Int32} (h : sb_Fit a) (hx : fits .byte (.int x) = true) : sb_Fit (upd a k x) := by
  intro j
  by_cases e : j = k
  · subst e
    rw [pk_us]
    exact hx
  · rw [pk_un e]
    exact h j
def sb_cat (t : Nat → Nat) (n : Nat) (s : Nat → Nat) : Nat → Nat := fun j => if j < n then t j else s (j - n)
theorem sb_cat_lo {t s : Nat → Nat} {n j : Nat} (h : j < n) : sb_cat t n s j = t j := if_pos h
theorem sb_cat_hi {t s : Nat → Nat} {n j : Nat} : sb_cat t n s (n + j) = s j := by
  show (if n + j < n then t (n + j) else s (n + j - n)) = s j
  rw [if_neg (by omega), Nat.add_sub_cancel_left]
theorem sb_latPut {t s : Nat → Nat} {n w : Nat} {a a' : Nat → Int32} (h : sb_Lat t n a) (hk : ∀ j, j < n → a' j = a j) (hs : ∀ i, i < w → s i < 256 ∧ a' (n + i) = sb_b (s i)) : sb_Lat (sb_cat t n s) (n + w) a' := by
  intro j hj
  by_cases e : j < n
  · rw [sb_cat_lo e, hk j e]
    exact h j e
  · obtain ⟨i, rfl⟩ : ∃ i, j = n + i := ⟨j - n, by omega⟩
    rw [sb_cat_hi]
    exact hs i (by omega)
theorem sb_latKeep {t : Nat → Nat} {n : Nat} {a a' : Nat → Int32} (h : sb_Lat t n a) (hk : ∀ j, j < n → a' j = a j) : sb_Lat t n a' := fun j hj => by
  rw [hk j hj]
  exact h j hj
def sb_cap (q m : Nat) : Nat := if q ≤ m then m else if 2 * m + 2 < q then q else 2 * m + 2
def sb_Room (q m mc ms : Nat) : Prop := q ≤ m ∨ (1 ≤ mc ∧ sb_cap q m ≤ ms ∧ sb_cap q m ≤ 65536)
theorem sb_cap_ge (q m : Nat) : q ≤ sb_cap q m := by
  unfold sb_cap
  split
  · omega
  · split <;> omega
theorem sb_cap_gem (q m : Nat) : m ≤ sb_cap q m := by
  unfold sb_cap
  split
  · omega
  · split <;> omega
theorem sb_cap_le {q m mc ms : Nat} (hm : m ≤ 65536) (hr : sb_Room q m mc ms) : sb_cap q m ≤ 65536 := by
  rcases hr with h | h
  · rw [sb_cap, if_pos h]
    exact hm
  · exact h.2.2
theorem sb_at {P : Int32 → Prop} {x y : Int32} (e : x = y) (h : P y) : P x := e ▸ h
def sb_dg (w : Nat) : Nat := if w < 10 then 1 else if w < 100 then 2 else if w < 1000 then 3 else if w < 10000 then 4 else if w < 100000 then 5 else if w < 1000000 then 6 else if w < 10000000 then 7 else if w < 100000000 then 8 else if w < 1000000000 then 9 else 10
def sb_dec (v : Nat) : Nat → Nat := fun i => 48 + v / 10 ^ (sb_dg v - 1 - i) % 10
theorem sb_dg_in (w : Nat) : 1 ≤ sb_dg w ∧ sb_dg w ≤ 10 := by
  unfold sb_dg
  constructor <;> (repeat' split) <;> omega
theorem sb_dg100 {w : Nat} (h : 100 ≤ w) (hw : w < 2 ^ 31) : sb_dg w = sb_dg (w / 100) + 2 := by
  rw [sb_dg, sb_dg, if_neg (show ¬ w < 10 by omega), if_neg (show ¬ w < 100 by omega)]
  by_cases h3 : w < 1000
  · rw [if_pos h3, if_pos (show w / 100 < 10 by omega)]
  rw [if_neg h3, if_neg (show ¬ w / 100 < 10 by omega)]
  by_cases h4 : w < 10000
  · rw [if_pos h4, if_pos (show w / 100 < 100 by omega)]
  rw [if_neg h4, if_neg (show ¬ w / 100 < 100 by omega)]
  by_cases h5 : w < 100000
  · rw [if_pos h5, if_pos (show w / 100 < 1000 by omega)]
  rw [if_neg h5, if_neg (show ¬ w / 100 < 1000 by omega)]
  by_cases h6 : w < 1000000
  · rw [if_pos h6, if_pos (show w / 100 < 10000 by omega)]
  rw [if_neg h6, if_neg (show ¬ w / 100 < 10000 by omega)]
  by_cases h7 : w < 10000000
  · rw [if_pos h7, if_pos (show w / 100 < 100000 by omega)]
  rw [if_neg h7, if_neg (show ¬ w / 100 < 100000 by omega)]
  by_cases h8 : w < 100000000
  · rw [if_pos h8, if_pos (show w / 100 < 1000000 by omega)]
  rw [if_neg h8, if_neg (show ¬ w / 100 < 1000000 by omega)]
  by_cases h9 : w < 1000000000
  · rw [if_pos h9, if_pos (show w / 100 < 10000000 by omega)]
  rw [if_neg h9, if_neg (show ¬ w / 100 < 10000000 by omega)]
  rw [if_pos (show w / 100 < 100000000 by omega)]
theorem sb_negT {w : Nat} (h : w < 2 ^ 31) : (-nI w).toInt = -(w : Int) := by
  rw [Int32.toInt_neg, nI_toInt h]
  exact Int.bmod_eq_of_le (by omega) (by omega)
theorem sb_nle {a b : Nat} (ha : a < 2 ^ 31) (hb : b < 2 ^ 31) : -nI a ≤ -nI b ↔ b ≤ a := by
  rw [Int32.le_iff_toInt_le, sb_negT ha, sb_negT hb]
  omega
theorem sb_nlt {a b : Nat} (ha : a < 2 ^ 31) (hb : b < 2 ^ 31) : -nI a < -nI b ↔ b < a := by
  rw [Int32.lt_iff_toInt_lt, sb_negT ha, sb_negT hb]
  omega
theorem sb_cmp {A B : Prop} {x : Int32} (v c : Nat) (f : c ≤ v → A) (g : v < c → B) (hv : v < 2 ^ 31) (hx : x = -nI c := by rfl) (hc : c < 2 ^ 31 := by omega) : (-nI v ≤ x → A) ∧ (¬ -nI v ≤ x → B) := by
  subst hx
  rw [sb_nle hv hc]
  exact ⟨f, fun z => g (by omega)⟩
theorem sb_ndiv {w : Nat} (hw : w < 2 ^ 31) : (-nI w) / 100 = -nI (w / 100) := by
  apply Int32.toInt_inj.mp
  have h100 : (100 : Int32).toInt = 100 := by decide
  rw [Int32.toInt_div, sb_negT hw, h100, sb_negT (by omega), Int.neg_tdiv, Int.tdiv_eq_ediv_of_nonneg (by omega), Int.bmod_eq_of_le (by omega) (by omega)]
  omega
theorem sb_nrem {w : Nat} (hw : w < 2 ^ 31) : (-nI (w / 100)) * 100 - (-nI w) = nI (w % 100) := by
  have h := pk_rem (a := w) (d := 100) hw (by decide) (by decide)
  rw [pk_div hw (by decide) (by decide)] at h
  rw [← h]
  show (-nI (w / 100)) * nI 100 - (-nI w) = nI w - nI (w / 100) * nI 100
  rw [Int32.neg_mul, Int32.sub_neg, Int32.add_comm, ← Int32.sub_eq_add_neg]
end
section
/-! rows on bits, shifts and unsigned numbers, to paste: each family out of a closed proof of our own, whole with what it rests on; each by itself clean at Lean in its own claim (generation 39, form 5). Take a family whole -/
/-! ===== Int32 by its bits: bt x i ===== -/
def bt (x : Int32) (i : Nat) : Bool := x.toBitVec.getLsbD i
theorem b_ext {x y : Int32} (h : ∀ i, i < 32 → bt x i = bt y i) : x = y := Int32.toBitVec_inj.mp (BitVec.eq_of_getLsbD_eq (fun i hi => h i hi))
theorem b_or (x y : Int32) (i : Nat) : bt (x ||| y) i = (bt x i || bt y i) := by unfold bt; rw [Int32.toBitVec_or, BitVec.getLsbD_or]
theorem b_and (x y : Int32) (i : Nat) : bt (x &&& y) i = (bt x i && bt y i) := by unfold bt; rw [Int32.toBitVec_and, BitVec.getLsbD_and]
theorem b_xor (x y : Int32) (i : Nat) : bt (x ^^^ y) i = (bt x i ^^ bt y i) := by unfold bt; rw [Int32.toBitVec_xor, BitVec.getLsbD_xor]
theorem b_big {x : Int32} {i : Nat} (h : 32 ≤ i) : bt x i = false := BitVec.getLsbD_of_ge _ _ h
theorem b_255 (i : Nat) : bt 255 i = decide (i < 8) := by
  rcases Nat.lt_or_ge i 32 with h | h
  · exact (by decide +kernel : ∀ i, i < 32 → bt 255 i = decide (i < 8)) i h
  · rw [b_big h, decide_eq_false (by omega)]
theorem b_65535 (i : Nat) : bt 65535 i = decide (i < 16) := by
  rcases Nat.lt_or_ge i 32 with h | h
  · exact (by decide +kernel : ∀ i, i < 32 → bt 65535 i = decide (i < 16)) i h
  · rw [b_big h, decide_eq_false (by omega)]
theorem b_m1 : ∀ i, i < 32 → bt (-1) i = true := by decide +kernel
theorem b_0 (i : Nat) : bt 0 i = false := BitVec.getLsbD_zero
theorem s_l : ∀ n, n < 32 → ((nI n &&& 31).toBitVec.smod 32).toNat = n := by decide +kernel
theorem s_u : ∀ n, n < 32 → (((nI n).toUInt32 &&& Int32.toUInt32 31).toBitVec % 32).toNat = n := by decide +kernel
theorem b_shl (n : Nat) (hn : n < 32) (x : Int32) {i : Nat} (hi : i < 32) : bt (x <<< (nI n &&& 31)) i = (decide (n ≤ i) && bt x (i - n)) := by
  unfold bt
  rw [Int32.toBitVec_shiftLeft]
  show (x.toBitVec <<< ((nI n &&& 31).toBitVec.smod 32).toNat).getLsbD i = _
  rw [s_l n hn, BitVec.getLsbD_shiftLeft]
  rcases Nat.lt_or_ge i n with h | h
  · simp [h, Nat.not_le.mpr h]
  · simp [hi, h, Nat.not_lt.mpr h]
theorem b_ushr (n : Nat) (hn : n < 32) (x : Int32) (i : Nat) : bt ((x.toUInt32 >>> ((nI n).toUInt32 &&& Int32.toUInt32 31)).toInt32) i = bt x (n + i) := by
  show (x.toUInt32 >>> ((nI n).toUInt32 &&& Int32.toUInt32 31)).toBitVec.getLsbD i = x.toUInt32.toBitVec.getLsbD (n + i)
  rw [UInt32.toBitVec_shiftRight]
  show (x.toUInt32.toBitVec >>> (((nI n).toUInt32 &&& Int32.toUInt32 31).toBitVec % 32).toNat).getLsbD i = _
  rw [s_u n hn, BitVec.getLsbD_ushiftRight]
theorem b_sshr (n : Nat) (hn : n < 32) (x : Int32) {i : Nat} (hi : i < 32) : bt (x >>> (nI n &&& 31)) i = if n + i < 32 then bt x (n + i) else bt x 31 := by
  unfold bt
  rw [Int32.toBitVec_shiftRight]
  show (x.toBitVec.sshiftRight ((nI n &&& 31).toBitVec.smod 32).toNat).getLsbD i = _
  rw [s_l n hn, BitVec.getLsbD_sshiftRight, BitVec.msb_eq_getLsbD_last]
  simp [hi]
theorem b_shl8 (x : Int32) {i : Nat} (hi : i < 32) : bt (x <<< ((8 : Int32) &&& 31)) i = (decide (8 ≤ i) && bt x (i - 8)) := b_shl 8 (by omega) x hi
theorem b_shl16 (x : Int32) {i : Nat} (hi : i < 32) : bt (x <<< ((16 : Int32) &&& 31)) i = (decide (16 ≤ i) && bt x (i - 16)) := b_shl 16 (by omega) x hi
theorem b_shl24 (x : Int32) {i : Nat} (hi : i < 32) : bt (x <<< ((24 : Int32) &&& 31)) i = (decide (24 ≤ i) && bt x (i - 24)) := b_shl 24 (by omega) x hi
theorem b_sshr8 (x : Int32) {i : Nat} (hi : i < 32) : bt (x >>> ((8 : Int32) &&& 31)) i = if 8 + i < 32 then bt x (8 + i) else bt x 31 := b_sshr 8 (by omega) x hi
/-! ===== nI under and, xor, >>>, one bit, 65535 ===== -/
theorem nx_and (a b : Nat) : nI a &&& nI b = nI (a &&& b) := by
  apply Int32.toBitVec_inj.1
  show BitVec.ofNat 32 a &&& BitVec.ofNat 32 b = BitVec.ofNat 32 (a &&& b)
  apply BitVec.eq_of_getLsbD_eq
  intro i hi
  simp [hi]
theorem nx_xor (a b : Nat) : nI a ^^^ nI b = nI (a ^^^ b) := by
  apply Int32.toBitVec_inj.1
  show BitVec.ofNat 32 a ^^^ BitVec.ofNat 32 b = BitVec.ofNat 32 (a ^^^ b)
  apply BitVec.eq_of_getLsbD_eq
  intro i hi
  simp [hi]
theorem nx_cnt : ∀ j : Fin 32, (UInt32.ofNat j.val &&& Int32.toUInt32 31).toNat % 32 = j.val := by decide +kernel
theorem nx_ush {k j : Nat} (hk : k < 65536) (hj : j < 32) : ((nI k).toUInt32 >>> ((nI j).toUInt32 &&& Int32.toUInt32 31)).toInt32 = nI (k >>> j) := by
  have hs : k >>> j ≤ k := by
    rw [Nat.shiftRight_eq_div_pow]
    exact Nat.div_le_self _ _
  have e2 : UInt32.ofNat k >>> (UInt32.ofNat j &&& Int32.toUInt32 31) = UInt32.ofNat (k >>> j) := by
    apply UInt32.toNat_inj.1
    have h1 : (UInt32.ofNat k).toNat = k := Nat.mod_eq_of_lt (by omega)
    have h2 : (UInt32.ofNat (k >>> j)).toNat = k >>> j := Nat.mod_eq_of_lt (by omega)
    rw [UInt32.toNat_shiftRight, nx_cnt ⟨j, hj⟩, h1, h2]
  show (UInt32.ofNat k >>> (UInt32.ofNat j &&& Int32.toUInt32 31)).toInt32 = _
  rw [e2]
  rfl
theorem nx_bit {k j : Nat} (hk : k < 65536) (hj : j < 16) : (((nI k).toUInt32 >>> ((nI j).toUInt32 &&& Int32.toUInt32 31)).toInt32 &&& 1) = 0 ↔ k.testBit j = false := by
  rw [nx_ush hk (by omega)]
  show nI (k >>> j) &&& nI 1 = 0 ↔ _
  rw [nx_and, Nat.and_one_is_mod, ← nI_0, nI_eq (by omega) (by omega), Nat.testBit_eq_decide_div_mod_eq, Nat.shiftRight_eq_div_pow, decide_eq_false_iff_not]
  generalize k / 2 ^ j = z
  omega
theorem nx_mod (k : Nat) : nI k &&& 65535 = nI (k % 65536) := by
  show nI k &&& nI 65535 = _
  rw [nx_and, show (65535 : Nat) = 2 ^ 16 - 1 from rfl, Nat.and_two_pow_sub_one_eq_mod]
theorem nx_m16 {k : Nat} (h : k < 65536) : nI k &&& 65535 = nI k := by rw [nx_mod, Nat.mod_eq_of_lt h]
theorem nx_mask (x : Int32) : ∃ k, k < 65536 ∧ x &&& 65535 = nI k := by
  have e : x = nI x.toBitVec.toNat := by
    apply Int32.toBitVec_inj.1
    show x.toBitVec = BitVec.ofNat 32 x.toBitVec.toNat
    simp
  refine ⟨x.toBitVec.toNat % 65536, Nat.mod_lt _ (by omega), ?_⟩
  rw [← nx_mod, ← e]
/-! ===== Int32 as a set of bits: test, set ===== -/
def nf_M (m : Int32) : Nat := 4294967296 - m.toBitVec.toNat
theorem nf_sh : ∀ l, l < 32 → ((1 : Int32) <<< (nI l &&& 31)).toBitVec = BitVec.twoPow 32 l := by decide +kernel
theorem nf_sl : ∀ l, l < 32 → (((nI l).toUInt32 &&& Int32.toUInt32 31).toBitVec % 32).toNat = l := by decide +kernel
theorem nf_tp : ∀ l, l < 32 → BitVec.twoPow 32 l ≠ 0#32 := by decide +kernel
theorem nf_bit (m : Int32) (l : Nat) (hl : l < 32) : ((m.toUInt32 >>> ((nI l).toUInt32 &&& Int32.toUInt32 31)).toInt32 &&& 1) = 0 ↔ (m &&& ((1 : Int32) <<< (nI l &&& 31))) = 0 := by
  have e : ((m.toUInt32 >>> ((nI l).toUInt32 &&& Int32.toUInt32 31)).toInt32).toBitVec = m.toBitVec >>> l := by
    show m.toBitVec >>> (((nI l).toUInt32 &&& Int32.toUInt32 31).toBitVec % 32) = m.toBitVec >>> l
    rw [BitVec.ushiftRight_eq', nf_sl l hl]
  rw [← Int32.toBitVec_inj, ← Int32.toBitVec_inj, Int32.toBitVec_and, Int32.toBitVec_and, nf_sh l hl, e, BitVec.and_twoPow]
  show (m.toBitVec >>> l &&& 1#32) = 0#32 ↔ _ = 0#32
  rw [BitVec.and_one_eq_setWidth_ofBool_getLsbD, BitVec.getLsbD_ushiftRight, Nat.add_zero]
  cases hb : m.toBitVec.getLsbD l
  · exact ⟨fun _ => by simp, fun _ => by decide⟩
  · exact ⟨fun z => absurd z (by decide), fun z => absurd ((if_pos rfl).symm.trans z) (nf_tp l hl)⟩
theorem nf_gr (m k : Int32) (h : m &&& k = 0) (hk : k ≠ 0) : nf_M (m ||| k) < nf_M m := by
  have hm := m.toBitVec.isLt
  have hm' := (m ||| k).toBitVec.isLt
  have h1 : m.toBitVec.toNat ≤ (m ||| k).toBitVec.toNat := by
    rw [Int32.toBitVec_or, BitVec.toNat_or]
    exact Nat.left_le_or
  have h2 : m.toBitVec.toNat ≠ (m ||| k).toBitVec.toNat := by
    intro e
    have e2 : m = m ||| k := Int32.toBitVec_inj.mp (BitVec.eq_of_toNat_eq e)
    apply hk
    apply Int32.toBitVec_inj.mp
    show k.toBitVec = 0#32
    apply BitVec.eq_of_getLsbD_eq
    intro i hi
    have a : m.toBitVec.getLsbD i = (m.toBitVec.getLsbD i || k.toBitVec.getLsbD i) := by rw [← BitVec.getLsbD_or, ← Int32.toBitVec_or, ← e2]
    have b : (m.toBitVec.getLsbD i && k.toBitVec.getLsbD i) = false := by
      rw [← BitVec.getLsbD_and, ← Int32.toBitVec_and, h]
      exact BitVec.getLsbD_zero
    rw [BitVec.getLsbD_zero]
    revert a b
    cases m.toBitVec.getLsbD i <;> cases k.toBitVec.getLsbD i <;> simp
  unfold nf_M
  omega
/-! ===== a byte read unsigned ===== -/
theorem bp_b (x : Int32) : x.toInt8.toInt32 &&& 255 = x &&& 255 := by
  apply Int32.toBitVec_inj.mp
  rw [Int32.toBitVec_and, Int32.toBitVec_and, Int8.toBitVec_toInt32, Int32.toBitVec_toInt8]
  apply BitVec.eq_of_getLsbD_eq
  intro i hi
  rw [BitVec.getLsbD_and, BitVec.getLsbD_and]
  have hm : ∀ i < 32, 8 ≤ i → (255 : Int32).toBitVec.getLsbD i = false := by decide
  rcases Nat.lt_or_ge i 8 with z | z
  · rw [BitVec.getLsbD_signExtend, BitVec.getLsbD_signExtend, if_pos z, if_pos hi]
    simp only [z, hi, decide_true, Bool.true_and]
  · rw [hm i hi z]; simp
/-! ===== the char cast and 65535 ===== -/
theorem em_w (v : Int32) : ∃ w : Nat, w < 65536 ∧ (v.toUInt32 % 65536).toInt32 = nI w ∧ v &&& 65535 = nI w := by
  have hr := lw_u16_r v
  have h0 : (0 : Int32).toInt = 0 := by decide
  obtain ⟨w, h1, h2⟩ := nI_of (x := lw_u16 v) (by rw [Int32.lt_iff_toInt_lt]; omega)
  have h3 : (v.toUInt32 % 65536).toInt32 = nI w := h2
  rw [h2, nI_toInt h1] at hr
  exact ⟨w, by omega, h3, by rw [← lg_i2c_mask, ← lg_i2c_nf, h3]⟩
/-! ===== Int64 as a set of bits: test, set, clear ===== -/
theorem ts_nf {x : Bool} (h : ¬ x = false) : x = true := by cases x <;> first | rfl | exact absurd rfl h
theorem ts_nt {x : Bool} (h : ¬ x = true) : x = false := by cases x <;> first | rfl | exact absurd rfl h
theorem ts_bit {w : Int64} {s : UInt64} {j : Nat} (hj : j < 64) (hs : s.toNat = j) : ((w.toUInt64 >>> s).toInt64 &&& 1) = 0 ↔ w.toBitVec.getLsbD j = false := by
  have e : (w.toUInt64 >>> s).toInt64.toBitVec = w.toBitVec >>> j := by
    apply BitVec.eq_of_toNat_eq
    show (w.toUInt64 >>> s).toNat = _
    rw [UInt64.toNat_shiftRight, hs, Nat.mod_eq_of_lt hj, BitVec.toNat_ushiftRight]
    rfl
  rw [← Int64.toBitVec_inj, Int64.toBitVec_and, e]
  show w.toBitVec >>> j &&& 1#64 = 0#64 ↔ _
  constructor
  · intro h
    have t := congrArg (fun x => x.getLsbD 0) h
    simpa using t
  · intro h
    apply BitVec.eq_of_getLsbD_eq
    intro i hi
    cases i with
    | zero => simp [h]
    | succ i => simp
theorem ts_or {w m : Int64} {j : Nat} (hj : j < 64) (hm : m.toBitVec = BitVec.twoPow 64 j) : (w ||| m) = w ↔ w.toBitVec.getLsbD j = true := by
  rw [← Int64.toBitVec_inj, Int64.toBitVec_or, hm]
  constructor
  · intro h
    have t := congrArg (fun x => x.getLsbD j) h
    simp only [BitVec.getLsbD_or, BitVec.getLsbD_twoPow] at t
    simpa [hj] using t.symm
  · intro h
    apply BitVec.eq_of_getLsbD_eq
    intro i hi
    rw [BitVec.getLsbD_or, BitVec.getLsbD_twoPow]
    by_cases e : j = i
    · subst e; rw [h, Bool.true_or]
    · simp [e]
theorem ts_and {w m : Int64} {j : Nat} (hj : j < 64) (hm : m.toBitVec = BitVec.twoPow 64 j) : (w &&& (m ^^^ (-1))) = w ↔ w.toBitVec.getLsbD j = false := by
  have ha : (-1 : Int64).toBitVec = BitVec.allOnes 64 := by decide
  rw [← Int64.toBitVec_inj, Int64.toBitVec_and, Int64.toBitVec_xor, hm, ha]
  constructor
  · intro h
    have t := congrArg (fun x => x.getLsbD j) h
    simp only [BitVec.getLsbD_and, BitVec.getLsbD_xor, BitVec.getLsbD_twoPow, BitVec.getLsbD_allOnes] at t
    simpa [hj] using t.symm
  · intro h
    apply BitVec.eq_of_getLsbD_eq
    intro i hi
    rw [BitVec.getLsbD_and, BitVec.getLsbD_xor, BitVec.getLsbD_twoPow, BitVec.getLsbD_allOnes]
    by_cases e : j = i
    · subst e; rw [h, Bool.false_and]
    · simp [e, hi]
/-! ===== lN n to 2^64: shifts, and, or, masks, one bit ===== -/
theorem wb_tb (n : Nat) : (lN n).toBitVec = BitVec.ofNat 64 n := rfl
theorem wb_inj {a b : Int64} (h : a.toBitVec = b.toBitVec) : a = b := Int64.toBitVec_inj.mp h
theorem wb_tn {n : Nat} (h : n < 2 ^ 64) : (lN n).toBitVec.toNat = n := by rw [wb_tb, BitVec.toNat_ofNat, Nat.mod_eq_of_lt h]
theorem wb_of (x : Int64) : ∃ n, n < 2 ^ 64 ∧ x = lN n := ⟨x.toBitVec.toNat, x.toBitVec.isLt, wb_inj (by rw [wb_tb]; simp)⟩
theorem wb_of32 (x : Int32) : ∃ n, n < 2 ^ 32 ∧ x = nI n := ⟨x.toBitVec.toNat, x.toBitVec.isLt, Int32.toBitVec_inj.mp (by show _ = BitVec.ofNat 32 _; simp)⟩
theorem wb_c : ∀ k, k < 64 → ((nI k).toInt64 &&& 63) = lN k := by decide +kernel
theorem wb_cu : ∀ k, k < 64 → ((nI k).toInt64.toUInt64 &&& Int64.toUInt64 63) = UInt64.ofNat k := by decide +kernel
theorem wb_sm : ∀ k, k < 64 → (BitVec.ofNat 64 k).smod 64 = BitVec.ofNat 64 k := by decide +kernel
theorem wb_pw {a b : Nat} (h : a ≤ b) : 2 ^ b = 2 ^ a * 2 ^ (b - a) := by rw [← Nat.pow_add]; congr 1; omega
theorem wb_lt2 {a b : Nat} (h : a < b) : 2 ^ a < 2 ^ b := Nat.pow_lt_pow_right (by decide) h
theorem wb_mod (n : Nat) : lN n = lN (n % 2 ^ 64) := wb_inj (by rw [wb_tb, wb_tb]; apply BitVec.eq_of_toNat_eq; rw [BitVec.toNat_ofNat, BitVec.toNat_ofNat, Nat.mod_mod])
theorem wb_shr {n k : Nat} (hn : n < 2 ^ 64) (hk : k < 64) : ((lN n).toUInt64 >>> ((nI k).toInt64.toUInt64 &&& Int64.toUInt64 63)).toInt64 = lN (n / 2 ^ k) := by
  rw [wb_cu k hk]
  apply wb_inj
  apply BitVec.eq_of_toNat_eq
  show ((lN n).toUInt64 >>> UInt64.ofNat k).toNat = (BitVec.ofNat 64 _).toNat
  have h1 : (UInt64.ofNat k).toNat = k := by
    show (BitVec.ofNat 64 k).toNat = k
    rw [BitVec.toNat_ofNat, Nat.mod_eq_of_lt (by omega)]
  have h2 : (lN n).toUInt64.toNat = n := wb_tn hn
  rw [UInt64.toNat_shiftRight, h1, h2, Nat.mod_eq_of_lt hk, Nat.shiftRight_eq_div_pow, BitVec.toNat_ofNat, Nat.mod_eq_of_lt (Nat.lt_of_le_of_lt (Nat.div_le_self _ _) hn)]
theorem wb_shl (n : Nat) {k : Nat} (hk : k < 64) : lN n <<< ((nI k).toInt64 &&& 63) = lN (n * 2 ^ k) := by
  rw [wb_c k hk]
  apply wb_inj
  rw [Int64.toBitVec_shiftLeft, wb_tb, wb_tb, wb_tb, wb_sm k hk]
  apply BitVec.eq_of_toNat_eq
  rw [BitVec.shiftLeft_eq', BitVec.toNat_shiftLeft, BitVec.toNat_ofNat, BitVec.toNat_ofNat, BitVec.toNat_ofNat, Nat.mod_eq_of_lt (show k < 2 ^ 64 by omega), Nat.shiftLeft_eq, Nat.mul_mod, Nat.mod_mod, ← Nat.mul_mod]
theorem wb_and {a b : Nat} (ha : a < 2 ^ 64) (hb : b < 2 ^ 64) : lN a &&& lN b = lN (a &&& b) := by
  apply wb_inj
  rw [Int64.toBitVec_and, wb_tb, wb_tb, wb_tb]
  apply BitVec.eq_of_toNat_eq
  rw [BitVec.toNat_and, BitVec.toNat_ofNat, BitVec.toNat_ofNat, BitVec.toNat_ofNat, Nat.mod_eq_of_lt ha, Nat.mod_eq_of_lt hb, Nat.mod_eq_of_lt (Nat.and_lt_two_pow _ hb)]
theorem wb_or {a b : Nat} (ha : a < 2 ^ 64) (hb : b < 2 ^ 64) : lN a ||| lN b = lN (a ||| b) := by
  apply wb_inj
  rw [Int64.toBitVec_or, wb_tb, wb_tb, wb_tb]
  apply BitVec.eq_of_toNat_eq
  rw [BitVec.toNat_or, BitVec.toNat_ofNat, BitVec.toNat_ofNat, BitVec.toNat_ofNat, Nat.mod_eq_of_lt ha, Nat.mod_eq_of_lt hb, Nat.mod_eq_of_lt (Nat.or_lt_two_pow ha hb)]
theorem wb_mask {n k : Nat} (hn : n < 2 ^ 64) (hk : k < 64) : lN n &&& lN (2 ^ k - 1) = lN (n % 2 ^ k) := by
  rw [wb_and hn (by have := wb_lt2 hk; omega), Nat.and_two_pow_sub_one_eq_mod]
theorem wb_a1 {n : Nat} (hn : n < 2 ^ 64) : lN n &&& 1 = lN (n % 2) := wb_mask (k := 1) hn (by decide)
theorem wb_bit {n k : Nat} (hn : n < 2 ^ 64) (hk : k < 64) : ((lN n).toUInt64 >>> ((nI k).toInt64.toUInt64 &&& Int64.toUInt64 63)).toInt64 &&& 1 = lN (n / 2 ^ k % 2) := by
  rw [wb_shr hn hk, wb_a1 (Nat.lt_of_le_of_lt (Nat.div_le_self _ _) hn)]
theorem wb_xor {q k : Nat} (hk : k < 63) (h : 2 ^ k ≤ q) (h2 : q < 2 ^ (k + 1)) : lN q ^^^ lN (2 ^ k) = lN (q - 2 ^ k) := by
  obtain ⟨r, rfl⟩ : ∃ r, q = 2 ^ k + r := ⟨q - 2 ^ k, by omega⟩
  have hr : r < 2 ^ k := by rw [Nat.pow_succ] at h2; omega
  have hx : (2 ^ k + r) ^^^ 2 ^ k = r := by
    apply Nat.eq_of_testBit_eq
    intro i
    rw [Nat.testBit_xor, Nat.testBit_two_pow]
    rcases Nat.lt_trichotomy i k with h | h | h
    · rw [Nat.testBit_two_pow_add_gt h]
      simp [show ¬ k = i by omega]
    · subst h
      rw [Nat.testBit_two_pow_add_eq]
      simp
    · have a1 : 2 ^ (k + 1) ≤ 2 ^ i := Nat.pow_le_pow_right (by decide) h
      rw [Nat.testBit_lt_two_pow (show 2 ^ k + r < 2 ^ i by omega), Nat.testBit_lt_two_pow (show r < 2 ^ i by omega)]
      simp [show ¬ k = i by omega]
  have b1 := wb_lt2 (show k + 1 < 64 by omega)
  have b2 := wb_lt2 (show k < 64 by omega)
  apply wb_inj
  rw [Int64.toBitVec_xor, wb_tb, wb_tb, wb_tb]
  apply BitVec.eq_of_toNat_eq
  rw [BitVec.toNat_xor, BitVec.toNat_ofNat, BitVec.toNat_ofNat, BitVec.toNat_ofNat, Nat.mod_eq_of_lt (by omega : 2 ^ k + r < 2 ^ 64), Nat.mod_eq_of_lt b2, hx, Nat.add_sub_cancel_left, Nat.mod_eq_of_lt (by omega)]
/-! ===== lN: masks, 'or' of parts that don't overlap is a sum ===== -/
theorem u_tn {n : Nat} (h : n < 2 ^ 64) : (UInt64.ofNat n).toNat = n := Nat.mod_eq_of_lt h
theorem g_and {a b c : Nat} (ha : a < 2 ^ 64) (hb : b < 2 ^ 64) (hc : a &&& b = c) : lN a &&& lN b = lN c := by
  subst hc
  have h : UInt64.ofNat a &&& UInt64.ofNat b = UInt64.ofNat (a &&& b) := UInt64.toNat_inj.mp (by rw [UInt64.toNat_and, u_tn ha, u_tn hb, u_tn (Nat.and_lt_two_pow a hb)])
  have h2 := congrArg UInt64.toInt64 h
  exact h2
theorem g_and1 {a : Nat} (ha : a < 2 ^ 64) : lN a &&& 1 = lN (a % 2) := g_and (b := 1) ha (by decide) (Nat.and_two_pow_sub_one_eq_mod a 1)
theorem g_mask {a s p : Nat} (hp : 2 ^ s = p) (hs : s < 64) (ha : a < 2 ^ 64) : lN a &&& lN (p - 1) = lN (a % p) := by
  subst hp
  have := Nat.pow_lt_pow_right (show 1 < 2 by decide) hs
  exact g_and ha (by omega) (Nat.and_two_pow_sub_one_eq_mod a s)
theorem g_or {k p a b : Nat} (hp : 2 ^ k = p) (ha : a < p) (h : b * p + a < 2 ^ 64) : lN (b * p) ||| lN a = lN (b * p + a) := by
  subst hp
  have h1 : b * 2 ^ k ||| a = b * 2 ^ k + a := by rw [← Nat.shiftLeft_eq, Nat.shiftLeft_add_eq_or_of_lt ha]
  have h3 : UInt64.ofNat (b * 2 ^ k) ||| UInt64.ofNat a = UInt64.ofNat (b * 2 ^ k + a) := UInt64.toNat_inj.mp (by rw [UInt64.toNat_or, u_tn (by omega), u_tn (by omega), u_tn h, h1])
  have h2 := congrArg UInt64.toInt64 h3
  exact h2
theorem g_or' {k p a b : Nat} (hp : 2 ^ k = p) (ha : a < p) (h : a + b * p < 2 ^ 64) : lN a ||| lN (b * p) = lN (a + b * p) := by
  rw [Int64.or_comm, g_or hp ha (by omega), Nat.add_comm]
theorem g_ushr {a k p : Nat} {y : UInt64} (hy : y = UInt64.ofNat k) (hk : k < 64) (hp : 2 ^ k = p) (ha : a < 2 ^ 64) : ((lN a).toUInt64 >>> y).toInt64 = lN (a / p) := by
  subst hy hp
  have h : UInt64.ofNat a >>> UInt64.ofNat k = UInt64.ofNat (a / 2 ^ k) := UInt64.toNat_inj.mp (by rw [UInt64.toNat_shiftRight, u_tn ha, u_tn (by omega), u_tn (Nat.lt_of_le_of_lt (Nat.div_le_self _ _) ha), Nat.mod_eq_of_lt hk, Nat.shiftRight_eq_div_pow])
  have h2 := congrArg UInt64.toInt64 h
  exact h2
theorem g_shl {a k p : Nat} {y : Int64} (hy : y.toBitVec.smod 64 = BitVec.ofNat 64 k) (hk : k < 64) (hp : 2 ^ k = p) (ha : a < 2 ^ 64) : lN a <<< y = lN (a * p) := by
  subst hp
  apply Int64.toBitVec_inj.mp
  rw [Int64.toBitVec_shiftLeft, hy]
  apply BitVec.eq_of_toNat_eq
  have hb : (lN a).toBitVec.toNat = a := Nat.mod_eq_of_lt ha
  have hk' : (BitVec.ofNat 64 k).toNat = k := Nat.mod_eq_of_lt (by omega)
  have h : ((lN a).toBitVec <<< BitVec.ofNat 64 k).toNat = (a * 2 ^ k) % 2 ^ 64 := by simp only [BitVec.shiftLeft_eq', BitVec.toNat_shiftLeft, hb, hk', Nat.shiftLeft_eq]
  exact h
/-! ===== lN to 2^62 under >> and >>> ===== -/
theorem pf_lI {a : Nat} (h : a < 2 ^ 63) : (lN a).toInt = (a : Int) := lg_ofNat_toInt h
theorem pf_shr {a d : Nat} {D : Int64} (hD : (D.toBitVec.smod 64).toNat = d) (h : a < 2 ^ 62) : lN a >>> D = lN (a / 2 ^ d) := by
  have hd : a / 2 ^ d ≤ a := Nat.div_le_self _ _
  apply Int64.toInt_inj.mp
  have e : (lN a >>> D).toInt = (lN a).toInt >>> d := by
    rw [← hD]
    exact BitVec.toInt_sshiftRight ..
  rw [e, Int.shiftRight_eq_div_pow, pf_lI (by omega), pf_lI (by omega)]
  rfl
theorem pf_ushr {a d : Nat} {D : UInt64} (hD : D.toNat % 64 = d) (h : a < 2 ^ 62) : ((lN a).toUInt64 >>> D).toInt64 = lN (a / 2 ^ d) := by
  have hd : a / 2 ^ d ≤ a := Nat.div_le_self _ _
  have e : (lN a).toUInt64 >>> D = UInt64.ofNat (a / 2 ^ d) := UInt64.toNat_inj.mp (by
    rw [UInt64.toNat_shiftRight, hD, Nat.shiftRight_eq_div_pow, UInt64.toNat_ofNat']
    show (UInt64.ofNat a).toNat / 2 ^ d = _
    rw [UInt64.toNat_ofNat', Nat.mod_eq_of_lt (by omega), Nat.mod_eq_of_lt (by omega)])
  rw [e]
  rfl
theorem pf_andw (x : Int64) : ∃ m, m < 2 ^ 32 ∧ x &&& 4294967295 = lN m := ⟨x.toBitVec.toNat % 2 ^ 32, Nat.mod_lt _ (by decide), Int64.toBitVec_inj.mp (BitVec.eq_of_toNat_eq (by
  show (x.toBitVec &&& 4294967295#64).toNat = (BitVec.ofNat 64 (x.toBitVec.toNat % 2 ^ 32)).toNat
  rw [BitVec.toNat_and, show (4294967295#64).toNat = 2 ^ 32 - 1 from by decide, Nat.and_two_pow_sub_one_eq_mod, BitVec.toNat_ofNat]
  omega))⟩
/-! ===== Int64 as an unsigned number: uN x ===== -/
def uN (x : Int64) : Nat := x.toUInt64.toNat
theorem uN_lt (x : Int64) : uN x < 18446744073709551616 := x.toUInt64.toNat_lt
theorem uN_inj {x y : Int64} (h : uN x = uN y) : x = y := congrArg UInt64.toInt64 (UInt64.toNat_inj.mp h)
theorem uN_add (x y : Int64) : uN (x + y) = (uN x + uN y) % 18446744073709551616 := by
  show (x.toUInt64 + y.toUInt64).toNat = _
  exact UInt64.toNat_add _ _
theorem uN_mul (x y : Int64) : uN (x * y) = (uN x * uN y) % 18446744073709551616 := by
  show (x.toUInt64 * y.toUInt64).toNat = _
  exact UInt64.toNat_mul _ _
theorem uN_shl (x : Int64) : uN (x <<< ((1 : Int32).toInt64 &&& 63)) = (2 * uN x) % 18446744073709551616 := by
  have h : (((1 : Int32).toInt64 &&& 63).toBitVec.smod 64).toNat = 1 := by decide
  show (x.toBitVec <<< (((1 : Int32).toInt64 &&& 63).toBitVec.smod 64).toNat).toNat = _
  rw [h, BitVec.toNat_shiftLeft, Nat.shiftLeft_eq, Nat.mul_comm]
  rfl
theorem uN_shr (x : Int64) (s : UInt64) : uN (x.toUInt64 >>> s).toInt64 = uN x / 2 ^ (s.toNat % 64) := by
  show (x.toUInt64 >>> s).toNat = _
  rw [UInt64.toNat_shiftRight, Nat.shiftRight_eq_div_pow]
  rfl
theorem uN_s32 (x : Int64) : uN (x.toUInt64 >>> ((32 : Int32).toInt64.toUInt64 &&& Int64.toUInt64 63)).toInt64 = uN x / 4294967296 := by
  have h : ((32 : Int32).toInt64.toUInt64 &&& Int64.toUInt64 63).toNat % 64 = 32 := by decide
  rw [uN_shr, h]
theorem uN_s63 (x : Int64) : uN (x.toUInt64 >>> ((63 : Int32).toInt64.toUInt64 &&& Int64.toUInt64 63)).toInt64 = uN x / 9223372036854775808 := by
  have h : ((63 : Int32).toInt64.toUInt64 &&& Int64.toUInt64 63).toNat % 64 = 63 := by decide
  rw [uN_shr, h]
theorem uN_lo (x : Int64) : uN (x &&& 4294967295) = uN x % 4294967296 := by
  show (x.toUInt64 &&& Int64.toUInt64 4294967295).toNat = _
  rw [UInt64.toNat_and]
  exact Nat.and_two_pow_sub_one_eq_mod _ 32
theorem uN_bit (x : Int64) : (x &&& 1) = 0 ↔ uN x % 2 = 0 := by
  have h : uN (x &&& 1) = uN x % 2 := by
    show (x.toUInt64 &&& Int64.toUInt64 1).toNat = _
    rw [UInt64.toNat_and]
    exact Nat.and_two_pow_sub_one_eq_mod _ 1
  rw [← h]
  exact ⟨fun z => by rw [z]; rfl, fun z => uN_inj (z.trans rfl)⟩
theorem uN_or {x y : Int64} (hy : uN y < 2) : uN ((x <<< ((1 : Int32).toInt64 &&& 63)) ||| y) = (2 * uN x) % 18446744073709551616 + uN y := by
  have h1 : uN ((x <<< ((1 : Int32).toInt64 &&& 63)) ||| y) = uN (x <<< ((1 : Int32).toInt64 &&& 63)) ||| uN y := UInt64.toNat_or _ _
  have h2 : (2 * uN x) % 18446744073709551616 = 2 ^ 1 * (uN x % 9223372036854775808) := by omega
  rw [h1, uN_shl, h2]
  exact (Nat.two_pow_add_eq_or_of_lt (i := 1) hy _).symm
theorem nat_xor {a : Nat} (h : a < 18446744073709551616) : a ^^^ 2 ^ 63 = (a + 9223372036854775808) % 18446744073709551616 := by
  have h1 : (a ^^^ 2 ^ 63) % 2 ^ 63 = a % 2 ^ 63 := by rw [Nat.xor_mod_two_pow, Nat.mod_self, Nat.xor_zero]
  have h2 : (a ^^^ 2 ^ 63) / 2 ^ 63 = (a / 2 ^ 63) ^^^ 1 := by rw [Nat.xor_div_two_pow, Nat.div_self (Nat.two_pow_pos 63)]
  have h3 : a / 2 ^ 63 = 0 ∨ a / 2 ^ 63 = 1 := by omega
  generalize a ^^^ 2 ^ 63 = t at h1 h2
  rcases h3 with h3 | h3
  · rw [h3] at h2
    have h2 : t / 2 ^ 63 = 1 := h2
    omega
  · rw [h3] at h2
    have h2 : t / 2 ^ 63 = 0 := h2
    omega
theorem uN_xor (x : Int64) : uN (x ^^^ (-9223372036854775808)) = (uN x + 9223372036854775808) % 18446744073709551616 := by
  rw [← nat_xor (uN_lt x)]
  exact UInt64.toNat_xor _ _
theorem uN_int (x : Int64) : x.toInt = if 2 * uN x < 18446744073709551616 then (uN x : Int) else (uN x : Int) - 18446744073709551616 := BitVec.toInt_eq_toNat_cond _
theorem uN_le (x y : Int64) : (x ^^^ (-9223372036854775808)) ≤ (y ^^^ (-9223372036854775808)) ↔ uN x ≤ uN y := by
  have hx := uN_lt x
  have hy := uN_lt y
  rw [Int64.le_iff_toInt_le, uN_int, uN_int, uN_xor, uN_xor]
  omega
theorem uN_sk (x : Int64) {k : Nat} (hk : k < 64) : uN (x.toUInt64 >>> ((nI k).toInt64.toUInt64 &&& Int64.toUInt64 63)).toInt64 = uN x / 2 ^ k := by
  have h : ((nI k).toInt64.toUInt64 &&& Int64.toUInt64 63).toNat % 64 = k := by
    rw [nI_l (by omega), UInt64.toNat_and]
    have e : (lN k).toUInt64.toNat = k % 2 ^ 64 := rfl
    have e2 : (Int64.toUInt64 63).toNat = 2 ^ 6 - 1 := by decide
    rw [e, e2, Nat.and_two_pow_sub_one_eq_mod]
    omega
  rw [uN_shr, h]
/-! ===== unsigned comparison by xor with the least ===== -/
theorem lN_bv (n : Nat) : (lN n).toBitVec = BitVec.ofNat 64 n := rfl
theorem lN_nat {n : Nat} (h : n < 2 ^ 64) : (lN n).toBitVec.toNat = n := by rw [lN_bv, BitVec.toNat_ofNat]; exact Nat.mod_eq_of_lt h
theorem lN_xor (a b : Nat) : lN a ^^^ lN b = lN (a ^^^ b) := by
  apply Int64.toBitVec_inj.mp; rw [Int64.toBitVec_xor, lN_bv, lN_bv, lN_bv]; apply BitVec.eq_of_getLsbD_eq; intro i hi; simp [BitVec.getLsbD_ofNat, Nat.testBit_xor, hi]
theorem lN_ti {m : Nat} (h : m < 2 ^ 64) : (lN m).toInt = if m < 2 ^ 63 then (m : Int) else (m : Int) - 2 ^ 64 := by
  have c := BitVec.toInt_eq_toNat_cond (lN m).toBitVec
  rw [lN_nat h] at c
  show (lN m).toBitVec.toInt = _
  rw [c]
  split <;> split <;> omega
theorem xor63 {x : Nat} (h : x < 2 ^ 63) : x ^^^ 2 ^ 63 = 2 ^ 63 + x := by
  apply Nat.eq_of_testBit_eq
  intro i
  rw [Nat.testBit_xor, Nat.testBit_two_pow]
  rcases Nat.lt_trichotomy i 63 with z | z | z
  · rw [Nat.testBit_two_pow_add_gt z, decide_eq_false (by omega)]; simp
  · subst z; rw [Nat.testBit_two_pow_add_eq]; simp
  · have hp : 2 ^ 64 ≤ 2 ^ i := Nat.pow_le_pow_right (by decide) z
    rw [Nat.testBit_lt_two_pow (show x < 2 ^ i by omega), Nat.testBit_lt_two_pow (show 2 ^ 63 + x < 2 ^ i by omega), decide_eq_false (by omega)]; rfl
theorem xorS {a : Nat} (h : a < 2 ^ 64) : (lN a ^^^ (-9223372036854775808)).toInt = (a : Int) - 2 ^ 63 := by
  rw [show (-9223372036854775808 : Int64) = lN (2 ^ 63) from by decide +kernel, lN_xor]
  rcases Nat.lt_or_ge a (2 ^ 63) with z | z
  · rw [xor63 z, lN_ti (by omega), if_neg (by omega)]; omega
  · obtain ⟨x, rfl⟩ : ∃ x, a = 2 ^ 63 + x := ⟨a - 2 ^ 63, by omega⟩
    rw [← xor63 (by omega), Nat.xor_assoc, Nat.xor_self, Nat.xor_zero, lN_ti (by omega), if_pos (by omega), xor63 (by omega)]; omega
theorem ultL {a b : Nat} (ha : a < 2 ^ 64) (hb : b < 2 ^ 64) : ((lN b ^^^ (-9223372036854775808)) ≤ (lN a ^^^ (-9223372036854775808))) ↔ b ≤ a := by
  rw [Int64.le_iff_toInt_le, xorS ha, xorS hb]; omega
/-! ===== Int64 masks of n low bits ===== -/
theorem cr_bits (W U M : BitVec 64) : ((W &&& U) &&& (U &&& (M ^^^ BitVec.allOnes 64))) = 0#64 ↔ (W &&& U) &&& M = W &&& U := by
  constructor
  · intro h
    apply BitVec.eq_of_getLsbD_eq
    intro i hi
    have e := congrArg (fun x => BitVec.getLsbD x i) h
    simp only [BitVec.getLsbD_and, BitVec.getLsbD_xor, BitVec.getLsbD_allOnes, BitVec.getLsbD_zero, hi, decide_true] at e ⊢
    revert e
    cases W.getLsbD i <;> cases U.getLsbD i <;> cases M.getLsbD i <;> decide
  · intro h
    apply BitVec.eq_of_getLsbD_eq
    intro i hi
    have e := congrArg (fun x => BitVec.getLsbD x i) h
    simp only [BitVec.getLsbD_and, BitVec.getLsbD_xor, BitVec.getLsbD_allOnes, BitVec.getLsbD_zero, hi, decide_true] at e ⊢
    revert e
    cases W.getLsbD i <;> cases U.getLsbD i <;> cases M.getLsbD i <;> decide
theorem cr_mask (w U m : Int64) (n : Nat) (hm : m.toBitVec.toNat = 2 ^ n - 1) : ((w &&& U) &&& (U &&& (m ^^^ (-1)))) = 0 ↔ (w &&& U).toBitVec.toNat < 2 ^ n := by
  have e0 : (-1 : Int64).toBitVec = BitVec.allOnes 64 := by decide
  have z0 : (0 : Int64).toBitVec = 0#64 := by decide
  rw [← Int64.toBitVec_inj, z0, Int64.toBitVec_and, Int64.toBitVec_and, Int64.toBitVec_and, Int64.toBitVec_xor, e0, cr_bits]
  generalize w.toBitVec &&& U.toBitVec = T
  rw [← BitVec.toNat_inj, BitVec.toNat_and, hm, Nat.and_two_pow_sub_one_eq_mod]
  constructor
  · intro h
    have t := Nat.mod_lt T.toNat (Nat.two_pow_pos n)
    rw [h] at t
    exact t
  · exact Nat.mod_eq_of_lt
theorem cr_shr (t : Int64) (x : UInt64) (n : Nat) (hx : x.toNat % 64 = n) : (t.toUInt64 >>> x).toInt64 = 0 ↔ t.toBitVec.toNat < 2 ^ n := by
  rw [← Int64.toBitVec_inj, ← BitVec.toNat_inj]
  show (t.toUInt64 >>> x).toNat = 0 ↔ t.toUInt64.toNat < 2 ^ n
  rw [UInt64.toNat_shiftRight, hx, Nat.shiftRight_eq_div_pow]
  constructor
  · intro h
    have d : t.toUInt64.toNat / 2 ^ n < 1 := by
      rw [h]
      decide
    have e := (Nat.div_lt_iff_lt_mul (Nat.two_pow_pos n)).mp d
    rw [Nat.one_mul] at e
    exact e
  · exact Nat.div_eq_of_lt
theorem cr_amt (s : Int64) : ∃ n, n < 64 ∧ s &&& 63 = lN n ∧ (s.toUInt64 &&& Int64.toUInt64 63).toNat % 64 = n := by
  have e : (s.toUInt64 &&& Int64.toUInt64 63).toNat = s.toUInt64.toNat % 2 ^ 6 := by
    rw [UInt64.toNat_and, show (Int64.toUInt64 63).toNat = 2 ^ 6 - 1 from by decide, Nat.and_two_pow_sub_one_eq_mod]
  refine ⟨s.toUInt64.toNat % 2 ^ 6, by omega, ?_, by omega⟩
  rw [← Int64.toBitVec_inj, ← BitVec.toNat_inj]
  show (s.toUInt64 &&& Int64.toUInt64 63).toNat = (BitVec.ofNat 64 (s.toUInt64.toNat % 2 ^ 6)).toNat
  rw [e, BitVec.toNat_ofNat]
  omega
end
section
/-! terms: a leaf with its sign (an atom k is k + 1, a variable v is 100 + v), or a pair -/
abbrev fz_T : Type := Lean.Data.AC.Expr
def fz_sb (θ : Nat → fz_T) : Lean.Data.AC.Expr → fz_T
  | .var s => if 100 ≤ s then θ (s - 100) else .var s
  | .op a b => .op (fz_sb θ a) (fz_sb θ b)
def fz_oc (v : Nat) : Lean.Data.AC.Expr → Prop
  | .var s => s = 100 + v
  | .op a b => fz_oc v a ∨ fz_oc v b
def fz_sz : Lean.Data.AC.Expr → Nat
  | .var _ => 1
  | .op a b => 1 + fz_sz a + fz_sz b
def fz_ls : Lean.Data.AC.Expr → List fz_T
  | .var s => [.var s]
  | .op a b => .op a b :: (fz_ls a ++ fz_ls b)
def fz_sg : Lean.Data.AC.Expr → Nat
  | .var s => s
  | .op _ _ => 17
def fz_wf : Lean.Data.AC.Expr → Prop
  | .var s => (1 ≤ s ∧ s ≤ 16) ∨ (100 ≤ s ∧ s < 106)
  | .op a b => fz_wf a ∧ fz_wf b
def fz_gd (t : fz_T) : Prop := ∀ v, ¬ fz_oc v t
theorem fz_sb_op (θ : Nat → fz_T) (a b : fz_T) : fz_sb θ (.op a b) = .op (fz_sb θ a) (fz_sb θ b) := rfl
theorem fz_sb_v (θ : Nat → fz_T) (v : Nat) : fz_sb θ (.var (100 + v)) = θ v := by
  show (if 100 ≤ 100 + v then θ (100 + v - 100) else _) = _
  rw [if_pos (by omega), Nat.add_sub_cancel_left]
theorem fz_sb_a (θ : Nat → fz_T) {s : Nat} (h : s < 100) : fz_sb θ (.var s) = .var s := if_neg (by omega)
theorem fz_sz_pos (t : fz_T) : 0 < fz_sz t := by
  cases t with
  | var s => exact Nat.one_pos
  | op a b => show 0 < 1 + fz_sz a + fz_sz b; omega
theorem fz_ls_len (t : fz_T) : (fz_ls t).length = fz_sz t := by
  induction t with
  | var s => rfl
  | op a b ha hb => show (_ :: (fz_ls a ++ fz_ls b)).length = 1 + fz_sz a + fz_sz b; rw [List.length_cons, List.length_append, ha, hb]; omega
theorem fz_sb_ext {θ θ' : Nat → fz_T} (t : fz_T) (h : ∀ v, fz_oc v t → θ v = θ' v) : fz_sb θ t = fz_sb θ' t := by
  induction t with
  | var s =>
    show (if 100 ≤ s then θ (s - 100) else _) = (if 100 ≤ s then θ' (s - 100) else _)
    by_cases hs : 100 ≤ s
    · rw [if_pos hs, if_pos hs]; exact h _ (by show s = 100 + (s - 100); omega)
    · rw [if_neg hs, if_neg hs]
  | op a b ha hb =>
    rw [fz_sb_op, fz_sb_op, ha (fun v q => h v (Or.inl q)), hb (fun v q => h v (Or.inr q))]
theorem fz_sb_inj {θ θ' : Nat → fz_T} (t : fz_T) (h : fz_sb θ t = fz_sb θ' t) : ∀ v, fz_oc v t → θ v = θ' v := by
  induction t with
  | var s =>
    intro v hv
    have hv' : s = 100 + v := hv
    subst hv'
    rw [fz_sb_v, fz_sb_v] at h; exact h
  | op a b ha hb =>
    intro v hv
    rw [fz_sb_op, fz_sb_op] at h
    injection h with h1 h2
    exact hv.elim (ha h1 v) (hb h2 v)
theorem fz_sb_gd (θ : Nat → fz_T) (t : fz_T) (h : fz_gd t) : fz_sb θ t = t := by
  induction t with
  | var s =>
    show (if 100 ≤ s then θ (s - 100) else _) = _
    by_cases hs : 100 ≤ s
    · exact absurd (by show s = 100 + (s - 100); omega) (h (s - 100))
    · rw [if_neg hs]
  | op a b ha hb =>
    rw [fz_sb_op, ha (fun v q => h v (Or.inl q)), hb (fun v q => h v (Or.inr q))]
theorem fz_oc_sz {θ : Nat → fz_T} {v : Nat} (t : fz_T) (h : fz_oc v t) : fz_sz (θ v) ≤ fz_sz (fz_sb θ t) := by
  induction t with
  | var s =>
    have hv' : s = 100 + v := h
    subst hv'
    rw [fz_sb_v]; exact Nat.le_refl _
  | op a b ha hb =>
    rw [fz_sb_op]
    show _ ≤ 1 + fz_sz (fz_sb θ a) + fz_sz (fz_sb θ b)
    rcases h with h | h
    · have := ha h; omega
    · have := hb h; omega
theorem fz_oc_szl {θ : Nat → fz_T} {v : Nat} (a b : fz_T) (h : fz_oc v (.op a b)) : fz_sz (θ v) < fz_sz (fz_sb θ (.op a b)) := by
  rw [fz_sb_op]
  show _ < 1 + fz_sz (fz_sb θ a) + fz_sz (fz_sb θ b)
  rcases h with h | h
  · have := fz_oc_sz (θ := θ) a h; omega
  · have := fz_oc_sz (θ := θ) b h; omega
theorem fz_gd_op {a b : fz_T} : fz_gd (.op a b) ↔ fz_gd a ∧ fz_gd b :=
  ⟨fun h => ⟨fun v q => h v (Or.inl q), fun v q => h v (Or.inr q)⟩, fun h v q => q.elim (h.1 v) (h.2 v)⟩
theorem fz_wf_oc {t : fz_T} (h : fz_wf t) {v : Nat} (q : fz_oc v t) : v < 6 := by
  induction t with
  | var s =>
    have e : s = 100 + v := q
    have h' : (1 ≤ s ∧ s ≤ 16) ∨ (100 ≤ s ∧ s < 106) := h
    omega
  | op a b ha hb => exact q.elim (ha h.1) (hb h.2)
theorem fz_wf_sb {θ : Nat → fz_T} {t : fz_T} (h : fz_wf t) (hθ : ∀ v, fz_oc v t → fz_wf (θ v)) : fz_wf (fz_sb θ t) := by
  induction t with
  | var s =>
    by_cases hs : 100 ≤ s
    · have e : s = 100 + (s - 100) := by omega
      rw [e, fz_sb_v]; exact hθ _ e
    · rw [fz_sb_a θ (by omega)]; exact h
  | op a b ha hb => exact ⟨ha h.1 (fun v q => hθ v (Or.inl q)), hb h.2 (fun v q => hθ v (Or.inr q))⟩
theorem fz_pre_inj (a : fz_T) : ∀ (b : fz_T) (x y : List Nat), fz_wf a → fz_wf b → (fz_ls a).map fz_sg ++ x = (fz_ls b).map fz_sg ++ y → a = b ∧ x = y := by
  induction a with
  | var s =>
    intro b x y ha hb h
    cases b with
    | var r =>
      have h' : s :: x = r :: y := h
      injection h' with h1 h2
      exact ⟨by rw [h1], h2⟩
    | op c d =>
      have h' : s :: x = 17 :: ((fz_ls c ++ fz_ls d).map fz_sg ++ y) := h
      injection h' with h1 h2
      have ha' : (1 ≤ s ∧ s ≤ 16) ∨ (100 ≤ s ∧ s < 106) := ha
      omega
  | op a1 a2 h1 h2 =>
    intro b x y ha hb h
    cases b with
    | var r =>
      have h' : 17 :: ((fz_ls a1 ++ fz_ls a2).map fz_sg ++ x) = r :: y := h
      injection h' with h1 h2
      have hb' : (1 ≤ r ∧ r ≤ 16) ∨ (100 ≤ r ∧ r < 106) := hb
      omega
    | op c d =>
      have h' : 17 :: ((fz_ls a1 ++ fz_ls a2).map fz_sg ++ x) = 17 :: ((fz_ls c ++ fz_ls d).map fz_sg ++ y) := h
      injection h' with _ h3
      rw [List.map_append, List.map_append, List.append_assoc, List.append_assoc] at h3
      obtain ⟨e1, e2⟩ := h1 c _ _ ha.1 hb.1 h3
      obtain ⟨e3, e4⟩ := h2 d _ _ ha.2 hb.2 e2
      exact ⟨by rw [e1, e3], e4⟩
theorem fz_ls_inj {a b : fz_T} (ha : fz_wf a) (hb : fz_wf b) (h : (fz_ls a).map fz_sg = (fz_ls b).map fz_sg) : a = b := by
  refine (fz_pre_inj a b [] [] ha hb ?_).1
  rw [h]
theorem fz_ls_oc {t : fz_T} (v : Nat) : fz_oc v t ↔ ∃ u, u ∈ fz_ls t ∧ fz_sg u = 100 + v := by
  induction t with
  | var s =>
    constructor
    · intro h; exact ⟨.var s, List.mem_singleton.mpr rfl, h⟩
    · rintro ⟨u, hu, e⟩
      have hu' : u = .var s := List.mem_singleton.mp hu
      subst hu'; exact e
  | op a b ha hb =>
    constructor
    · rintro (h | h)
      · obtain ⟨u, hu, e⟩ := ha.mp h
        exact ⟨u, List.mem_cons_of_mem _ (List.mem_append_left _ hu), e⟩
      · obtain ⟨u, hu, e⟩ := hb.mp h
        exact ⟨u, List.mem_cons_of_mem _ (List.mem_append_right _ hu), e⟩
    · rintro ⟨u, hu, e⟩
      have hu' : u ∈ Lean.Data.AC.Expr.op a b :: (fz_ls a ++ fz_ls b) := hu
      rcases List.mem_cons.mp hu' with h | h
      · subst h
        have e' : 17 = 100 + v := e
        omega
      · rcases List.mem_append.mp h with h | h
        · exact Or.inl (ha.mpr ⟨u, h, e⟩)
        · exact Or.inr (hb.mpr ⟨u, h, e⟩)
theorem fz_ls_wf {t u : fz_T} (h : fz_wf t) (hu : u ∈ fz_ls t) : fz_wf u := by
  induction t with
  | var s =>
    have hu' : u = .var s := List.mem_singleton.mp hu
    subst hu'; exact h
  | op a b ha hb =>
    have hu' : u ∈ Lean.Data.AC.Expr.op a b :: (fz_ls a ++ fz_ls b) := hu
    rcases List.mem_cons.mp hu' with q | q
    · subst q; exact h
    · rcases List.mem_append.mp q with q | q
      · exact ha h.1 q
      · exact hb h.2 q
theorem fz_sg_100 {t : fz_T} (h : fz_wf t) : 1 ≤ fz_sg t ∧ fz_sg t < 106 := by
  cases t with
  | var s =>
    have h' : (1 ≤ s ∧ s ≤ 16) ∨ (100 ≤ s ∧ s < 106) := h
    show 1 ≤ s ∧ s < 106
    omega
  | op a b => show 1 ≤ 17 ∧ 17 < 106; omega
/-! ground terms: every sign is below 18 -/
theorem fz_gd_sg {t u : fz_T} (hw : fz_wf t) (hg : fz_gd t) (hu : u ∈ fz_ls t) : 1 ≤ fz_sg u ∧ fz_sg u ≤ 17 := by
  have h1 := fz_sg_100 (fz_ls_wf hw hu)
  have h2 : fz_sg u < 100 := by
    apply Decidable.byContradiction
    intro q
    exact hg (fz_sg u - 100) ((fz_ls_oc _).mpr ⟨u, hu, by omega⟩)
  have h3 := fz_ls_wf hw hu
  cases u with
  | var s =>
    have h' : (1 ≤ s ∧ s ≤ 16) ∨ (100 ≤ s ∧ s < 106) := h3
    have h2' : s < 100 := h2
    show 1 ≤ s ∧ s ≤ 17
    omega
  | op a b => show 1 ≤ 17 ∧ 17 ≤ 17; omega
/-! the size under a substitution: at most 97 signs -/
theorem fz_sz_sb {θ : Nat → fz_T} {t : fz_T} (hθ : ∀ v, fz_oc v t → fz_sz (θ v) ≤ 13) : 2 * fz_sz (fz_sb θ t) + 12 ≤ 14 * fz_sz t + 12 + 12 := by
  induction t with
  | var s =>
    by_cases hs : 100 ≤ s
    · have e : s = 100 + (s - 100) := by omega
      have h1 := hθ (s - 100) e
      rw [e, fz_sb_v]
      show 2 * fz_sz (θ (s - 100)) + 12 ≤ 14 * 1 + 12 + 12
      omega
    · rw [fz_sb_a θ (by omega)]
      show 2 * 1 + 12 ≤ 14 * 1 + 12 + 12
      omega
  | op a b ha hb =>
    have h1 := ha (fun v q => hθ v (Or.inl q))
    have h2 := hb (fun v q => hθ v (Or.inr q))
    rw [fz_sb_op]
    show 2 * (1 + fz_sz (fz_sb θ a) + fz_sz (fz_sb θ b)) + 12 ≤ 14 * (1 + fz_sz a + fz_sz b) + 12 + 12
    omega
end
section
/-! bindings: b v = -1 (free) or the number of a cell -/
def fz_md (tm : Nat → fz_T) (b : Nat → Int32) (θ : Nat → fz_T) : Prop := ∀ v, v < 6 → ∀ c, c < 48 → b v = nI c → θ v = fz_sb θ (tm c)
def fz_bw (n : Nat) (B : Nat → Prop) (b : Nat → Int32) : Prop := ∀ v, v < 6 → b v = -1 ∨ ∃ c, c < n ∧ b v = nI c ∧ B c
def fz_ac (tm : Nat → fz_T) (b : Nat → Int32) : Prop := ∃ rk : Nat → Nat, (∀ v, rk v < 6) ∧ ∀ v, v < 6 → ∀ c, c < 48 → b v = nI c → ∀ w, fz_oc w (tm c) → w < 6 ∧ rk w < rk v
theorem fz_m1 {c : Nat} (h : c < 2 ^ 31) : nI c ≠ -1 := by
  intro q
  have h1 := nI_pos h
  rw [q] at h1
  exact h1 (by decide)
def fz_cn (rk : Nat → Nat) (r : Nat) : Nat := (if rk 0 < r then 1 else 0) + (if rk 1 < r then 1 else 0) + (if rk 2 < r then 1 else 0) + (if rk 3 < r then 1 else 0) + (if rk 4 < r then 1 else 0) + (if rk 5 < r then 1 else 0)
theorem fz_i1 {p : Prop} [Decidable p] : (if p then 1 else 0 : Nat) ≤ 1 := by split <;> omega
theorem fz_i2 {a r s : Nat} (h : r ≤ s) : (if a < r then 1 else 0 : Nat) ≤ (if a < s then 1 else 0 : Nat) := by
  by_cases q : a < r
  · rw [if_pos q, if_pos (by omega)]; exact Nat.le_refl _
  · rw [if_neg q]; exact Nat.zero_le _
theorem fz_i3 {a s : Nat} (h : a < s) : (if a < a then 1 else 0 : Nat) < (if a < s then 1 else 0 : Nat) := by
  rw [if_pos h, if_neg (Nat.lt_irrefl _)]; exact Nat.one_pos
theorem fz_cn_lt {rk : Nat → Nat} {v : Nat} (hv : v < 6) : fz_cn rk (rk v) < 6 := by
  unfold fz_cn
  have a0 := fz_i1 (p := rk 0 < rk v)
  have a1 := fz_i1 (p := rk 1 < rk v)
  have a2 := fz_i1 (p := rk 2 < rk v)
  have a3 := fz_i1 (p := rk 3 < rk v)
  have a4 := fz_i1 (p := rk 4 < rk v)
  have a5 := fz_i1 (p := rk 5 < rk v)
  have z : (if rk v < rk v then 1 else 0 : Nat) = 0 := if_neg (Nat.lt_irrefl _)
  have hv' : v = 0 ∨ v = 1 ∨ v = 2 ∨ v = 3 ∨ v = 4 ∨ v = 5 := by omega
  rcases hv' with e | e | e | e | e | e <;> subst e <;> omega
theorem fz_cn_st {rk : Nat → Nat} {w v : Nat} (hw : w < 6) (h : rk w < rk v) : fz_cn rk (rk w) < fz_cn rk (rk v) := by
  unfold fz_cn
  have hl : rk w ≤ rk v := by omega
  have a0 := fz_i2 (a := rk 0) hl
  have a1 := fz_i2 (a := rk 1) hl
  have a2 := fz_i2 (a := rk 2) hl
  have a3 := fz_i2 (a := rk 3) hl
  have a4 := fz_i2 (a := rk 4) hl
  have a5 := fz_i2 (a := rk 5) hl
  have z := fz_i3 h
  have hw' : w = 0 ∨ w = 1 ∨ w = 2 ∨ w = 3 ∨ w = 4 ∨ w = 5 := by omega
  rcases hw' with e | e | e | e | e | e <;> subst e <;> omega
theorem fz_ac_mk {tm : Nat → fz_T} {b : Nat → Int32} (rk : Nat → Nat) (h : ∀ v, v < 6 → ∀ c, c < 48 → b v = nI c → ∀ w, fz_oc w (tm c) → w < 6 ∧ rk w < rk v) : fz_ac tm b := by
  refine ⟨fun v => if v < 6 then fz_cn rk (rk v) else 0, ?_, ?_⟩
  · intro v
    dsimp only
    by_cases q : v < 6
    · rw [if_pos q]; exact fz_cn_lt q
    · rw [if_neg q]; omega
  · intro v hv c hc e w hw
    obtain ⟨w6, hl⟩ := h v hv c hc e w hw
    refine ⟨w6, ?_⟩
    dsimp only
    rw [if_pos w6, if_pos hv]
    exact fz_cn_st w6 hl
/-- binding v to t, where a set E holds the variables of t, is closed under bindings and does not hold v -/
theorem fz_ac_bind {tm : Nat → fz_T} {b : Nat → Int32} (h : fz_ac tm b) {v t : Nat} (ht : t < 48) (E : Nat → Prop) (hE : ∀ w, w < 6 → E w → ∀ c, c < 48 → b w = nI c → ∀ u, fz_oc u (tm c) → E u) (hT : ∀ u, fz_oc u (tm t) → u < 6 ∧ E u) (hv : ¬ E v) : fz_ac tm (upd b v (nI t)) := by
  obtain ⟨rk, hb, hr⟩ := h
  haveI : ∀ u, Decidable (E u) := fun u => Classical.propDecidable _
  refine fz_ac_mk (fun u => if E u then rk u else rk u + 6) ?_
  intro u hu c hc e w hw
  show w < 6 ∧ (if E w then rk w else rk w + 6) < (if E u then rk u else rk u + 6)
  by_cases q : u = v
  · subst q
    have e' : (nI t : Int32) = nI c := by rw [← e]; exact (if_pos rfl).symm
    have e2 : t = c := (nI_eq (by omega) (by omega)).mp e'
    subst e2
    obtain ⟨w6, hEw⟩ := hT w hw
    refine ⟨w6, ?_⟩
    rw [if_pos hEw, if_neg hv]
    have := hb w; omega
  · have e' : b u = nI c := by rw [← e]; exact (if_neg q).symm
    obtain ⟨w6, hl⟩ := hr u hu c hc e' w hw
    refine ⟨w6, ?_⟩
    by_cases qu : E u
    · rw [if_pos qu, if_pos (hE u hu qu c hc e' w hw)]; exact hl
    · rw [if_neg qu]
      split <;> omega
theorem fz_ac_free {tm : Nat → fz_T} {b : Nat → Int32} (h : ∀ v, v < 6 → b v = -1) : fz_ac tm b :=
  ⟨fun _ => 0, fun _ => Nat.zero_lt_succ 5, fun v hv c hc e => absurd (e.symm.trans (h v hv)) (fz_m1 (by omega))⟩
/-- a model above any choice for the free variables -/
def fz_it (tm : Nat → fz_T) (b : Nat → Int32) (base : Nat → fz_T) : Nat → Nat → fz_T
  | 0 => base
  | k + 1 => fun v => if v < 6 ∧ ¬ b v = -1 then fz_sb (fz_it tm b base k) (tm (b v).toNatClampNeg) else base v
theorem fz_it_b {tm : Nat → fz_T} {b : Nat → Int32} {base : Nat → fz_T} {k v c : Nat} (hv : v < 6) (hc : c < 48) (e : b v = nI c) : fz_it tm b base (k + 1) v = fz_sb (fz_it tm b base k) (tm c) := by
  show (if v < 6 ∧ ¬ b v = -1 then _ else _) = _
  rw [if_pos ⟨hv, by rw [e]; exact fz_m1 (by omega)⟩, e, nI_clamp (by omega)]
theorem fz_it_f {tm : Nat → fz_T} {b : Nat → Int32} {base : Nat → fz_T} {k v : Nat} (h : v < 6 → b v = -1) : fz_it tm b base k v = base v := by
  cases k with
  | zero => rfl
  | succ k =>
    show (if v < 6 ∧ ¬ b v = -1 then _ else _) = _
    rw [if_neg (fun q => q.2 (h q.1))]
theorem fz_model {tm : Nat → fz_T} {b : Nat → Int32} {n : Nat} {B : Nat → Prop} (hn : n ≤ 48) (hw : fz_bw n B b) (h : fz_ac tm b) (base : Nat → fz_T) : ∃ θ, fz_md tm b θ ∧ ∀ v, (v < 6 → b v = -1) → θ v = base v := by
  obtain ⟨rk, hb, hr⟩ := h
  have key : ∀ k v, v < 6 → rk v < k → ∀ j, k ≤ j → fz_it tm b base j v = fz_it tm b base k v := by
    intro k
    induction k with
    | zero => intro v _ q; omega
    | succ k ih =>
      intro v hv q j hj
      rcases hw v hv with f | ⟨c, hc, e, _⟩
      · rw [fz_it_f (fun _ => f), fz_it_f (fun _ => f)]
      · obtain ⟨j', rfl⟩ : ∃ j', j = j' + 1 := ⟨j - 1, by omega⟩
        rw [fz_it_b hv (by omega) e, fz_it_b hv (by omega) e]
        refine fz_sb_ext _ (fun w hw' => ?_)
        obtain ⟨w6, hl⟩ := hr v hv c (by omega) e w hw'
        exact ih w w6 (by omega) j' (by omega)
  refine ⟨fz_it tm b base 6, ?_, fun v hv => fz_it_f hv⟩
  intro v hv c hc e
  rw [← key 6 v hv (hb v) 7 (by omega)]
  exact fz_it_b hv hc e
/-- a free variable of a term that is matched with one term in all models can't be free -/
theorem fz_bound {tm : Nat → fz_T} {b : Nat → Int32} {n : Nat} {B : Nat → Prop} (hn : n ≤ 48) (hw : fz_bw n B b) (h : fz_ac tm b) {p q : fz_T} (hm : ∀ θ, fz_md tm b θ → fz_sb θ p = q) {v : Nat} (hv : v < 6) (ho : fz_oc v p) : b v ≠ -1 := by
  intro f
  obtain ⟨θ1, m1, f1⟩ := fz_model hn hw h (fun _ => .var 0)
  obtain ⟨θ2, m2, f2⟩ := fz_model hn hw h (fun _ => .var 1)
  have e := fz_sb_inj p ((hm θ1 m1).trans (hm θ2 m2).symm) v ho
  rw [f1 v (fun _ => f), f2 v (fun _ => f)] at e
  injection e with e
  omega
theorem fz_md_upd {tm : Nat → fz_T} {b : Nat → Int32} {θ : Nat → fz_T} {v t : Nat} (hv : v < 6) (ht : t < 48) (f : b v = -1) : fz_md tm (upd b v (nI t)) θ ↔ fz_md tm b θ ∧ θ v = fz_sb θ (tm t) := by
  constructor
  · intro h
    refine ⟨fun w hw c hc e => ?_, h v hv t ht (if_pos rfl)⟩
    refine h w hw c hc ?_
    have q : w ≠ v := by
      intro q; subst q
      exact fz_m1 (by omega) (e.symm.trans f)
    exact (if_neg q).trans e
  · rintro ⟨h, e⟩ w hw c hc q
    by_cases z : w = v
    · subst z
      have q' : (nI t : Int32) = nI c := by rw [← q]; exact (if_pos rfl).symm
      rw [(nI_eq (by omega) (by omega)).mp q'] at e
      exact e
    · exact h w hw c hc (by rw [← q]; exact (if_neg z).symm)
/-- seen couples that are closed under decomposition are equal -/
theorem fz_closed {tm : Nat → fz_T} {θ : Nat → fz_T} (S : Nat → Nat → Prop) (h : ∀ x y, S x y → fz_sb θ (tm x) = fz_sb θ (tm y) ∨ ∃ a1 a2 b1 b2, fz_sb θ (tm x) = .op (fz_sb θ (tm a1)) (fz_sb θ (tm a2)) ∧ fz_sb θ (tm y) = .op (fz_sb θ (tm b1)) (fz_sb θ (tm b2)) ∧ S a1 b1 ∧ S a2 b2) : ∀ x y, S x y → fz_sb θ (tm x) = fz_sb θ (tm y) := by
  have key : ∀ k x y, fz_sz (fz_sb θ (tm x)) < k → S x y → fz_sb θ (tm x) = fz_sb θ (tm y) := by
    intro k
    induction k with
    | zero => intro x y q; omega
    | succ k ih =>
      intro x y q s
      rcases h x y s with e | ⟨a1, a2, b1, b2, e1, e2, s1, s2⟩
      · exact e
      · rw [e1] at q
        have q' : 1 + fz_sz (fz_sb θ (tm a1)) + fz_sz (fz_sb θ (tm a2)) < k + 1 := q
        rw [e1, e2, ih a1 b1 (by omega) s1, ih a2 b2 (by omega) s2]
  intro x y
  exact key _ x y (Nat.lt_succ_self _)
/-! the trail -/
def fz_un (tw tl : Nat → Int32) (m : Nat) : Nat → (Nat → Int32) → (Nat → Int32) → (Nat → Int32) → (Nat → Int32) → Prop
  | 0 => fun b d b0 d0 => b = b0 ∧ d = d0
  | k + 1 => fun b d b0 d0 =>
    (∃ v, v < 6 ∧ tw (m + k) = nI v ∧ fz_un tw tl m k (upd b v (-1)) d b0 d0) ∨
    (∃ v, v < 6 ∧ tw (m + k) = nI (6 + v) ∧ fz_un tw tl m k b d b0 d0) ∨
    (∃ v, v < 6 ∧ tw (m + k) = nI (12 + v) ∧ fz_un tw tl m k b (upd d v (tl (m + k))) b0 d0)
theorem fz_un_cg {tw tl tw' tl' : Nat → Int32} {m : Nat} : ∀ (k : Nat) (b d b0 d0 : Nat → Int32), (∀ i, i < m + k → tw' i = tw i ∧ tl' i = tl i) → fz_un tw tl m k b d b0 d0 → fz_un tw' tl' m k b d b0 d0 := by
  intro k
  induction k with
  | zero => intro b d b0 d0 _ h; exact h
  | succ k ih =>
    intro b d b0 d0 q h
    have q1 := (q (m + k) (by omega)).1
    have q2 := (q (m + k) (by omega)).2
    have qk : ∀ i, i < m + k → tw' i = tw i ∧ tl' i = tl i := fun i hi => q i (by omega)
    rcases h with ⟨v, hv, e, h⟩ | ⟨v, hv, e, h⟩ | ⟨v, hv, e, h⟩
    · exact Or.inl ⟨v, hv, q1.trans e, ih _ _ _ _ qk h⟩
    · exact Or.inr (Or.inl ⟨v, hv, q1.trans e, ih _ _ _ _ qk h⟩)
    · exact Or.inr (Or.inr ⟨v, hv, q1.trans e, by rw [q2]; exact ih _ _ _ _ qk h⟩)
theorem fz_un_co {tw tl : Nat → Int32} {m k : Nat} {b1 d1 b0 d0 : Nat → Int32} (h0 : fz_un tw tl m k b1 d1 b0 d0) : ∀ (j : Nat) (b d : Nat → Int32), fz_un tw tl (m + k) j b d b1 d1 → fz_un tw tl m (k + j) b d b0 d0 := by
  intro j
  induction j with
  | zero => rintro b d ⟨rfl, rfl⟩; exact h0
  | succ j ih =>
    intro b d h
    show fz_un tw tl m (k + j + 1) b d b0 d0
    have e : m + k + j = m + (k + j) := by omega
    rcases h with ⟨v, hv, e', h⟩ | ⟨v, hv, e', h⟩ | ⟨v, hv, e', h⟩
    · exact Or.inl ⟨v, hv, by rw [← e]; exact e', ih _ _ h⟩
    · exact Or.inr (Or.inl ⟨v, hv, by rw [← e]; exact e', ih _ _ h⟩)
    · exact Or.inr (Or.inr ⟨v, hv, by rw [← e]; exact e', by rw [← e]; exact ih _ _ h⟩)
def fz_ex (t : Nat) (tw tl b d : Nat → Int32) (t' : Nat) (tw' tl' b' d' : Nat → Int32) : Prop :=
  t ≤ t' ∧ (∀ i, i < t → tw' i = tw i ∧ tl' i = tl i) ∧ fz_un tw' tl' t (t' - t) b' d' b d
theorem fz_ex_rf (t : Nat) (tw tl b d : Nat → Int32) : fz_ex t tw tl b d t tw tl b d :=
  ⟨Nat.le_refl _, fun _ _ => ⟨rfl, rfl⟩, by rw [Nat.sub_self]; exact ⟨rfl, rfl⟩⟩
theorem fz_ex_tr {t0 t1 t2 : Nat} {w0 l0 b0 d0 w1 l1 b1 d1 w2 l2 b2 d2 : Nat → Int32} (h1 : fz_ex t0 w0 l0 b0 d0 t1 w1 l1 b1 d1) (h2 : fz_ex t1 w1 l1 b1 d1 t2 w2 l2 b2 d2) : fz_ex t0 w0 l0 b0 d0 t2 w2 l2 b2 d2 := by
  obtain ⟨a1, a2, a3⟩ := h1
  obtain ⟨c1, c2, c3⟩ := h2
  refine ⟨by omega, fun i hi => ?_, ?_⟩
  · have q1 := a2 i hi
    have q2 := c2 i (by omega)
    exact ⟨q2.1.trans q1.1, q2.2.trans q1.2⟩
  · have e : t2 - t0 = (t1 - t0) + (t2 - t1) := by omega
    have e2 : t0 + (t1 - t0) = t1 := by omega
    rw [e]
    refine fz_un_co (fz_un_cg _ _ _ _ _ (fun i hi => c2 i (by omega)) a3) _ _ _ ?_
    rw [e2]; exact c3
/-- one note more -/
theorem fz_ex_b {t : Nat} {tw tl b d : Nat → Int32} {v : Nat} {x : Int32} (hv : v < 6) (f : b v = -1) (o : Int32) : fz_ex t tw tl b d (t + 1) (upd tw t (nI v)) (upd tl t o) (upd b v x) d := by
  refine ⟨by omega, fun i hi => ⟨if_neg (by omega), if_neg (by omega)⟩, ?_⟩
  rw [Nat.add_sub_cancel_left]
  refine Or.inl ⟨v, hv, if_pos rfl, ?_, rfl⟩
  funext j
  show (if j = v then -1 else (if j = v then x else b j)) = b j
  by_cases q : j = v
  · rw [if_pos q, q, f]
  · rw [if_neg q, if_neg q]
theorem fz_ex_g {t : Nat} {tw tl b d : Nat → Int32} {v : Nat} (hv : v < 6) (o : Int32) : fz_ex t tw tl b d (t + 1) (upd tw t (nI (6 + v))) (upd tl t o) b d := by
  refine ⟨by omega, fun i hi => ⟨if_neg (by omega), if_neg (by omega)⟩, ?_⟩
  rw [Nat.add_sub_cancel_left]
  exact Or.inr (Or.inl ⟨v, hv, if_pos rfl, rfl, rfl⟩)
theorem fz_ex_d {t : Nat} {tw tl b d : Nat → Int32} {v : Nat} {x : Int32} (hv : v < 6) : fz_ex t tw tl b d (t + 1) (upd tw t (nI (12 + v))) (upd tl t (d v)) b (upd d v x) := by
  refine ⟨by omega, fun i hi => ⟨if_neg (by omega), if_neg (by omega)⟩, ?_⟩
  rw [Nat.add_sub_cancel_left]
  refine Or.inr (Or.inr ⟨v, hv, if_pos rfl, rfl, ?_⟩)
  funext j
  show (if j = v then (if t + 0 = t then d v else tl (t + 0)) else (if j = v then x else d j)) = d j
  by_cases q : j = v
  · rw [if_pos q, q, if_pos (Nat.add_zero t)]
  · rw [if_neg q, if_neg q]
/-! the number of free variables -/
def fz_ub (b : Nat → Int32) : Nat := (if b 0 = -1 then 1 else 0) + (if b 1 = -1 then 1 else 0) + (if b 2 = -1 then 1 else 0) + (if b 3 = -1 then 1 else 0) + (if b 4 = -1 then 1 else 0) + (if b 5 = -1 then 1 else 0)
theorem fz_ub_le (b : Nat → Int32) : fz_ub b ≤ 6 := by
  unfold fz_ub
  have a0 := fz_i1 (p := b 0 = -1)
  have a1 := fz_i1 (p := b 1 = -1)
  have a2 := fz_i1 (p := b 2 = -1)
  have a3 := fz_i1 (p := b 3 = -1)
  have a4 := fz_i1 (p := b 4 = -1)
  have a5 := fz_i1 (p := b 5 = -1)
  omega
theorem fz_i4 {b : Nat → Int32} {v j : Nat} {x : Int32} (hx : x ≠ -1) : (if upd b v x j = -1 then 1 else 0 : Nat) ≤ (if b j = -1 then 1 else 0 : Nat) := by
  by_cases q : j = v
  · have e : upd b v x j = x := if_pos q
    rw [e, if_neg hx]; exact Nat.zero_le _
  · have e : upd b v x j = b j := if_neg q
    rw [e]; exact Nat.le_refl _
theorem fz_ub_upd {b : Nat → Int32} {v : Nat} {x : Int32} (hv : v < 6) (f : b v = -1) (hx : x ≠ -1) : fz_ub (upd b v x) + 1 ≤ fz_ub b := by
  unfold fz_ub
  have a0 := fz_i4 (b := b) (v := v) (j := 0) hx
  have a1 := fz_i4 (b := b) (v := v) (j := 1) hx
  have a2 := fz_i4 (b := b) (v := v) (j := 2) hx
  have a3 := fz_i4 (b := b) (v := v) (j := 3) hx
  have a4 := fz_i4 (b := b) (v := v) (j := 4) hx
  have a5 := fz_i4 (b := b) (v := v) (j := 5) hx
  have z1 : (if b v = -1 then 1 else 0 : Nat) = 1 := if_pos f
  have z2 : (if upd b v x v = -1 then 1 else 0 : Nat) = 0 := if_neg (by rw [show upd b v x v = x from if_pos rfl]; exact hx)
  have hv' : v = 0 ∨ v = 1 ∨ v = 2 ∨ v = 3 ∨ v = 4 ∨ v = 5 := by omega
  rcases hv' with e | e | e | e | e | e <;> subst e <;> omega
/-- how the machine's state grows on one path -/
def fz_go (t : Nat) (aw az tc : Int32) (tw tl b d : Nat → Int32) (t' : Nat) (aw' az' tc' : Int32) (tw' tl' b' d' : Nat → Int32) : Prop :=
  fz_ex t tw tl b d t' tw' tl' b' d' ∧ t' + 3 * fz_ub b' ≤ t + 3 * fz_ub b ∧
  (∀ i, (bt aw' i || bt az' i) = (bt aw i || bt az i)) ∧ (∀ j, bt tc j = true → bt tc' j = true) ∧
  (∀ v j, v < 6 → b v = -1 → bt (d v) j = true → (b' v = -1 ∧ bt (d' v) j = true) ∨ bt tc' j = true)
theorem fz_go_rf (t : Nat) (aw az tc : Int32) (tw tl b d : Nat → Int32) : fz_go t aw az tc tw tl b d t aw az tc tw tl b d :=
  ⟨fz_ex_rf t tw tl b d, Nat.le_refl _, fun _ => rfl, fun _ h => h, fun _ _ _ f h => Or.inl ⟨f, h⟩⟩
theorem fz_go_tr {t0 t1 t2 : Nat} {a0 z0 c0 a1 z1 c1 a2 z2 c2 : Int32} {w0 l0 b0 d0 w1 l1 b1 d1 w2 l2 b2 d2 : Nat → Int32} (h1 : fz_go t0 a0 z0 c0 w0 l0 b0 d0 t1 a1 z1 c1 w1 l1 b1 d1) (h2 : fz_go t1 a1 z1 c1 w1 l1 b1 d1 t2 a2 z2 c2 w2 l2 b2 d2) : fz_go t0 a0 z0 c0 w0 l0 b0 d0 t2 a2 z2 c2 w2 l2 b2 d2 := by
  obtain ⟨p1, p2, p3, p4, p5⟩ := h1
  obtain ⟨q1, q2, q3, q4, q5⟩ := h2
  refine ⟨fz_ex_tr p1 q1, by omega, fun i => (q3 i).trans (p3 i), fun j h => q4 j (p4 j h), ?_⟩
  intro v j hv f h
  rcases p5 v j hv f h with ⟨f1, h1⟩ | h1
  · exact q5 v j hv f1 h1
  · exact Or.inr (q4 j h1)
end
section
/-! bits of a mask -/
theorem fz_b1 : ∀ i, i < 32 → bt 1 i = decide (i = 0) := by decide +kernel
theorem fz_bit0 {y : Int32} : (y &&& 1) = 0 ↔ bt y 0 = false := by
  constructor
  · intro h
    have e := b_and y 1 0
    rw [h, b_0, fz_b1 0 (by omega)] at e
    simpa using e.symm
  · intro h
    refine b_ext (fun i hi => ?_)
    rw [b_and, b_0, fz_b1 i hi]
    by_cases q : i = 0
    · rw [q, h]; rfl
    · simp [q]
theorem fz_bit {x : Int32} {w : Nat} (hw : w < 32) : ((x >>> (nI w &&& 31)) &&& 1) = 0 ↔ bt x w = false := by
  rw [fz_bit0, b_sshr w hw x (by omega), if_pos (by omega)]; rfl
theorem fz_bitT {x : Int32} {w : Nat} (hw : w < 32) : ¬ ((x >>> (nI w &&& 31)) &&& 1) = 0 ↔ bt x w = true := by
  rw [fz_bit hw]; cases bt x w <;> simp
theorem fz_one {w : Nat} (hw : w < 32) (i : Nat) : bt ((1 : Int32) <<< (nI w &&& 31)) i = decide (i = w) := by
  rcases Nat.lt_or_ge i 32 with h | h
  · rw [b_shl w hw 1 h, fz_b1 (i - w) (by omega)]
    by_cases q : i = w
    · subst q; simp
    · rcases Nat.lt_or_ge i w with h1 | h1
      · simp [q, Nat.not_le.mpr h1]
      · have h2 : ¬ i - w = 0 := by omega
        simp [q, h1, h2]
  · rw [b_big h, decide_eq_false (by omega)]
theorem fz_xm (x : Int32) {i : Nat} (hi : i < 32) : bt (x ^^^ (-1)) i = !bt x i := by
  rw [b_xor, b_m1 i hi]; cases bt x i <;> rfl
theorem fz_or1 (x : Int32) {w : Nat} (hw : w < 32) (i : Nat) : bt (x ||| ((1 : Int32) <<< (nI w &&& 31))) i = (bt x i || decide (i = w)) := by rw [b_or, fz_one hw]
theorem fz_an1 (x : Int32) {w : Nat} (hw : w < 32) (i : Nat) : bt (x &&& (((1 : Int32) <<< (nI w &&& 31)) ^^^ (-1))) i = (bt x i && !decide (i = w)) := by
  rcases Nat.lt_or_ge i 32 with h | h
  · rw [b_and, fz_xm _ h, fz_one hw]
  · rw [b_big h, b_big h]; rfl
theorem fz_anx (x y : Int32) (i : Nat) : bt (x &&& (y ^^^ (-1))) i = (bt x i && !bt y i) := by
  rcases Nat.lt_or_ge i 32 with h | h
  · rw [b_and, fz_xm _ h]
  · rw [b_big h, b_big h]; rfl
theorem fz_nz {x : Int32} (h : ¬ x = 0) : ∃ i, i < 32 ∧ bt x i = true := by
  apply Classical.byContradiction
  intro q
  apply h
  refine b_ext (fun i hi => ?_)
  rw [b_0]
  cases e : bt x i
  · rfl
  · exact absurd ⟨i, hi, e⟩ q
theorem fz_blt {x : Int32} {i : Nat} (h : bt x i = true) : i < 32 := by
  apply Decidable.byContradiction
  intro q
  rw [b_big (by omega)] at h
  exact Bool.noConfusion h
/-! the store of cells -/
def fz_CX (n nv : Nat) (ki fi se ins cn : Nat → Int32) (tm : Nat → fz_T) : Prop :=
  n ≤ 48 ∧ nv ≤ 6 ∧ (∀ c, c < n → (ki c = 0 ∧ ∃ k, k ≤ 15 ∧ fi c = nI k ∧ tm c = .var (k + 1)) ∨ (ki c = 1 ∧ ∃ v, v < nv ∧ fi c = nI v ∧ tm c = .var (100 + v)) ∨ (ki c = 2 ∧ ∃ a b, a < c ∧ b < c ∧ fi c = nI a ∧ se c = nI b ∧ tm c = .op (tm a) (tm b))) ∧ (∀ c, c < n → ∀ i, bt (ins c) i = true ↔ fz_oc i (tm c)) ∧ (∀ c d, c < n → d < n → (cn c = cn d ↔ tm c = tm d))
section
variable {n nv : Nat} {tm : Nat → fz_T} {B : Nat → Prop}
variable {fv fc fg fe fd ft pl aw az tc pt so sc : Int32} {ki fi se si ins cn rc rl rr gt gx gy gf ex ey dx dy bi go df tw tl st : Nat → Int32} {ps : Nat → Int64} {ws mg mr mt mp ma mz ch is sl re : Nat → Int32}
theorem fz_CX_wf (hC : fz_CX n nv ki fi se ins cn tm) : ∀ c, c < n → fz_wf (tm c) := by
  obtain ⟨hn, hnv, hk, _, _⟩ := hC
  have key : ∀ k c, c < k → c < n → fz_wf (tm c) := by
    intro k
    induction k with
    | zero => intro c q; omega
    | succ k ih =>
      intro c q hc
      rcases hk c hc with ⟨_, a, ha, _, e⟩ | ⟨_, v, hv, _, e⟩ | ⟨_, a, b, ha, hb, _, _, e⟩
      · rw [e]; exact Or.inl ⟨by omega, by omega⟩
      · rw [e]; exact Or.inr ⟨by omega, by omega⟩
      · rw [e]; exact ⟨ih a (by omega) (by omega), ih b (by omega) (by omega)⟩
  intro c hc
  exact key (c + 1) c (by omega) hc
theorem fz_CX_oc (hC : fz_CX n nv ki fi se ins cn tm) {c v : Nat} (hc : c < n) (h : fz_oc v (tm c)) : v < 6 := fz_wf_oc (fz_CX_wf hC c hc) h
theorem fz_k01 : ¬ (0 : Int32) = 1 := by decide
theorem fz_k21 : ¬ (2 : Int32) = 1 := by decide
theorem fz_k02 : ¬ (0 : Int32) = 2 := by decide
theorem fz_k12 : ¬ (1 : Int32) = 2 := by decide
theorem fz_clp {a : Nat → Int32} {c : Nat} (h : c < 48) : a (nI c).toNatClampNeg = a c := by rw [nI_clamp (by omega)]
/-! follow -/
theorem fz_follow_l (hC : fz_CX n nv ki fi se ins cn tm) (hb : fz_bw n B bi) {rk : Nat → Nat} (hr : ∀ v, v < 6 → ∀ c, c < 48 → bi v = nI c → ∀ w, fz_oc w (tm c) → w < 6 ∧ rk w < rk v) : ∀ j s x, x < n → s + j ≤ 6 → (∀ v, tm x = .var (100 + v) → rk v < j) → ∃ a, a < n ∧ (∀ θ, fz_md tm bi θ → fz_sb θ (tm x) = fz_sb θ (tm a)) ∧ (a = x ∨ B a) ∧ (ki a = 1 → ∃ v, v < nv ∧ fi a = nI v ∧ tm a = .var (100 + v) ∧ bi v = -1) ∧ ∀ post : Int32 → Prop, post (nI a) → wX_follow_4 post fv fc fg fe fd ft pl aw az tc pt so sc ki fi se si ins cn rc rl rr gt gx gy gf ex ey dx dy bi go df tw tl st ps ws mg mr mt mp ma mz ch is sl re (j + 1) (nI x) (nI s) := by
  have hn := hC.1
  have hnv := hC.2.1
  intro j
  induction j with
  | zero =>
    intro s x hx hs hv
    have hk : ¬ ki x = 1 := by
      intro q
      rcases hC.2.2.1 x hx with ⟨e, _⟩ | ⟨e, v, _, _, e2⟩ | ⟨e, _⟩
      · rw [e] at q; exact fz_k01 q
      · have := hv v e2; omega
      · rw [e] at q; exact fz_k21 q
    refine ⟨x, hx, fun _ _ => rfl, Or.inl rfl, fun q => absurd q hk, fun post hp => ?_⟩
    exact br_f (nI_ge (b := 7) (by omega) (by decide)) ⟨vp_in_nI (by omega) (by omega), br_f (by rw [nI_clamp (by omega)]; exact hk) hp⟩
  | succ j ih =>
    intro s x hx hs hv
    have h7 : ¬ (7 : Int32) ≤ nI s := nI_ge (b := 7) (by omega) (by decide)
    have hi : vp_in (nI x) 48 := vp_in_nI (by omega) (by omega)
    by_cases hk : ki x = 1
    · obtain ⟨v, hvn, ef, et⟩ : ∃ v, v < nv ∧ fi x = nI v ∧ tm x = .var (100 + v) := by
        rcases hC.2.2.1 x hx with ⟨e, _⟩ | ⟨e, v, h1, h2, h3⟩ | ⟨e, _⟩
        · rw [e] at hk; exact absurd hk fz_k01
        · exact ⟨v, h1, h2, h3⟩
        · rw [e] at hk; exact absurd hk fz_k21
      have ef' : fi (nI x).toNatClampNeg = nI v := by rw [nI_clamp (by omega)]; exact ef
      rcases hb v (by omega) with f | ⟨c, hc, e, hBc⟩
      · refine ⟨x, hx, fun _ _ => rfl, Or.inl rfl, fun _ => ⟨v, hvn, ef, et, f⟩, fun post hp => ?_⟩
        refine br_f h7 ⟨hi, br_t (by rw [nI_clamp (by omega)]; exact hk) ⟨hi, by rw [ef']; exact vp_in_nI (by omega) (by omega), nm_r (e' := -1) (by rw [ef', nI_clamp (by omega)]; exact f) (br_f (by decide) hp)⟩⟩
      · obtain ⟨a, h1, h2, h3, h4, h5⟩ := ih (s + 1) c hc (by omega) (fun w hw => by
          have h1 := (hr v (by omega) c (by omega) e w (by rw [hw]; exact rfl)).2
          have h2 := hv v et
          omega)
        refine ⟨a, h1, fun θ hθ => ?_, ?_, h4, fun post hp => ?_⟩
        · rw [et, fz_sb_v, hθ v (by omega) c (by omega) e, h2 θ hθ]
        · rcases h3 with q | q
          · rw [q]; exact Or.inr hBc
          · exact Or.inr q
        · refine br_f h7 ⟨hi, br_t (by rw [nI_clamp (by omega)]; exact hk) ⟨hi, by rw [ef']; exact vp_in_nI (by omega) (by omega), nm_r (e' := nI c) (by rw [ef', nI_clamp (by omega)]; exact e) (br_t (nI_pos' (by omega)) (nm_r (nI_1 s) ?_))⟩⟩
          exact h5 post hp
    · refine ⟨x, hx, fun _ _ => rfl, Or.inl rfl, fun q => absurd q hk, fun post hp => ?_⟩
      exact br_f h7 ⟨hi, br_f (by rw [nI_clamp (by omega)]; exact hk) hp⟩
theorem fz_follow (hC : fz_CX n nv ki fi se ins cn tm) (hb : fz_bw n B bi) (ha : fz_ac tm bi) {x : Nat} (hx : x < n) : ∃ a, a < n ∧ (∀ θ, fz_md tm bi θ → fz_sb θ (tm x) = fz_sb θ (tm a)) ∧ (a = x ∨ B a) ∧ (ki a = 1 → ∃ v, v < nv ∧ fi a = nI v ∧ tm a = .var (100 + v) ∧ bi v = -1) ∧ ∀ post : Int32 → Prop, post (nI a) → wpX_follow post (fv, fc, fg, fe, fd, ft, pl, aw, az, tc, pt, so, sc, ki, fi, se, si, ins, cn, rc, rl, rr, gt, gx, gy, gf, ex, ey, dx, dy, bi, go, df, tw, tl, st, ps, ws, mg, mr, mt, mp, ma, mz, ch, is, sl, re) (nI x) := by
  obtain ⟨rk, hb6, hr⟩ := ha
  obtain ⟨a, h1, h2, h3, h4, h5⟩ := fz_follow_l (fv := fv) (fc := fc) (fg := fg) (fe := fe) (fd := fd) (ft := ft) (pl := pl) (aw := aw) (az := az) (tc := tc) (pt := pt) (so := so) (sc := sc) (ki := ki) (fi := fi) (se := se) (si := si) (ins := ins) (cn := cn) (rc := rc) (rl := rl) (rr := rr) (gt := gt) (gx := gx) (gy := gy) (gf := gf) (ex := ex) (ey := ey) (dx := dx) (dy := dy) (bi := bi) (go := go) (df := df) (tw := tw) (tl := tl) (st := st) (ps := ps) (ws := ws) (mg := mg) (mr := mr) (mt := mt) (mp := mp) (ma := ma) (mz := mz) (ch := ch) (is := is) (sl := sl) (re := re) hC hb hr 6 0 x hx (by omega) (fun v _ => hb6 v)
  exact ⟨a, h1, h2, h3, h4, fun post hp => ⟨7, h5 post hp⟩⟩
/-! note -/
theorem fz_note {post : SX → Prop} {tt : Nat} {p0 p1 : Int32} (h : tt < 512) (H : post (fv, fc, fg, fe, fd, nI (tt + 1), pl, aw, az, tc, pt, so, sc, ki, fi, se, si, ins, cn, rc, rl, rr, gt, gx, gy, gf, ex, ey, dx, dy, bi, go, df, upd tw tt p0, upd tl tt p1, st, ps, ws, mg, mr, mt, mp, ma, mz, ch, is, sl, re)) : wpX_note post (fv, fc, fg, fe, fd, nI tt, pl, aw, az, tc, pt, so, sc, ki, fi, se, si, ins, cn, rc, rl, rr, gt, gx, gy, gf, ex, ey, dx, dy, bi, go, df, tw, tl, st, ps, ws, mg, mr, mt, mp, ma, mz, ch, is, sl, re) p0 p1 :=
  br_t (nI_lt (b := 512) h (by decide)) ⟨vp_in_nI h (by decide), nm_r (e' := upd tw tt p0) (by rw [nI_clamp (by omega)]) ⟨vp_in_nI h (by decide), nm_r (e' := upd tl tt p1) (by rw [nI_clamp (by omega)]) (nm_r (nI_1 tt) H)⟩⟩
end
end
section
/-! occurs: the entered set, in six bits -/
def fz_cb (x : Int32) : Nat := (bt x 0).toNat + (bt x 1).toNat + (bt x 2).toNat + (bt x 3).toNat + (bt x 4).toNat + (bt x 5).toNat
theorem fz_bn (x : Bool) : x.toNat ≤ 1 := by cases x <;> decide
theorem fz_cb_or {x : Int32} {w : Nat} (hw : w < 6) (h : bt x w = false) : fz_cb (x ||| ((1 : Int32) <<< (nI w &&& 31))) = fz_cb x + 1 := by
  unfold fz_cb
  rw [fz_or1 x (by omega) 0, fz_or1 x (by omega) 1, fz_or1 x (by omega) 2, fz_or1 x (by omega) 3, fz_or1 x (by omega) 4, fz_or1 x (by omega) 5]
  have hw' : w = 0 ∨ w = 1 ∨ w = 2 ∨ w = 3 ∨ w = 4 ∨ w = 5 := by omega
  rcases hw' with e | e | e | e | e | e <;> subst e <;> simp [h] <;> omega
theorem fz_cb_6 {x : Int32} (h : 6 ≤ fz_cb x) {w : Nat} (hw : w < 6) : bt x w = true := by
  unfold fz_cb at h
  have a0 := fz_bn (bt x 0)
  have a1 := fz_bn (bt x 1)
  have a2 := fz_bn (bt x 2)
  have a3 := fz_bn (bt x 3)
  have a4 := fz_bn (bt x 4)
  have a5 := fz_bn (bt x 5)
  have key : (bt x w).toNat = 1 := by
    have hw' : w = 0 ∨ w = 1 ∨ w = 2 ∨ w = 3 ∨ w = 4 ∨ w = 5 := by omega
    rcases hw' with e | e | e | e | e | e <;> subst e <;> omega
  cases e : bt x w
  · rw [e] at key; exact absurd key (by decide)
  · rfl
theorem fz_cb_0 : fz_cb 0 = 0 := by unfold fz_cb; simp [b_0]
section
variable {n nv : Nat} {tm : Nat → fz_T} {B : Nat → Prop}
variable {fv fc fg fe fd ft pl aw az tc pt so sc : Int32} {ki fi se si ins cn rc rl rr gt gx gy gf ex ey dx dy bi go df tw tl st : Nat → Int32} {ps : Nat → Int64} {ws mg mr mt mp ma mz ch is sl re : Nat → Int32}
/-- the search for the lowest bit -/
theorem fz_occ_low {x1 x3 w x5 : Int32} : ∀ j i, i + j = 5 → (∀ k, k < i → bt w k = false) → (∃ k, k < 6 ∧ bt w k = true) → ∃ i', i' < 6 ∧ bt w i' = true ∧ ∀ (post : Int32 → Prop) (J : Int32 → Int32 → Int32 → Prop), wX_occurs_50 post J x1 x3 w x5 (nI i') fv fc fg fe fd ft pl aw az tc pt so sc ki fi se si ins cn rc rl rr gt gx gy gf ex ey dx dy bi go df tw tl st ps ws mg mr mt mp ma mz ch is sl re → wX_occurs_28 post J x1 x3 w x5 fv fc fg fe fd ft pl aw az tc pt so sc ki fi se si ins cn rc rl rr gt gx gy gf ex ey dx dy bi go df tw tl st ps ws mg mr mt mp ma mz ch is sl re (j + 1) (nI i) := by
  intro j
  induction j with
  | zero =>
    intro i hi hl hb
    obtain ⟨k, hk, e⟩ := hb
    have hk5 : k = i := by
      rcases Nat.lt_or_ge k i with q | q
      · rw [hl k q] at e; exact Bool.noConfusion e
      · omega
    subst hk5
    exact ⟨k, hk, e, fun post J h => br_t (nI_le (a := 5) (by omega) (by omega)) h⟩
  | succ j ih =>
    intro i hi hl hb
    have h5 : ¬ (5 : Int32) ≤ nI i := nI_ge (b := 5) (by omega) (by decide)
    cases e : bt w i
    · obtain ⟨i', h1, h2, h3⟩ := ih (i + 1) (by omega) (fun k hk => by
        rcases Nat.lt_or_ge k i with q | q
        · exact hl k q
        · have : k = i := by omega
          rw [this]; exact e) hb
      exact ⟨i', h1, h2, fun post J h => br_f h5 (br_t ((fz_bit (by omega)).mpr e) (nm_r (nI_1 i) (h3 post J h)))⟩
    · exact ⟨i, by omega, e, fun post J h => br_f h5 (br_f ((fz_bitT (by omega)).mpr e) h)⟩
/-- what occurs keeps -/
def fz_oI (tm : Nat → fz_T) (bi : Nat → Int32) (v t s : Nat) (e w : Int32) : Prop :=
  fz_cb e = s ∧ (∀ i, bt e i = true → i < 6) ∧ (∀ i, bt w i = true → i < 6) ∧ (∀ i, bt e i = true → bt w i = false) ∧
  (∀ i, bt e i = true ∨ bt w i = true → ∀ θ, fz_md tm bi θ → fz_sz (θ i) < fz_sz (fz_sb θ (tm t))) ∧
  (∀ u, fz_oc u (tm t) → bt e u = true ∨ bt w u = true) ∧
  (∀ i, bt e i = true → ∀ c, c < 48 → bi i = nI c → ∀ u, fz_oc u (tm c) → bt e u = true ∨ bt w u = true) ∧ bt e v = false
theorem fz_occ_l (hC : fz_CX n nv ki fi se ins cn tm) (hb : fz_bw n B bi) {v t : Nat} (hv : v < 6) : ∀ j s e w, s + j = 6 → fz_oI tm bi v t s e w →
    (∃ E : Nat → Prop, (∀ w, w < 6 → E w → ∀ c, c < 48 → bi w = nI c → ∀ u, fz_oc u (tm c) → E u) ∧ (∀ u, fz_oc u (tm t) → E u) ∧ ¬ E v ∧ ∀ post : Int32 → Prop, post 0 → wX_occurs_13 post (nI v) fv fc fg fe fd ft pl aw az tc pt so sc ki fi se si ins cn rc rl rr gt gx gy gf ex ey dx dy bi go df tw tl st ps ws mg mr mt mp ma mz ch is sl re (j + 1) e w (nI s)) ∨
    ((∀ θ, fz_md tm bi θ → θ v ≠ fz_sb θ (tm t)) ∧ ∀ post : Int32 → Prop, post 1 → wX_occurs_13 post (nI v) fv fc fg fe fd ft pl aw az tc pt so sc ki fi se si ins cn rc rl rr gt gx gy gf ex ey dx dy bi go df tw tl st ps ws mg mr mt mp ma mz ch is sl re (j + 1) e w (nI s)) := by
  have hn := hC.1
  intro j
  induction j with
  | zero =>
    rintro s e w hs ⟨c1, c2, c3, c4, c5, c6, c7, c8⟩
    have := fz_cb_6 (x := e) (by omega) hv
    rw [c8] at this
    exact Bool.noConfusion this
  | succ j ih =>
    rintro s e w hs ⟨c1, c2, c3, c4, c5, c6, c7, c8⟩
    have h12 : ¬ (12 : Int32) ≤ nI s := nI_ge (b := 12) (by omega) (by decide)
    by_cases hw : w = 0
    · left
      have hz : ∀ u, bt w u = true → False := fun u q => by rw [hw, b_0] at q; exact Bool.noConfusion q
      refine ⟨fun u => bt e u = true, fun i _ q c hc ec u hu => ?_, fun u hu => ?_, fun z => Bool.noConfusion (c8.symm.trans z), fun post hp => br_f h12 (br_t hw hp)⟩
      · exact (c7 i q c hc ec u hu).elim id (fun q => (hz u q).elim)
      · exact (c6 u hu).elim id (fun q => (hz u q).elim)
    · obtain ⟨i0, hi0, hb0⟩ := fz_nz hw
      obtain ⟨i, hi, hbi, hL⟩ := fz_occ_low (fv := fv) (fc := fc) (fg := fg) (fe := fe) (fd := fd) (ft := ft) (pl := pl) (aw := aw) (az := az) (tc := tc) (pt := pt) (so := so) (sc := sc) (ki := ki) (fi := fi) (se := se) (si := si) (ins := ins) (cn := cn) (rc := rc) (rl := rl) (rr := rr) (gt := gt) (gx := gx) (gy := gy) (gf := gf) (ex := ex) (ey := ey) (dx := dx) (dy := dy) (bi := bi) (go := go) (df := df) (tw := tw) (tl := tl) (st := st) (ps := ps) (ws := ws) (mg := mg) (mr := mr) (mt := mt) (mp := mp) (ma := ma) (mz := mz) (ch := ch) (is := is) (sl := sl) (re := re) (x1 := nI v) (x3 := e) (w := w) (x5 := nI s) 5 0 (by omega) (fun k q => by omega) ⟨i0, c3 i0 hb0, hb0⟩
      have hei : bt e i = false := by
        cases q : bt e i
        · rfl
        · rw [c4 i q] at hbi; exact Bool.noConfusion hbi
      have hcb := fz_cb_or hi hei
      by_cases hiv : i = v
      · right
        subst hiv
        refine ⟨fun θ hθ q => ?_, fun post hp => br_f h12 (br_f hw ⟨6, hL post _ (nm_e (nm_e (br_t rfl hp)))⟩)⟩
        have := c5 i (Or.inr hbi) θ hθ
        rw [q] at this; omega
      · have hniv : ¬ nI i = nI v := fun q => hiv ((nI_eq (by omega) (by omega)).mp q)
        have hin : vp_in (nI i) 6 := vp_in_nI (by omega) (by omega)
        rcases hb i hi with f | ⟨c, hc, ec, _⟩
        · have f' : bi (nI i).toNatClampNeg = -1 := by rw [nI_clamp (by omega)]; exact f
          have I' : fz_oI tm bi v t (s + 1) (e ||| ((1 : Int32) <<< (nI i &&& 31))) (w &&& (((1 : Int32) <<< (nI i &&& 31)) ^^^ (-1))) := by
            refine ⟨by omega, fun k q => ?_, fun k q => ?_, fun k q => ?_, fun k q => ?_, fun u hu => ?_, fun k q c hc ec u hu => ?_, ?_⟩
            · rw [fz_or1 e (by omega) k] at q
              simp at q
              rcases q with q | q
              · exact c2 k q
              · omega
            · rw [fz_an1 w (by omega) k] at q
              simp at q
              exact c3 k q.1
            · rw [fz_or1 e (by omega) k] at q
              rw [fz_an1 w (by omega) k]
              simp at q
              rcases q with q | q
              · rw [c4 k q]; rfl
              · simp [q]
            · rw [fz_or1 e (by omega) k, fz_an1 w (by omega) k] at q
              simp at q
              refine c5 k ?_
              rcases q with (q | q) | q
              · exact Or.inl q
              · rw [q]; exact Or.inr hbi
              · exact Or.inr q.1
            · rw [fz_or1 e (by omega) u, fz_an1 w (by omega) u]
              simp
              rcases c6 u hu with q | q
              · exact Or.inl (Or.inl q)
              · by_cases z : u = i
                · exact Or.inl (Or.inr z)
                · exact Or.inr ⟨q, z⟩
            · rw [fz_or1 e (by omega) k] at q
              rw [fz_or1 e (by omega) u, fz_an1 w (by omega) u]
              simp at q
              simp
              rcases q with q | q
              · rcases c7 k q c hc ec u hu with q | q
                · exact Or.inl (Or.inl q)
                · by_cases z : u = i
                  · exact Or.inl (Or.inr z)
                  · exact Or.inr ⟨q, z⟩
              · rw [q, f] at ec
                exact absurd ec.symm (fz_m1 (by omega))
            · rw [fz_or1 e (by omega) v, c8]
              simp
              exact fun q => hiv q.symm
          have W : ∀ post : Int32 → Prop, wX_occurs_13 post (nI v) fv fc fg fe fd ft pl aw az tc pt so sc ki fi se si ins cn rc rl rr gt gx gy gf ex ey dx dy bi go df tw tl st ps ws mg mr mt mp ma mz ch is sl re (j + 1) (e ||| ((1 : Int32) <<< (nI i &&& 31))) (w &&& (((1 : Int32) <<< (nI i &&& 31)) ^^^ (-1))) (nI (s + 1)) → wX_occurs_13 post (nI v) fv fc fg fe fd ft pl aw az tc pt so sc ki fi se si ins cn rc rl rr gt gx gy gf ex ey dx dy bi go df tw tl st ps ws mg mr mt mp ma mz ch is sl re (j + 1 + 1) e w (nI s) := fun post h =>
            br_f h12 (br_f hw ⟨6, hL post _ (nm_e (nm_e (br_f hniv ⟨hin, br_t (by rw [f']; decide) (nm_r (nI_1 s) h)⟩)))⟩)
          rcases ih (s + 1) _ _ (by omega) I' with ⟨E, e1, e2, e3, e4⟩ | ⟨e1, e2⟩
          · exact Or.inl ⟨E, e1, e2, e3, fun post hp => W post (e4 post hp)⟩
          · exact Or.inr ⟨e1, fun post hp => W post (e2 post hp)⟩
        · have f' : bi (nI i).toNatClampNeg = nI c := by rw [nI_clamp (by omega)]; exact ec
          have hins := hC.2.2.2.1 c hc
          have I' : fz_oI tm bi v t (s + 1) (e ||| ((1 : Int32) <<< (nI i &&& 31))) ((w &&& (((1 : Int32) <<< (nI i &&& 31)) ^^^ (-1))) ||| (ins c &&& ((e ||| ((1 : Int32) <<< (nI i &&& 31))) ^^^ (-1)))) := by
            have R1 : ∀ k, bt (e ||| ((1 : Int32) <<< (nI i &&& 31))) k = (bt e k || decide (k = i)) := fun k => fz_or1 e (by omega) k
            have R2 : ∀ k, bt ((w &&& (((1 : Int32) <<< (nI i &&& 31)) ^^^ (-1))) ||| (ins c &&& ((e ||| ((1 : Int32) <<< (nI i &&& 31))) ^^^ (-1)))) k = ((bt w k && !decide (k = i)) || (bt (ins c) k && !(bt e k || decide (k = i)))) := fun k => by
              rw [b_or, fz_an1 w (by omega) k, fz_anx, R1]
            have nw : ∀ u, (bt e u = true ∨ bt w u = true ∨ fz_oc u (tm c)) → (bt e u = true ∨ u = i) ∨ ((bt w u = true ∧ ¬ u = i) ∨ (bt (ins c) u = true ∧ bt e u = false ∧ ¬ u = i)) := fun u q => by
              by_cases z : u = i
              · exact Or.inl (Or.inr z)
              · cases q1 : bt e u
                · rcases q with q | q | q
                  · rw [q1] at q; exact Bool.noConfusion q
                  · exact Or.inr (Or.inl ⟨q, z⟩)
                  · exact Or.inr (Or.inr ⟨(hins u).mpr q, rfl, z⟩)
                · exact Or.inl (Or.inl rfl)
            refine ⟨by omega, fun k q => ?_, fun k q => ?_, fun k q => ?_, fun k q θ hθ => ?_, fun u hu => ?_, fun k q c' hc' ec' u hu => ?_, ?_⟩
            · rw [R1] at q
              simp at q
              rcases q with q | q
              · exact c2 k q
              · omega
            · rw [R2] at q
              simp at q
              rcases q with q | q
              · exact c3 k q.1
              · exact fz_CX_oc hC hc ((hins k).mp q.1)
            · rw [R1] at q
              rw [R2]
              simp at q
              rcases q with q | q
              · rw [c4 k q, q]; simp
              · simp [q]
            · rw [R1, R2] at q
              simp at q
              rcases q with (q | q) | q | q
              · exact c5 k (Or.inl q) θ hθ
              · rw [q]; exact c5 i (Or.inr hbi) θ hθ
              · exact c5 k (Or.inr q.1) θ hθ
              · have h1 := fz_oc_sz (θ := θ) (tm c) ((hins k).mp q.1)
                rw [← hθ i hi c (by omega) ec] at h1
                have h2 := c5 i (Or.inr hbi) θ hθ
                omega
            · rw [R1, R2]
              simp
              refine nw u ?_
              rcases c6 u hu with q | q
              · exact Or.inl q
              · exact Or.inr (Or.inl q)
            · rw [R1] at q
              rw [R1, R2]
              simp at q
              simp
              refine nw u ?_
              rcases q with q | q
              · rcases c7 k q c' hc' ec' u hu with q | q
                · exact Or.inl q
                · exact Or.inr (Or.inl q)
              · rw [q, ec] at ec'
                have := (nI_eq (by omega) (by omega)).mp ec'
                rw [this]; exact Or.inr (Or.inr hu)
            · rw [R1, c8]
              simp
              exact fun q => hiv q.symm
          have W : ∀ post : Int32 → Prop, wX_occurs_13 post (nI v) fv fc fg fe fd ft pl aw az tc pt so sc ki fi se si ins cn rc rl rr gt gx gy gf ex ey dx dy bi go df tw tl st ps ws mg mr mt mp ma mz ch is sl re (j + 1) (e ||| ((1 : Int32) <<< (nI i &&& 31))) ((w &&& (((1 : Int32) <<< (nI i &&& 31)) ^^^ (-1))) ||| (ins c &&& ((e ||| ((1 : Int32) <<< (nI i &&& 31))) ^^^ (-1)))) (nI (s + 1)) → wX_occurs_13 post (nI v) fv fc fg fe fd ft pl aw az tc pt so sc ki fi se si ins cn rc rl rr gt gx gy gf ex ey dx dy bi go df tw tl st ps ws mg mr mt mp ma mz ch is sl re (j + 1 + 1) e w (nI s) := fun post h =>
            br_f h12 (br_f hw ⟨6, hL post _ (nm_e (nm_e (br_f hniv ⟨hin, br_f (by rw [f']; exact nI_pos (by omega)) ⟨hin, by rw [f']; exact vp_in_nI (by omega) (by omega), nm_r (by rw [f', nI_clamp (n := c) (by omega)]) (nm_r (nI_1 s) h)⟩⟩)))⟩)
          rcases ih (s + 1) _ _ (by omega) I' with ⟨E, e1, e2, e3, e4⟩ | ⟨e1, e2⟩
          · exact Or.inl ⟨E, e1, e2, e3, fun post hp => W post (e4 post hp)⟩
          · exact Or.inr ⟨e1, fun post hp => W post (e2 post hp)⟩
theorem fz_occ (hC : fz_CX n nv ki fi se ins cn tm) (hb : fz_bw n B bi) {v t : Nat} (hv : v < 6) (ht : t < n) (hk : ¬ ki t = 1) :
    (∃ E : Nat → Prop, (∀ w, w < 6 → E w → ∀ c, c < 48 → bi w = nI c → ∀ u, fz_oc u (tm c) → E u) ∧ (∀ u, fz_oc u (tm t) → E u) ∧ ¬ E v ∧ ∀ post : Int32 → Prop, post 0 → wpX_occurs post (fv, fc, fg, fe, fd, ft, pl, aw, az, tc, pt, so, sc, ki, fi, se, si, ins, cn, rc, rl, rr, gt, gx, gy, gf, ex, ey, dx, dy, bi, go, df, tw, tl, st, ps, ws, mg, mr, mt, mp, ma, mz, ch, is, sl, re) (nI v) (nI t)) ∨
    ((∀ θ, fz_md tm bi θ → θ v ≠ fz_sb θ (tm t)) ∧ ∀ post : Int32 → Prop, post 1 → wpX_occurs post (fv, fc, fg, fe, fd, ft, pl, aw, az, tc, pt, so, sc, ki, fi, se, si, ins, cn, rc, rl, rr, gt, gx, gy, gf, ex, ey, dx, dy, bi, go, df, tw, tl, st, ps, ws, mg, mr, mt, mp, ma, mz, ch, is, sl, re) (nI v) (nI t)) := by
  have hn := hC.1
  have hins := hC.2.2.2.1 t ht
  have I0 : fz_oI tm bi v t 0 0 (ins t) := by
    refine ⟨fz_cb_0, fun i q => ?_, fun i q => fz_CX_oc hC ht ((hins i).mp q), fun i q => ?_, fun i q θ hθ => ?_, fun u hu => Or.inr ((hins u).mpr hu), fun i q => ?_, b_0 v⟩
    · rw [b_0] at q; exact Bool.noConfusion q
    · rw [b_0] at q; exact Bool.noConfusion q
    · rw [b_0] at q
      have q' : fz_oc i (tm t) := (hins i).mp (q.elim (fun z => Bool.noConfusion z) id)
      rcases hC.2.2.1 t ht with ⟨_, k, hk, _, e⟩ | ⟨e, _⟩ | ⟨_, a, b, _, _, _, _, e⟩
      · rw [e] at q'
        have q2 : k + 1 = 100 + i := q'
        omega
      · exact absurd e hk
      · rw [e] at q' ⊢
        exact fz_oc_szl _ _ q'
    · rw [b_0] at q; exact Bool.noConfusion q
  have e0 : ins (nI t).toNatClampNeg = ins t := fz_clp (by omega)
  have hi : vp_in (nI t) 48 := vp_in_nI (by omega) (by omega)
  rcases fz_occ_l (fv := fv) (fc := fc) (fg := fg) (fe := fe) (fd := fd) (ft := ft) (pl := pl) (aw := aw) (az := az) (tc := tc) (pt := pt) (so := so) (sc := sc) (ki := ki) (fi := fi) (se := se) (si := si) (ins := ins) (cn := cn) (rc := rc) (rl := rl) (rr := rr) (gt := gt) (gx := gx) (gy := gy) (gf := gf) (ex := ex) (ey := ey) (dx := dx) (dy := dy) (bi := bi) (go := go) (df := df) (tw := tw) (tl := tl) (st := st) (ps := ps) (ws := ws) (mg := mg) (mr := mr) (mt := mt) (mp := mp) (ma := ma) (mz := mz) (ch := ch) (is := is) (sl := sl) (re := re) hC hb hv 6 0 0 (ins t) (by omega) I0 with ⟨E, e1, e2, e3, e4⟩ | ⟨e1, e2⟩
  · exact Or.inl ⟨E, e1, e2, e3, fun post hp => ⟨hi, nm_r e0 ⟨7, e4 post hp⟩⟩⟩
  · exact Or.inr ⟨e1, fun post hp => ⟨hi, nm_r e0 ⟨7, e2 post hp⟩⟩⟩
/-! bind -/
theorem fz_bind140 {post : Int32 → SX → Prop} {tt v : Nat} {x2 : Int32} (hv : v < 6) (htt : tt < 512) (H : post 1 (fv, fc, fg, fe, fd, nI (tt + 1), pl, aw, az, tc ||| df v, pt, so, sc, ki, fi, se, si, ins, cn, rc, rl, rr, gt, gx, gy, gf, ex, ey, dx, dy, upd bi v x2, go, df, upd tw tt (nI v), upd tl tt (-1), st, ps, ws, mg, mr, mt, mp, ma, mz, ch, is, sl, re)) : wX_bind_140 post x2 (nI v) fv fc fg fe fd (nI tt) pl aw az tc pt so sc ki fi se si ins cn rc rl rr gt gx gy gf ex ey dx dy bi go df tw tl st ps ws mg mr mt mp ma mz ch is sl re := by
  have e : (nI v).toNatClampNeg = v := nI_clamp (by omega)
  have hi : vp_in (nI v) 6 := vp_in_nI (by omega) (by omega)
  unfold wX_bind_140
  refine fz_note htt ?_
  exact And.intro hi (nm_r (e' := upd bi v x2) (by rw [nI_clamp (by omega)]) (And.intro hi (nm_r (e' := tc ||| df v) (by rw [e]) H)))
theorem fz_bw_upd {b : Nat → Int32} (h : fz_bw n B b) {v t : Nat} (ht : t < n) (hB : B t) : fz_bw n B (upd b v (nI t)) := by
  intro w hw
  by_cases q : w = v
  · exact Or.inr ⟨t, ht, if_pos q, hB⟩
  · have e : upd b v (nI t) w = b w := if_neg q
    rw [e]; exact h w hw
theorem fz_bind {post : Int32 → SX → Prop} (hC : fz_CX n nv ki fi se ins cn tm) (hb : fz_bw n B bi) (hac : fz_ac tm bi) {a t v tt : Nat} (han : a < n) (htn : t < n) (hv : v < nv) (hfa : fi a = nI v) (hfr : bi v = -1) (htv : ki t = 1 → ∃ w, w < nv ∧ fi t = nI w ∧ tm t = .var (100 + w) ∧ bi w = -1) (hne : tm t ≠ .var (100 + v)) (htt : tt + 3 ≤ 512)
    (H1 : ∀ (tt' : Nat) (aw' az' tc' : Int32) (go' df' tw' tl' : Nat → Int32), fz_go tt aw az tc tw tl bi df tt' aw' az' tc' tw' tl' (upd bi v (nI t)) df' → fz_ac tm (upd bi v (nI t)) → post 1 (fv, fc, fg, fe, fd, nI tt', pl, aw', az', tc', pt, so, sc, ki, fi, se, si, ins, cn, rc, rl, rr, gt, gx, gy, gf, ex, ey, dx, dy, upd bi v (nI t), go', df', tw', tl', st, ps, ws, mg, mr, mt, mp, ma, mz, ch, is, sl, re))
    (H0 : (∀ θ, fz_md tm bi θ → θ v ≠ fz_sb θ (tm t)) → post 0 (fv, fc, fg, fe, fd, nI tt, pl, aw, az, tc, pt, so, sc, ki, fi, se, si, ins, cn, rc, rl, rr, gt, gx, gy, gf, ex, ey, dx, dy, bi, go, df, tw, tl, st, ps, ws, mg, mr, mt, mp, ma, mz, ch, is, sl, re)) : wpX_bind post (fv, fc, fg, fe, fd, nI tt, pl, aw, az, tc, pt, so, sc, ki, fi, se, si, ins, cn, rc, rl, rr, gt, gx, gy, gf, ex, ey, dx, dy, bi, go, df, tw, tl, st, ps, ws, mg, mr, mt, mp, ma, mz, ch, is, sl, re) (nI a) (nI t) := by
  have hn := hC.1
  have hnv := hC.2.1
  have hia : vp_in (nI a) 48 := vp_in_nI (by omega) (by omega)
  have hit : vp_in (nI t) 48 := vp_in_nI (by omega) (by omega)
  have hiv : vp_in (nI v) 6 := vp_in_nI (by omega) (by omega)
  have ev : (nI v).toNatClampNeg = v := nI_clamp (by omega)
  have et : (nI t).toNatClampNeg = t := nI_clamp (by omega)
  have efa : fi (nI a).toNatClampNeg = nI v := by rw [nI_clamp (by omega)]; exact hfa
  have hub := fz_ub_upd (b := bi) (v := v) (x := nI t) (by omega) hfr (fz_m1 (by omega))
  by_cases hk : ki t = 1
  · obtain ⟨w, hw, hfw, htw, hbw⟩ := htv hk
    have hwv : w ≠ v := fun q => hne (by rw [htw, q])
    have hiw : vp_in (nI w) 6 := vp_in_nI (by omega) (by omega)
    have ew : (nI w).toNatClampNeg = w := nI_clamp (by omega)
    have hac' : fz_ac tm (upd bi v (nI t)) := by
      refine fz_ac_bind hac (by omega) (fun u => u = w) (fun u _ q c hc ec => ?_) (fun u hu => ?_) (fun q => hwv q.symm)
      · rw [q, hbw] at ec
        exact absurd ec.symm (fz_m1 (by omega))
      · rw [htw] at hu
        have hu' : 100 + w = 100 + u := hu
        exact ⟨by omega, by omega⟩
    refine And.intro hia (nm_r efa (And.intro hit (br_t (by rw [et]; exact hk) (And.intro hit (nm_r (e' := nI w) (by rw [et]; exact hfw) (And.intro hiw ?_))))))
    refine fz_note (tt := tt) (by omega) ?_
    refine And.intro hiw (And.intro hiv (And.intro hiw (nm_e (And.intro hiw ?_))))
    refine fz_note (tt := tt + 1) (by omega) ?_
    refine And.intro hiw (And.intro hiv (And.intro hiw (nm_e ?_)))
    refine fz_bind140 (tt := tt + 1 + 1) (by omega) (by omega) ?_
    refine H1 (tt + 1 + 1 + 1) _ _ _ _ _ _ _ ?_ hac'
    rw [nI_clamp (n := w) (by omega), nI_clamp (n := v) (by omega), show (6 : Int32) + nI w = nI (6 + w) from nI_add 6 w, show (12 : Int32) + nI w = nI (12 + w) from nI_add 12 w]
    refine ⟨?_, by omega, fun _ => rfl, fun j q => ?_, fun u j hu f q => ?_⟩
    · exact fz_ex_tr (fz_ex_tr (fz_ex_g (by omega) _) (fz_ex_d (by omega))) (fz_ex_b (by omega) hfr _)
    · rw [b_or, q]; rfl
    · by_cases z : u = v
      · right
        have e2 : upd df w (df w ||| df v) v = df v := if_neg (fun q => hwv q.symm)
        rw [b_or, e2, ← z, q, Bool.or_true]
      · left
        refine ⟨(if_neg z).trans f, ?_⟩
        by_cases z2 : u = w
        · have e2 : upd df w (df w ||| df v) u = df w ||| df v := if_pos z2
          rw [e2, b_or, ← z2, q]; rfl
        · have e2 : upd df w (df w ||| df v) u = df u := if_neg z2
          rw [e2]; exact q
  · refine And.intro hia (nm_r efa (And.intro hit (br_f (by rw [et]; exact hk) ?_)))
    rcases fz_occ (fv := fv) (fc := fc) (fg := fg) (fe := fe) (fd := fd) (ft := nI tt) (pl := pl) (aw := aw) (az := az) (tc := tc) (pt := pt) (so := so) (sc := sc) (ki := ki) (fi := fi) (se := se) (si := si) (ins := ins) (cn := cn) (rc := rc) (rl := rl) (rr := rr) (gt := gt) (gx := gx) (gy := gy) (gf := gf) (ex := ex) (ey := ey) (dx := dx) (dy := dy) (bi := bi) (go := go) (df := df) (tw := tw) (tl := tl) (st := st) (ps := ps) (ws := ws) (mg := mg) (mr := mr) (mt := mt) (mp := mp) (ma := ma) (mz := mz) (ch := ch) (is := is) (sl := sl) (re := re) hC hb (v := v) (by omega) htn hk with ⟨E, e1, e2, e3, e4⟩ | ⟨e1, e2⟩
    · refine e4 _ (br_t rfl (And.intro hiv (nm_e (nm_e (nm_e ?_)))))
      refine fz_bind140 (tt := tt) (by omega) (by omega) ?_
      refine H1 (tt + 1) _ _ _ _ _ _ _ ?_ ?_
      · rw [ev]
        refine ⟨fz_ex_b (by omega) hfr _, by omega, fun i => ?_, fun j q => ?_, fun u j hu f q => ?_⟩
        · rw [b_or, fz_anx, b_and]
          cases bt aw i <;> cases bt az i <;> cases bt (go v) i <;> rfl
        · rw [b_or, q]; rfl
        · by_cases z : u = v
          · right; rw [b_or, ← z, q, Bool.or_true]
          · exact Or.inl ⟨(if_neg z).trans f, q⟩
      · exact fz_ac_bind hac (by omega) E e1 (fun u hu => ⟨fz_CX_oc hC htn hu, e2 u hu⟩) e3
    · exact e2 _ (br_f (by decide) (H0 e1))
end
end
section
/-! couples of cells: seen bits and the stack -/
def fz_sn (ps : Nat → Int64) (m : Nat) : Bool := (ps (m / 64)).toBitVec.getLsbD (m % 64)
theorem fz_lbit {k : Nat} (hk : k < 64) (i : Nat) : (lN (1 * 2 ^ k)).toBitVec.getLsbD i = decide (i = k) := by
  rw [wb_tb, BitVec.getLsbD_ofNat, Nat.one_mul, Nat.testBit_two_pow]
  by_cases q : i = k
  · subst q; simp [hk]
  · have q' : ¬ k = i := fun z => q z.symm
    simp [q, q']
theorem fz_land {w : Int64} {k : Nat} (hk : k < 64) : (w &&& lN (1 * 2 ^ k)) = 0 ↔ w.toBitVec.getLsbD k = false := by
  constructor
  · intro h
    have e : (w &&& lN (1 * 2 ^ k)).toBitVec.getLsbD k = false := by rw [h]; exact BitVec.getLsbD_zero
    rw [Int64.toBitVec_and, BitVec.getLsbD_and, fz_lbit hk] at e
    simpa using e
  · intro h
    apply Int64.toBitVec_inj.mp
    refine BitVec.eq_of_getLsbD_eq (fun i hi => ?_)
    rw [Int64.toBitVec_and, BitVec.getLsbD_and, fz_lbit hk]
    have z0 : (0 : Int64).toBitVec.getLsbD i = false := BitVec.getLsbD_zero
    rw [z0]
    by_cases q : i = k
    · rw [q, h]; rfl
    · simp [q]
theorem fz_sn_or {ps : Nat → Int64} {m : Nat} (m' : Nat) : fz_sn (vp_updL ps (m / 64) (ps (m / 64) ||| lN (1 * 2 ^ (m % 64)))) m' = (fz_sn ps m' || decide (m' = m)) := by
  unfold fz_sn vp_updL
  have hk : m % 64 < 64 := Nat.mod_lt _ (by omega)
  by_cases q : m' / 64 = m / 64
  · rw [if_pos q, Int64.toBitVec_or, BitVec.getLsbD_or, fz_lbit hk, q]
    have e : (m' % 64 = m % 64) ↔ (m' = m) := by omega
    simp [e]
  · rw [if_neg q]
    have e : ¬ m' = m := fun z => q (by rw [z])
    simp [e]
theorem fz_short {m : Nat} (h : m < 32768) : vp_nar .short (nI m).toInt16.toInt32 = nI m := by
  have e := nI_toInt (n := m) (by omega)
  rw [pk_vs, lg_i2s_small (by omega) (by omega)]
theorem fz_byte {m : Nat} (h : m < 128) : vp_nar .byte (nI m).toInt8.toInt32 = nI m := by
  have e := nI_toInt (n := m) (by omega)
  rw [pk_vb, lg_i2b_small (by omega) (by omega)]
theorem fz_byte' {m : Nat} (h : m < 128) : vp_nar .byte (nI m) = nI m := by
  have e := nI_toInt (n := m) (by omega)
  rw [vp_nar_byte, lg_i2b_small (by omega) (by omega)]
section
variable {n nv : Nat} {tm : Nat → fz_T} {A B : Nat → Prop}
variable {fv fc fg fe fd ft pl aw az tc pt so sc : Int32} {ki fi se si ins cn rc rl rr gt gx gy gf ex ey dx dy bi go df tw tl st : Nat → Int32} {ps : Nat → Int64} {ws mg mr mt mp ma mz ch is sl re : Nat → Int32}
theorem fz_push {post : SX → Prop} {x y k : Nat} (hx : x < 48) (hy : y < 48) (H1 : fz_sn ps (48 * x + y) = true → post (fv, fc, fg, fe, fd, ft, pl, aw, az, tc, nI k, so, sc, ki, fi, se, si, ins, cn, rc, rl, rr, gt, gx, gy, gf, ex, ey, dx, dy, bi, go, df, tw, tl, st, ps, ws, mg, mr, mt, mp, ma, mz, ch, is, sl, re)) (H2 : fz_sn ps (48 * x + y) = false → k < 2304 ∧ ∀ ps' : Nat → Int64, (∀ m, fz_sn ps' m = (fz_sn ps m || decide (m = 48 * x + y))) → post (fv, fc, fg, fe, fd, ft, pl, aw, az, tc, nI (k + 1), so, sc, ki, fi, se, si, ins, cn, rc, rl, rr, gt, gx, gy, gf, ex, ey, dx, dy, bi, go, df, tw, tl, upd st k (nI (48 * x + y)), ps', ws, mg, mr, mt, mp, ma, mz, ch, is, sl, re)) : wpX_pushPair post (fv, fc, fg, fe, fd, ft, pl, aw, az, tc, nI k, so, sc, ki, fi, se, si, ins, cn, rc, rl, rr, gt, gx, gy, gf, ex, ey, dx, dy, bi, go, df, tw, tl, st, ps, ws, mg, mr, mt, mp, ma, mz, ch, is, sl, re) (nI x) (nI y) := by
  have e1 : (48 : Int32) * nI x + nI y = nI (48 * x + y) := by
    rw [show (48 : Int32) * nI x = nI (48 * x) from pk_mul 48 x, nI_add]
  have hm : 48 * x + y < 2304 := by omega
  have e2 : nI (48 * x + y) &&& 63 = nI ((48 * x + y) % 64) := pk_andN (n := 48 * x + y) (by omega) 6 (by decide)
  have hk : (48 * x + y) % 64 < 64 := Nat.mod_lt _ (by omega)
  have e3 : (1 : Int64) <<< ((nI (48 * x + y) &&& 63).toInt64 &&& 63) = lN (1 * 2 ^ ((48 * x + y) % 64)) := by
    rw [e2]; exact wb_shl 1 hk
  have e4 : nI (48 * x + y) >>> ((6 : Int32) &&& 31) = nI ((48 * x + y) / 64) := pk_shrN (n := 48 * x + y) (by omega) _ 6 (by decide)
  have e5 : (nI ((48 * x + y) / 64)).toNatClampNeg = (48 * x + y) / 64 := nI_clamp (by omega)
  have hin : vp_in (nI ((48 * x + y) / 64)) 36 := vp_in_nI (by omega) (by omega)
  refine nm_r e1 (nm_r e3 ?_)
  rw [e4, e5]
  refine And.intro hin ?_
  cases q : fz_sn ps (48 * x + y)
  · obtain ⟨hk2, h2⟩ := H2 q
    refine br_t ((fz_land hk).mpr q) (And.intro hin (And.intro hin (nm_e (And.intro (vp_in_nI (by omega) (by omega)) (nm_r (e' := upd st k (nI (48 * x + y))) (by rw [nI_clamp (by omega), fz_short (by omega)]) (nm_r (nI_1 k) ?_))))))
    exact h2 _ (fun m => fz_sn_or m)
  · refine br_f (fun z => ?_) (H1 q)
    have := (fz_land hk).mp z
    unfold fz_sn at q
    rw [this] at q
    exact Bool.noConfusion q
theorem fz_start_l {post : SX → Prop} {x y : Nat} (hx : x < 48) (hy : y < 48) (H : ∀ (st' : Nat → Int32) (ps' : Nat → Int64), (∀ m, m < 2304 → fz_sn ps' m = decide (m = 48 * x + y)) → st' 0 = nI (48 * x + y) → post (fv, fc, fg, fe, fd, ft, pl, aw, az, tc, nI 1, so, sc, ki, fi, se, si, ins, cn, rc, rl, rr, gt, gx, gy, gf, ex, ey, dx, dy, bi, go, df, tw, tl, st', ps', ws, mg, mr, mt, mp, ma, mz, ch, is, sl, re)) : ∀ (j i : Nat) (ps : Nat → Int64), i + j = 36 → (∀ q, q < i → ps q = 0) → wX_startPairs_2 post (nI x) (nI y) fv fc fg fe fd ft pl aw az tc pt so sc (j + 1) (nI i) ki fi se si ins cn rc rl rr gt gx gy gf ex ey dx dy bi go df tw tl st ps ws mg mr mt mp ma mz ch is sl re := by
  intro j
  induction j with
  | zero =>
    intro i ps hi hz
    refine br_t (nI_le (a := 36) (by omega) (by omega)) ?_
    have z : ∀ m, m < 2304 → fz_sn ps m = false := fun m hm => by
      unfold fz_sn
      rw [hz (m / 64) (by omega)]; exact BitVec.getLsbD_zero
    refine fz_push (k := 0) hx hy (fun q => ?_) (fun _ => ⟨by omega, fun ps' h => ?_⟩)
    · rw [z _ (by omega)] at q; exact Bool.noConfusion q
    · refine H _ ps' (fun m hm => ?_) (if_pos rfl)
      rw [h m, z m hm]; rfl
  | succ j ih =>
    intro i ps hi hz
    refine br_f (nI_ge (b := 36) (by omega) (by decide)) (And.intro (vp_in_nI (by omega) (by omega)) (nm_r (e' := vp_updL ps i 0) (by rw [nI_clamp (by omega)]) (nm_r (nI_1 i) ?_)))
    refine ih (i + 1) _ (by omega) (fun q hq => ?_)
    unfold vp_updL
    by_cases z : q = i
    · rw [if_pos z]
    · rw [if_neg z]; exact hz q (by omega)
theorem fz_start {post : SX → Prop} {x y : Nat} (hx : x < 48) (hy : y < 48) (H : ∀ (st' : Nat → Int32) (ps' : Nat → Int64), (∀ m, m < 2304 → fz_sn ps' m = decide (m = 48 * x + y)) → st' 0 = nI (48 * x + y) → post (fv, fc, fg, fe, fd, ft, pl, aw, az, tc, nI 1, so, sc, ki, fi, se, si, ins, cn, rc, rl, rr, gt, gx, gy, gf, ex, ey, dx, dy, bi, go, df, tw, tl, st', ps', ws, mg, mr, mt, mp, ma, mz, ch, is, sl, re)) : wpX_startPairs post (fv, fc, fg, fe, fd, ft, pl, aw, az, tc, pt, so, sc, ki, fi, se, si, ins, cn, rc, rl, rr, gt, gx, gy, gf, ex, ey, dx, dy, bi, go, df, tw, tl, st, ps, ws, mg, mr, mt, mp, ma, mz, ch, is, sl, re) (nI x) (nI y) :=
  ⟨37, fz_start_l hx hy H 36 0 ps (by omega) (fun q hq => by omega)⟩
/-! what the loops over couples keep -/
def fz_PI (n : Nat) (A B : Nat → Prop) (s k : Nat) (st : Nat → Int32) (ps : Nat → Int64) : Prop :=
  (∀ i, i < k → ∃ x y, x < n ∧ y < n ∧ A x ∧ B y ∧ st i = nI (48 * x + y) ∧ fz_sn ps (48 * x + y) = true) ∧
  (∃ L : List Nat, L.Nodup ∧ (∀ m, m ∈ L → m < 2304 ∧ fz_sn ps m = true) ∧ L.length = s + k)
def fz_c1 (tm : Nat → fz_T) (b : Nat → Int32) (ps : Nat → Int64) (x y : Nat) : Prop :=
  ∀ θ, fz_md tm b θ → fz_sb θ (tm x) = fz_sb θ (tm y) ∨ ∃ a1 a2 b1 b2, a1 < 48 ∧ a2 < 48 ∧ b1 < 48 ∧ b2 < 48 ∧ fz_sb θ (tm x) = .op (fz_sb θ (tm a1)) (fz_sb θ (tm a2)) ∧ fz_sb θ (tm y) = .op (fz_sb θ (tm b1)) (fz_sb θ (tm b2)) ∧ fz_sn ps (48 * a1 + b1) = true ∧ fz_sn ps (48 * a2 + b2) = true
def fz_CL (tm : Nat → fz_T) (b : Nat → Int32) (P : Nat → Nat → Prop) (k : Nat) (st : Nat → Int32) (ps : Nat → Int64) : Prop :=
  ∀ x y, x < 48 → y < 48 → fz_sn ps (48 * x + y) = true → (∃ i, i < k ∧ st i = nI (48 * x + y)) ∨ fz_c1 tm b ps x y ∨ P x y
def fz_J1 (tm : Nat → fz_T) (Q : (Nat → fz_T) → Prop) (b : Nat → Int32) (ps : Nat → Int64) : Prop :=
  ∀ θ, Q θ → fz_md tm b θ ∧ ∀ x y, x < 48 → y < 48 → fz_sn ps (48 * x + y) = true → fz_sb θ (tm x) = fz_sb θ (tm y)
def fz_no : Nat → Nat → Prop := fun _ _ => False
def fz_is (x y : Nat) : Nat → Nat → Prop := fun a b => a = x ∧ b = y
theorem fz_PI_le {s k : Nat} (h : fz_PI n A B s k st ps) : s + k ≤ 2304 := by
  obtain ⟨_, L, h1, h2, h3⟩ := h
  have := List.Nodup.length_le_of_subset (l₂ := List.range 2304) h1 (fun m hm => List.mem_range.mpr (h2 m hm).1)
  rw [List.length_range] at this
  omega
theorem fz_c1_ps {b : Nat → Int32} {ps' : Nat → Int64} (hp : ∀ m, fz_sn ps m = true → fz_sn ps' m = true) {x y : Nat} (h : fz_c1 tm b ps x y) : fz_c1 tm b ps' x y := by
  intro θ hθ
  rcases h θ hθ with e | ⟨a1, a2, b1, b2, l1, l2, l3, l4, e1, e2, s1, s2⟩
  · exact Or.inl e
  · exact Or.inr ⟨a1, a2, b1, b2, l1, l2, l3, l4, e1, e2, hp _ s1, hp _ s2⟩
theorem fz_c1_md {b b' : Nat → Int32} (hp : ∀ θ, fz_md tm b' θ → fz_md tm b θ) {x y : Nat} (h : fz_c1 tm b ps x y) : fz_c1 tm b' ps x y := fun θ hθ => h θ (hp θ hθ)
theorem fz_CL_md {b b' : Nat → Int32} {P : Nat → Nat → Prop} {k : Nat} (hp : ∀ θ, fz_md tm b' θ → fz_md tm b θ) (h : fz_CL tm b P k st ps) : fz_CL tm b' P k st ps := by
  intro x y hx hy hs
  rcases h x y hx hy hs with q | q | q
  · exact Or.inl q
  · exact Or.inr (Or.inl (fz_c1_md hp q))
  · exact Or.inr (Or.inr q)
theorem fz_CL_done {b : Nat → Int32} {x y k : Nat} (h : fz_CL tm b (fz_is x y) k st ps) (hc : fz_c1 tm b ps x y) : fz_CL tm b fz_no k st ps := by
  intro x' y' hx hy hs
  rcases h x' y' hx hy hs with q | q | ⟨rfl, rfl⟩
  · exact Or.inl q
  · exact Or.inr (Or.inl q)
  · exact Or.inr (Or.inl hc)
/-- pop -/
theorem fz_popI {s k : Nat} (h : fz_PI n A B s (k + 1) st ps) : ∃ x y, x < n ∧ y < n ∧ A x ∧ B y ∧ st k = nI (48 * x + y) ∧ fz_sn ps (48 * x + y) = true ∧ fz_PI n A B (s + 1) k st ps := by
  obtain ⟨h1, L, l1, l2, l3⟩ := h
  obtain ⟨x, y, hx, hy, a, b', e, hs⟩ := h1 k (by omega)
  exact ⟨x, y, hx, hy, a, b', e, hs, ⟨fun i hi => h1 i (by omega), L, l1, l2, by omega⟩⟩
theorem fz_popC {k x y : Nat} {b : Nat → Int32} (hx : x < 48) (hy : y < 48) (e : st k = nI (48 * x + y)) (hc : fz_CL tm b fz_no (k + 1) st ps) : fz_CL tm b (fz_is x y) k st ps := by
  intro x' y' hx' hy' hs'
  rcases hc x' y' hx' hy' hs' with ⟨i, hi, ei⟩ | q | q
  · by_cases z : i = k
    · subst z
      rw [e] at ei
      have := (nI_eq (by omega) (by omega)).mp ei
      exact Or.inr (Or.inr ⟨by omega, by omega⟩)
    · exact Or.inl ⟨i, by omega, ei⟩
  · exact Or.inr (Or.inl q)
  · exact q.elim
/-- push -/
theorem fz_pushI {post : SX → Prop} {x y s k : Nat} {P : Nat → Nat → Prop} {b : Nat → Int32} {Q : (Nat → fz_T) → Prop} (hn : n ≤ 48) (hx : x < n) (hy : y < n) (ha : A x) (hb : B y) (hI : fz_PI n A B s k st ps) (hc : fz_CL tm b P k st ps) (hj : fz_J1 tm Q b ps) (he : ∀ θ, Q θ → fz_sb θ (tm x) = fz_sb θ (tm y))
    (H : ∀ (k' : Nat) (st' : Nat → Int32) (ps' : Nat → Int64), fz_PI n A B s k' st' ps' → fz_CL tm b P k' st' ps' → fz_J1 tm Q b ps' → (∀ m, fz_sn ps m = true → fz_sn ps' m = true) → fz_sn ps' (48 * x + y) = true → post (fv, fc, fg, fe, fd, ft, pl, aw, az, tc, nI k', so, sc, ki, fi, se, si, ins, cn, rc, rl, rr, gt, gx, gy, gf, ex, ey, dx, dy, bi, go, df, tw, tl, st', ps', ws, mg, mr, mt, mp, ma, mz, ch, is, sl, re)) : wpX_pushPair post (fv, fc, fg, fe, fd, ft, pl, aw, az, tc, nI k, so, sc, ki, fi, se, si, ins, cn, rc, rl, rr, gt, gx, gy, gf, ex, ey, dx, dy, bi, go, df, tw, tl, st, ps, ws, mg, mr, mt, mp, ma, mz, ch, is, sl, re) (nI x) (nI y) := by
  refine fz_push (k := k) (by omega) (by omega) (fun q => H k st ps hI hc hj (fun _ z => z) q) (fun q => ?_)
  have hm : 48 * x + y < 2304 := by omega
  obtain ⟨h1, L, l1, l2, l3⟩ := hI
  have hnd : ((48 * x + y) :: L).Nodup := List.nodup_cons.mpr ⟨fun z => by rw [(l2 _ z).2] at q; exact Bool.noConfusion q, l1⟩
  have hlen : s + k + 1 ≤ 2304 := by
    have := List.Nodup.length_le_of_subset (l₂ := List.range 2304) hnd (fun m hm' => List.mem_range.mpr (by
      rcases List.mem_cons.mp hm' with z | z
      · rw [z]; exact hm
      · exact (l2 m z).1))
    rw [List.length_range, List.length_cons] at this
    omega
  refine ⟨by omega, fun ps' h => ?_⟩
  have hup : ∀ m, fz_sn ps m = true → fz_sn ps' m = true := fun m z => by rw [h m, z]; rfl
  have hnew : fz_sn ps' (48 * x + y) = true := by rw [h]; simp
  refine H (k + 1) _ ps' ⟨fun i hi => ?_, (48 * x + y) :: L, hnd, fun m hm' => ?_, by rw [List.length_cons]; omega⟩ (fun x' y' hx' hy' hs' => ?_) (fun θ hθ => ⟨(hj θ hθ).1, fun x' y' hx' hy' hs' => ?_⟩) hup hnew
  · by_cases z : i = k
    · exact ⟨x, y, hx, hy, ha, hb, if_pos z, hnew⟩
    · obtain ⟨x', y', g1, g2, g3, g4, g5, g6⟩ := h1 i (by omega)
      exact ⟨x', y', g1, g2, g3, g4, (if_neg z).trans g5, hup _ g6⟩
  · rcases List.mem_cons.mp hm' with z | z
    · rw [z]; exact ⟨hm, hnew⟩
    · exact ⟨(l2 m z).1, hup m (l2 m z).2⟩
  · by_cases z : 48 * x' + y' = 48 * x + y
    · exact Or.inl ⟨k, by omega, (if_pos rfl).trans (by rw [z])⟩
    · have hs2 : fz_sn ps (48 * x' + y') = true := by
        rw [h] at hs'
        simpa [z] using hs'
      rcases hc x' y' hx' hy' hs2 with ⟨i, hi, ei⟩ | g | g
      · exact Or.inl ⟨i, by omega, (if_neg (by omega)).trans ei⟩
      · exact Or.inr (Or.inl (fz_c1_ps hup g))
      · exact Or.inr (Or.inr g)
  · by_cases z : 48 * x' + y' = 48 * x + y
    · have e1 : x' = x := by omega
      have e2 : y' = y := by omega
      rw [e1, e2]; exact he θ hθ
    · have hs2 : fz_sn ps (48 * x' + y') = true := by
        rw [h] at hs'
        simpa [z] using hs'
      exact (hj θ hθ).2 x' y' hx' hy' hs2
/-- the first couple -/
theorem fz_PI_0 {x y : Nat} (hx : x < n) (hy : y < n) (hn : n ≤ 48) (ha : A x) (hb : B y) (h1 : ∀ m, m < 2304 → fz_sn ps m = decide (m = 48 * x + y)) (h2 : st 0 = nI (48 * x + y)) {b : Nat → Int32} {Q : (Nat → fz_T) → Prop} (hq : ∀ θ, Q θ → fz_md tm b θ ∧ fz_sb θ (tm x) = fz_sb θ (tm y)) : fz_PI n A B 0 1 st ps ∧ fz_CL tm b fz_no 1 st ps ∧ fz_J1 tm Q b ps ∧ fz_sn ps (48 * x + y) = true := by
  have h0 : fz_sn ps (48 * x + y) = true := by rw [h1 _ (by omega)]; simp
  have hu : ∀ x' y', x' < 48 → y' < 48 → fz_sn ps (48 * x' + y') = true → x' = x ∧ y' = y := fun x' y' hx' hy' hs => by
    rw [h1 _ (by omega)] at hs
    have := of_decide_eq_true hs
    exact ⟨by omega, by omega⟩
  refine ⟨⟨fun i hi => ⟨x, y, hx, hy, ha, hb, by rw [show i = 0 by omega]; exact h2, h0⟩, [48 * x + y], List.nodup_cons.mpr ⟨List.not_mem_nil, List.nodup_nil⟩, fun m hm => ?_, rfl⟩, fun x' y' hx' hy' hs => ?_, fun θ hθ => ⟨(hq θ hθ).1, fun x' y' hx' hy' hs => ?_⟩, h0⟩
  · rw [List.mem_singleton.mp hm]; exact ⟨by omega, h0⟩
  · obtain ⟨rfl, rfl⟩ := hu x' y' hx' hy' hs
    exact Or.inl ⟨0, by omega, h2⟩
  · obtain ⟨rfl, rfl⟩ := hu x' y' hx' hy' hs
    exact (hq θ hθ).2
/-- an empty stack: every seen couple is equal in every model -/
theorem fz_end {b : Nat → Int32} {x y : Nat} (hx : x < 48) (hy : y < 48) (hc : fz_CL tm b fz_no 0 st ps) (hs : fz_sn ps (48 * x + y) = true) : ∀ θ, fz_md tm b θ → fz_sb θ (tm x) = fz_sb θ (tm y) := by
  intro θ hθ
  refine fz_closed (fun a b => a < 48 ∧ b < 48 ∧ fz_sn ps (48 * a + b) = true) (fun x' y' h => ?_) x y ⟨hx, hy, hs⟩
  obtain ⟨h1, h2, h3⟩ := h
  rcases hc x' y' h1 h2 h3 with ⟨i, hi, _⟩ | g | g
  · omega
  · rcases g θ hθ with e | ⟨a1, a2, b1, b2, l1, l2, l3, l4, e1, e2, s1, s2⟩
    · exact Or.inl e
    · exact Or.inr ⟨a1, a2, b1, b2, e1, e2, ⟨l1, l3, s1⟩, ⟨l2, l4, s2⟩⟩
  · exact g.elim
/-- two cells that are no variables, not both pairs, and not the same -/
theorem fz_clash (hC : fz_CX n nv ki fi se ins cn tm) {a b : Nat} (ha : a < n) (hb : b < n) (hne : tm a ≠ tm b) (k1 : ¬ ki a = 1) (k2 : ¬ ki b = 1) (k3 : ¬ (ki a = 2 ∧ ki b = 2)) (θ : Nat → fz_T) : fz_sb θ (tm a) ≠ fz_sb θ (tm b) := by
  rcases hC.2.2.1 a ha with ⟨e, k, hk, _, t1⟩ | ⟨e, _⟩ | ⟨e, p, q, _, _, _, _, t1⟩
  · rcases hC.2.2.1 b hb with ⟨e', k', hk', _, t2⟩ | ⟨e', _⟩ | ⟨e', p', q', _, _, _, _, t2⟩
    · intro z
      rw [t1, t2, fz_sb_a θ (by omega), fz_sb_a θ (by omega)] at z
      exact hne (by rw [t1, t2]; exact z)
    · exact absurd e' k2
    · intro z
      rw [t1, t2, fz_sb_a θ (by omega), fz_sb_op] at z
      exact Lean.Data.AC.Expr.noConfusion z
  · exact absurd e k1
  · rcases hC.2.2.1 b hb with ⟨e', k', hk', _, t2⟩ | ⟨e', _⟩ | ⟨e', p', q', _, _, _, _, t2⟩
    · intro z
      rw [t1, t2, fz_sb_a θ (s := k' + 1) (by omega), fz_sb_op] at z
      exact Lean.Data.AC.Expr.noConfusion z
    · exact absurd e' k2
    · exact absurd ⟨e, e'⟩ k3
end
end
section
/-! unify -/
def fz_AB (tm : Nat → fz_T) (A B : Nat → Prop) : Prop :=
  (∀ c, B c → A c) ∧ (∀ c a b, tm c = .op (tm a) (tm b) → A c → A a ∧ A b) ∧ (∀ c a b, tm c = .op (tm a) (tm b) → B c → B a ∧ B b) ∧ (∀ c v a, tm c = .var (100 + v) → B c → A a → B a)
section
variable {n nv : Nat} {tm : Nat → fz_T} {A B : Nat → Prop}
variable {fv fc fg fe fd ft pl aw az tc pt so sc : Int32} {ki fi se si ins cn rc rl rr gt gx gy gf ex ey dx dy bi go df tw tl st : Nat → Int32} {ps : Nat → Int64} {ws mg mr mt mp ma mz ch is sl re : Nat → Int32}
theorem fz_nz48 : ¬ (48 : Int32) = 0 := by decide
theorem fz_unify_l {post : Int32 → SX → Prop} (hC : fz_CX n nv ki fi se ins cn tm) (hAB : fz_AB tm A B) {t0 x0 y0 : Nat} {a0 z0 c0 : Int32} {w0 l0 b0 d0 : Nat → Int32} (hx0 : x0 < 48) (hy0 : y0 < 48)
    (H1 : ∀ (tt k : Nat) (aw az tc : Int32) (bi go df tw tl st : Nat → Int32) (ps : Nat → Int64), fz_go t0 a0 z0 c0 w0 l0 b0 d0 tt aw az tc tw tl bi df → fz_bw n B bi → fz_ac tm bi → (∀ θ, fz_md tm bi θ ↔ (fz_md tm b0 θ ∧ fz_sb θ (tm x0) = fz_sb θ (tm y0))) → post 1 (fv, fc, fg, fe, fd, nI tt, pl, aw, az, tc, nI k, so, sc, ki, fi, se, si, ins, cn, rc, rl, rr, gt, gx, gy, gf, ex, ey, dx, dy, bi, go, df, tw, tl, st, ps, ws, mg, mr, mt, mp, ma, mz, ch, is, sl, re))
    (H0 : ∀ (tt k : Nat) (aw az tc : Int32) (bi go df tw tl st : Nat → Int32) (ps : Nat → Int64), fz_go t0 a0 z0 c0 w0 l0 b0 d0 tt aw az tc tw tl bi df → (∀ θ, ¬ (fz_md tm b0 θ ∧ fz_sb θ (tm x0) = fz_sb θ (tm y0))) → post 0 (fv, fc, fg, fe, fd, nI tt, pl, aw, az, tc, nI k, so, sc, ki, fi, se, si, ins, cn, rc, rl, rr, gt, gx, gy, gf, ex, ey, dx, dy, bi, go, df, tw, tl, st, ps, ws, mg, mr, mt, mp, ma, mz, ch, is, sl, re)) :
    ∀ (j s tt k : Nat) (aw az tc : Int32) (bi go df tw tl st : Nat → Int32) (ps : Nat → Int64), s + j = 2304 → fz_PI n A B s k st ps → fz_CL tm bi fz_no k st ps → fz_J1 tm (fun θ => fz_md tm b0 θ ∧ fz_sb θ (tm x0) = fz_sb θ (tm y0)) bi ps → fz_sn ps (48 * x0 + y0) = true → fz_bw n B bi → fz_ac tm bi → tt + 3 * fz_ub bi ≤ 500 → (∀ θ, fz_md tm bi θ → fz_md tm b0 θ) → fz_go t0 a0 z0 c0 w0 l0 b0 d0 tt aw az tc tw tl bi df → wX_unify_8 post (j + 1) (nI s) fv fc fg fe fd (nI tt) pl aw az tc (nI k) so sc ki fi se si ins cn rc rl rr gt gx gy gf ex ey dx dy bi go df tw tl st ps ws mg mr mt mp ma mz ch is sl re := by
  have hn := hC.1
  have hnv := hC.2.1
  have done : ∀ (s tt k : Nat) (aw az tc : Int32) (bi go df tw tl st : Nat → Int32) (ps : Nat → Int64), k = 0 → fz_CL tm bi fz_no k st ps → fz_J1 tm (fun θ => fz_md tm b0 θ ∧ fz_sb θ (tm x0) = fz_sb θ (tm y0)) bi ps → fz_sn ps (48 * x0 + y0) = true → fz_bw n B bi → fz_ac tm bi → (∀ θ, fz_md tm bi θ → fz_md tm b0 θ) → fz_go t0 a0 z0 c0 w0 l0 b0 d0 tt aw az tc tw tl bi df → post 1 (fv, fc, fg, fe, fd, nI tt, pl, aw, az, tc, nI k, so, sc, ki, fi, se, si, ins, cn, rc, rl, rr, gt, gx, gy, gf, ex, ey, dx, dy, bi, go, df, tw, tl, st, ps, ws, mg, mr, mt, mp, ma, mz, ch, is, sl, re) := by
    intro s tt k aw az tc bi go df tw tl st ps hk hcl hj hs hb ha hm hg
    subst hk
    exact H1 tt 0 aw az tc bi go df tw tl st ps hg hb ha (fun θ => ⟨fun q => ⟨hm θ q, fz_end hx0 hy0 hcl hs θ q⟩, fun q => (hj θ q).1⟩)
  intro j
  induction j with
  | zero =>
    intro s tt k aw az tc bi go df tw tl st ps hsj hI hcl hj hs hb ha htt hm hg
    have hle := fz_PI_le hI
    exact br_t (nI_le (a := 2304) (by omega) (by omega)) (done s tt k aw az tc bi go df tw tl st ps (by omega) hcl hj hs hb ha hm hg)
  | succ j ih =>
    intro s tt k aw az tc bi go df tw tl st ps hsj hI hcl hj hs hb ha htt hm hg
    have hle := fz_PI_le hI
    refine br_f (nI_ge (b := 2304) (by omega) (by decide)) ?_
    cases k with
    | zero => exact br_t (by decide) (done s tt 0 aw az tc bi go df tw tl st ps rfl hcl hj hs hb ha hm hg)
    | succ k =>
      obtain ⟨x, y, hx, hy, hAx, hBy, est, hsn, hI'⟩ := fz_popI hI
      have hcl' := fz_popC (by omega) (by omega) est hcl
      have hub := fz_ub_le bi
      refine br_f (nI_nle (by omega) (by omega)) (nm_r (nI_pred k) (And.intro (vp_in_nI (by omega) (by omega)) (nm_r (e' := nI (48 * x + y)) (by rw [nI_clamp (by omega)]; exact est) (And.intro fz_nz48 ?_))))
      have ed : nI (48 * x + y) / 48 = nI x := by
        rw [show nI (48 * x + y) / 48 = nI ((48 * x + y) / 48) from pk_div (a := 48 * x + y) (d := 48) (by omega) (by omega) (by omega)]
        congr 1; omega
      have er : nI (48 * x + y) - nI (48 * x + y) / 48 * 48 = nI y := by
        rw [show nI (48 * x + y) - nI (48 * x + y) / 48 * 48 = nI ((48 * x + y) % 48) from pk_rem (a := 48 * x + y) (d := 48) (by omega) (by omega) (by omega)]
        congr 1; omega
      rw [ed] at er
      rw [ed]
      obtain ⟨a, ha1, ha2, ha3, ha4, ha5⟩ := fz_follow (fv := fv) (fc := fc) (fg := fg) (fe := fe) (fd := fd) (ft := nI tt) (pl := pl) (aw := aw) (az := az) (tc := tc) (pt := nI k) (so := so) (sc := sc) (ki := ki) (fi := fi) (se := se) (si := si) (ins := ins) (cn := cn) (rc := rc) (rl := rl) (rr := rr) (gt := gt) (gx := gx) (gy := gy) (gf := gf) (ex := ex) (ey := ey) (dx := dx) (dy := dy) (bi := bi) (go := go) (df := df) (tw := tw) (tl := tl) (st := st) (ps := ps) (ws := ws) (mg := mg) (mr := mr) (mt := mt) (mp := mp) (ma := ma) (mz := mz) (ch := ch) (is := is) (sl := sl) (re := re) hC hb ha hx
      obtain ⟨b, hb1, hb2, hb3, hb4, hb5⟩ := fz_follow (fv := fv) (fc := fc) (fg := fg) (fe := fe) (fd := fd) (ft := nI tt) (pl := pl) (aw := aw) (az := az) (tc := tc) (pt := nI k) (so := so) (sc := sc) (ki := ki) (fi := fi) (se := se) (si := si) (ins := ins) (cn := cn) (rc := rc) (rl := rl) (rr := rr) (gt := gt) (gx := gx) (gy := gy) (gf := gf) (ex := ex) (ey := ey) (dx := dx) (dy := dy) (bi := bi) (go := go) (df := df) (tw := tw) (tl := tl) (st := st) (ps := ps) (ws := ws) (mg := mg) (mr := mr) (mt := mt) (mp := mp) (ma := ma) (mz := mz) (ch := ch) (is := is) (sl := sl) (re := re) hC hb ha hy
      refine ha5 _ (And.intro fz_nz48 ?_)
      rw [er]
      refine hb5 _ ?_
      have hAa : A a := ha3.elim (fun q => by rw [q]; exact hAx) (fun q => hAB.1 a q)
      have hBb : B b := hb3.elim (fun q => by rw [q]; exact hBy) id
      have ia : vp_in (nI a) 48 := vp_in_nI (by omega) (by omega)
      have ib : vp_in (nI b) 48 := vp_in_nI (by omega) (by omega)
      have ca : (nI a).toNatClampNeg = a := nI_clamp (by omega)
      have cb : (nI b).toNatClampNeg = b := nI_clamp (by omega)
      have hxy : ∀ θ, (fz_md tm b0 θ ∧ fz_sb θ (tm x0) = fz_sb θ (tm y0)) → fz_sb θ (tm a) = fz_sb θ (tm b) := fun θ q => by
        have h1 := hj θ q
        rw [← ha2 θ h1.1, ← hb2 θ h1.1]
        exact h1.2 x y (by omega) (by omega) hsn
      refine And.intro ia (And.intro ib ?_)
      by_cases hcn : cn a = cn b
      · refine br_t (by rw [ca, cb]; exact hcn) (nm_r (nI_1 s) ?_)
        have et := (hC.2.2.2.2 a b ha1 hb1).mp hcn
        exact ih (s + 1) tt k aw az tc bi go df tw tl st ps (by omega) hI' (fz_CL_done hcl' (fun θ hθ => Or.inl (by rw [ha2 θ hθ, hb2 θ hθ, et]))) hj hs hb ha htt hm hg
      · have hne : tm a ≠ tm b := fun q => hcn ((hC.2.2.2.2 a b ha1 hb1).mpr q)
        refine br_f (by rw [ca, cb]; exact hcn) (And.intro ia ?_)
        by_cases ka : ki a = 1
        · obtain ⟨v, hv, efa, eta, fv0⟩ := ha4 ka
          refine br_t (by rw [ca]; exact ka) ?_
          refine fz_bind (tt := tt) hC hb ha ha1 hb1 hv efa fv0 hb4 (fun q => hne (by rw [eta, q])) (by omega) ?_ ?_
          · intro tt' aw' az' tc' go' df' tw' tl' hg' ha'
            refine br_f (by decide) (nm_r (nI_1 s) ?_)
            have hmu : ∀ θ, fz_md tm (upd bi v (nI b)) θ ↔ fz_md tm bi θ ∧ θ v = fz_sb θ (tm b) := fun θ => fz_md_upd (by omega) (by omega) fv0
            refine ih (s + 1) tt' k aw' az' tc' _ go' df' tw' tl' st ps (by omega) hI' (fz_CL_done (fz_CL_md (fun θ q => ((hmu θ).mp q).1) hcl') (fun θ hθ => Or.inl ?_)) (fun θ q => ⟨(hmu θ).mpr ⟨(hj θ q).1, ?_⟩, (hj θ q).2⟩) hs (fz_bw_upd hb hb1 hBb) ha' ?_ (fun θ q => hm θ ((hmu θ).mp q).1) (fz_go_tr hg hg')
            · have := (hmu θ).mp hθ
              rw [ha2 θ this.1, hb2 θ this.1, eta, fz_sb_v]; exact this.2
            · have := hxy θ q
              rw [eta, fz_sb_v] at this; exact this
            · have := hg'.2.1; omega
          · intro hf
            refine br_t rfl (H0 tt k aw az tc bi go df tw tl st ps hg (fun θ q => hf θ (hj θ q).1 ?_))
            have := hxy θ q
            rw [eta, fz_sb_v] at this; exact this
        · refine br_f (by rw [ca]; exact ka) (And.intro ib ?_)
          by_cases kb : ki b = 1
          · obtain ⟨v, hv, efb, etb, fv0⟩ := hb4 kb
            refine br_t (by rw [cb]; exact kb) ?_
            refine fz_bind (tt := tt) hC hb ha hb1 ha1 hv efb fv0 ha4 (fun q => hne (by rw [etb, q])) (by omega) ?_ ?_
            · intro tt' aw' az' tc' go' df' tw' tl' hg' ha'
              refine br_f (by decide) (nm_r (nI_1 s) ?_)
              have hmu : ∀ θ, fz_md tm (upd bi v (nI a)) θ ↔ fz_md tm bi θ ∧ θ v = fz_sb θ (tm a) := fun θ => fz_md_upd (by omega) (by omega) fv0
              refine ih (s + 1) tt' k aw' az' tc' _ go' df' tw' tl' st ps (by omega) hI' (fz_CL_done (fz_CL_md (fun θ q => ((hmu θ).mp q).1) hcl') (fun θ hθ => Or.inl ?_)) (fun θ q => ⟨(hmu θ).mpr ⟨(hj θ q).1, ?_⟩, (hj θ q).2⟩) hs (fz_bw_upd hb ha1 (hAB.2.2.2 b v a etb hBb hAa)) ha' ?_ (fun θ q => hm θ ((hmu θ).mp q).1) (fz_go_tr hg hg')
              · have := (hmu θ).mp hθ
                rw [ha2 θ this.1, hb2 θ this.1, etb, fz_sb_v]; exact this.2.symm
              · have := hxy θ q
                rw [etb, fz_sb_v] at this; exact this.symm
              · have := hg'.2.1; omega
            · intro hf
              refine br_t rfl (H0 tt k aw az tc bi go df tw tl st ps hg (fun θ q => hf θ (hj θ q).1 ?_))
              have := hxy θ q
              rw [etb, fz_sb_v] at this; exact this.symm
          · refine br_f (by rw [cb]; exact kb) (And.intro ia ?_)
            by_cases k2 : ki a = 2
            · refine br_t (by rw [ca]; exact k2) (And.intro ib ?_)
              by_cases k3 : ki b = 2
              · obtain ⟨a1, a2, la1, la2, ef1, es1, et1⟩ : ∃ a1 a2, a1 < a ∧ a2 < a ∧ fi a = nI a1 ∧ se a = nI a2 ∧ tm a = .op (tm a1) (tm a2) := by
                  rcases hC.2.2.1 a ha1 with ⟨e, _⟩ | ⟨e, _⟩ | ⟨_, p, q, h⟩
                  · rw [e] at k2; exact absurd k2 fz_k02
                  · exact absurd e ka
                  · exact ⟨p, q, h⟩
                obtain ⟨b1, b2, lb1, lb2, ef2, es2, et2⟩ : ∃ a1 a2, a1 < b ∧ a2 < b ∧ fi b = nI a1 ∧ se b = nI a2 ∧ tm b = .op (tm a1) (tm a2) := by
                  rcases hC.2.2.1 b hb1 with ⟨e, _⟩ | ⟨e, _⟩ | ⟨_, p, q, h⟩
                  · rw [e] at k3; exact absurd k3 fz_k02
                  · exact absurd e kb
                  · exact ⟨p, q, h⟩
                have hA2 := hAB.2.1 a a1 a2 et1 hAa
                have hB2 := hAB.2.2.1 b b1 b2 et2 hBb
                have hin : ∀ θ, (fz_md tm b0 θ ∧ fz_sb θ (tm x0) = fz_sb θ (tm y0)) → fz_sb θ (tm a1) = fz_sb θ (tm b1) ∧ fz_sb θ (tm a2) = fz_sb θ (tm b2) := fun θ q => by
                  have := hxy θ q
                  rw [et1, et2, fz_sb_op, fz_sb_op] at this
                  injection this with h1 h2
                  exact ⟨h1, h2⟩
                refine br_t (by rw [cb]; exact k3) (And.intro ia (And.intro ib ?_))
                rw [ca, cb, es1, es2]
                refine fz_pushI (n := n) (A := A) (B := B) (s := s + 1) (k := k) hn (by omega) (by omega) hA2.2 hB2.2 hI' hcl' hj (fun θ q => (hin θ q).2) ?_
                intro k1 st1 ps1 I1 C1 J1 U1 S1
                refine And.intro ia (And.intro ib ?_)
                rw [ef1, ef2]
                refine fz_pushI (n := n) (A := A) (B := B) (s := s + 1) (k := k1) hn (by omega) (by omega) hA2.1 hB2.1 I1 C1 J1 (fun θ q => (hin θ q).1) ?_
                intro k2' st2 ps2 I2 C2 J2 U2 S2
                refine nm_r (nI_1 s) ?_
                refine ih (s + 1) tt k2' aw az tc bi go df tw tl st2 ps2 (by omega) I2 (fz_CL_done C2 (fun θ hθ => Or.inr ⟨a1, a2, b1, b2, by omega, by omega, by omega, by omega, ?_, ?_, S2, U2 _ S1⟩)) J2 (U2 _ (U1 _ hs)) hb ha htt hm hg
                · rw [ha2 θ hθ, et1, fz_sb_op]
                · rw [hb2 θ hθ, et2, fz_sb_op]
              · refine br_f (by rw [cb]; exact k3) (H0 tt k aw az tc bi go df tw tl st ps hg (fun θ q => ?_))
                exact fz_clash hC ha1 hb1 hne ka kb (fun z => k3 z.2) θ (hxy θ q)
            · refine br_f (by rw [ca]; exact k2) (H0 tt k aw az tc bi go df tw tl st ps hg (fun θ q => ?_))
              exact fz_clash hC ha1 hb1 hne ka kb (fun z => k2 z.1) θ (hxy θ q)
theorem fz_unify {post : Int32 → SX → Prop} (hC : fz_CX n nv ki fi se ins cn tm) (hAB : fz_AB tm A B) {tt x y : Nat} (hx : x < n) (hy : y < n) (hA : A x) (hB : B y) (hb : fz_bw n B bi) (ha : fz_ac tm bi) (htt : tt + 3 * fz_ub bi ≤ 500)
    (H1 : ∀ (tt' k' : Nat) (aw' az' tc' : Int32) (bi' go' df' tw' tl' st' : Nat → Int32) (ps' : Nat → Int64), fz_go tt aw az tc tw tl bi df tt' aw' az' tc' tw' tl' bi' df' → fz_bw n B bi' → fz_ac tm bi' → (∀ θ, fz_md tm bi' θ ↔ (fz_md tm bi θ ∧ fz_sb θ (tm x) = fz_sb θ (tm y))) → post 1 (fv, fc, fg, fe, fd, nI tt', pl, aw', az', tc', nI k', so, sc, ki, fi, se, si, ins, cn, rc, rl, rr, gt, gx, gy, gf, ex, ey, dx, dy, bi', go', df', tw', tl', st', ps', ws, mg, mr, mt, mp, ma, mz, ch, is, sl, re))
    (H0 : ∀ (tt' k' : Nat) (aw' az' tc' : Int32) (bi' go' df' tw' tl' st' : Nat → Int32) (ps' : Nat → Int64), fz_go tt aw az tc tw tl bi df tt' aw' az' tc' tw' tl' bi' df' → (∀ θ, ¬ (fz_md tm bi θ ∧ fz_sb θ (tm x) = fz_sb θ (tm y))) → post 0 (fv, fc, fg, fe, fd, nI tt', pl, aw', az', tc', nI k', so, sc, ki, fi, se, si, ins, cn, rc, rl, rr, gt, gx, gy, gf, ex, ey, dx, dy, bi', go', df', tw', tl', st', ps', ws, mg, mr, mt, mp, ma, mz, ch, is, sl, re)) :
    wpX_unify post (fv, fc, fg, fe, fd, nI tt, pl, aw, az, tc, pt, so, sc, ki, fi, se, si, ins, cn, rc, rl, rr, gt, gx, gy, gf, ex, ey, dx, dy, bi, go, df, tw, tl, st, ps, ws, mg, mr, mt, mp, ma, mz, ch, is, sl, re) (nI x) (nI y) := by
  have hn := hC.1
  unfold wpX_unify
  refine fz_start (by omega) (by omega) ?_
  intro st' ps' h1 h2
  obtain ⟨I0, C0, J0, S0⟩ := fz_PI_0 (tm := tm) (n := n) (A := A) (B := B) hx hy hn hA hB h1 h2 (b := bi) (Q := fun θ => fz_md tm bi θ ∧ fz_sb θ (tm x) = fz_sb θ (tm y)) (fun θ q => q)
  refine ⟨2305, ?_⟩
  exact fz_unify_l hC hAB (by omega) (by omega) H1 H0 2304 0 tt 1 aw az tc bi go df tw tl st' ps' (by omega) I0 C0 J0 S0 hb ha htt (fun θ q => q) (fz_go_rf _ _ _ _ _ _ _ _)
end
end
section
/-! disequalities -/
def fz_q (tm : Nat → fz_T) (p q : Int32) (θ : Nat → fz_T) : Prop := fz_sb θ (tm p.toNatClampNeg) = fz_sb θ (tm q.toNatClampNeg)
theorem fz_q_nI {tm : Nat → fz_T} {x y : Nat} (hx : x < 48) (hy : y < 48) {θ : Nat → fz_T} : fz_q tm (nI x) (nI y) θ ↔ fz_sb θ (tm x) = fz_sb θ (tm y) := by
  unfold fz_q; rw [nI_clamp (by omega), nI_clamp (by omega)]
def fz_A (tm : Nat → fz_T) (gv : Nat → Prop) (c : Nat) : Prop := ∀ v, fz_oc v (tm c) → gv v
theorem fz_AB_gv (tm : Nat → fz_T) (gv : Nat → Prop) : fz_AB tm (fz_A tm gv) (fz_A tm gv) := by
  have h : ∀ c a b, tm c = .op (tm a) (tm b) → fz_A tm gv c → fz_A tm gv a ∧ fz_A tm gv b := fun c a b e q =>
    ⟨fun v z => q v (by rw [e]; exact Or.inl z), fun v z => q v (by rw [e]; exact Or.inr z)⟩
  exact ⟨fun _ q => q, h, h, fun _ _ _ _ _ q => q⟩
theorem fz_nneg {W : Int32} (h : ∀ i, bt W i = true → i < 6) : 0 ≤ W := by
  have h31 : W.toBitVec.getLsbD 31 = false := by
    cases q : bt W 31
    · exact q
    · have := h 31 q; omega
  rw [Int32.le_iff_toInt_le, Int32.toInt_zero]
  have e : W.toInt = W.toBitVec.toInt := rfl
  rw [e]
  have hm : W.toBitVec.msb = false := by rw [BitVec.msb_eq_getLsbD_last]; exact h31
  rw [BitVec.toInt_eq_msb_cond, hm]
  simp
def fz_WI (nv : Nat) (gv : Nat → Prop) (bi : Nat → Int32) (W : Int32) : Prop := (∀ i, bt W i = true → i < 6) ∧ (W = 0 ∨ ∃ v, v < nv ∧ gv v ∧ bi v = -1 ∧ bt W v = true)
theorem fz_bne {W : Int32} {v : Nat} (h : bt W v = true) : ¬ W = 0 := fun q => by rw [q, b_0] at h; exact Bool.noConfusion h
section
variable {n nv : Nat} {tm : Nat → fz_T} {gv : Nat → Prop}
variable {fv fc fg fe fd ft pl aw az tc pt so sc : Int32} {ki fi se si ins cn rc rl rr gt gx gy gf ex ey dx dy bi go df tw tl st : Nat → Int32} {ps : Nat → Int64} {ws mg mr mt mp ma mz ch is sl re : Nat → Int32}
theorem fz_u141 {post : Int32 → SX → Prop} {J : Int32 → Int32 → Int32 → Int32 → Int32 → Int32 → Int32 → Int32 → Int32 → Int32 → Int32 → Int32 → Int32 → Int32 → Int32 → (Nat → Int32) → (Nat → Int32) → (Nat → Int32) → (Nat → Int32) → (Nat → Int32) → (Nat → Int32) → (Nat → Int32) → (Nat → Int32) → (Nat → Int32) → (Nat → Int32) → (Nat → Int32) → (Nat → Int32) → (Nat → Int32) → (Nat → Int32) → (Nat → Int32) → (Nat → Int32) → (Nat → Int32) → (Nat → Int32) → (Nat → Int32) → (Nat → Int32) → (Nat → Int32) → (Nat → Int32) → (Nat → Int32) → (Nat → Int64) → (Nat → Int32) → (Nat → Int32) → (Nat → Int32) → (Nat → Int32) → (Nat → Int32) → (Nat → Int32) → (Nat → Int32) → (Nat → Int32) → (Nat → Int32) → (Nat → Int32) → (Nat → Int32) →  Prop} (hn : n ≤ 48) (hnv : nv ≤ 6) {b s : Nat} {W : Int32} (hb : b < n) (vb : ki b = 1 → ∃ v, v < nv ∧ fi b = nI v ∧ gv v ∧ bi v = -1) (hW : fz_WI nv gv bi W) (hz : ki b = 1 ∨ ¬ W = 0) (H : ∀ W', fz_WI nv gv bi W' → ¬ W' = 0 → J W' (nI (s + 1)) fv fc fg fe fd ft pl aw az tc pt so sc ki fi se si ins cn rc rl rr gt gx gy gf ex ey dx dy bi go df tw tl st ps ws mg mr mt mp ma mz ch is sl re) : wX_undecidedOn_141 post J W (nI s) (nI b) fv fc fg fe fd ft pl aw az tc pt so sc ki fi se si ins cn rc rl rr gt gx gy gf ex ey dx dy bi go df tw tl st ps ws mg mr mt mp ma mz ch is sl re := by
  have cb : (nI b).toNatClampNeg = b := nI_clamp (by omega)
  have ib : vp_in (nI b) 48 := vp_in_nI (by omega) (by omega)
  refine And.intro ib ?_
  by_cases kb : ki b = 1
  · obtain ⟨v, hv, ef, hg, hf⟩ := vb kb
    refine br_t (by rw [cb]; exact kb) (And.intro ib (nm_r (e' := W ||| ((1 : Int32) <<< (nI v &&& 31))) (by rw [cb, ef]) (nm_r (nI_1 s) ?_)))
    have hbit : bt (W ||| ((1 : Int32) <<< (nI v &&& 31))) v = true := by rw [fz_or1 W (by omega)]; simp
    refine H _ ⟨fun i q => ?_, Or.inr ⟨v, hv, hg, hf, hbit⟩⟩ (fz_bne hbit)
    rw [fz_or1 W (by omega)] at q
    simp at q
    rcases q with q | q
    · exact hW.1 i q
    · omega
  · refine br_f (by rw [cb]; exact kb) (nm_r (nI_1 s) ?_)
    exact H W hW (hz.elim (fun q => absurd q kb) id)
theorem fz_u111 {post : Int32 → SX → Prop} {J : Int32 → Int32 → Int32 → Int32 → Int32 → Int32 → Int32 → Int32 → Int32 → Int32 → Int32 → Int32 → Int32 → Int32 → Int32 → (Nat → Int32) → (Nat → Int32) → (Nat → Int32) → (Nat → Int32) → (Nat → Int32) → (Nat → Int32) → (Nat → Int32) → (Nat → Int32) → (Nat → Int32) → (Nat → Int32) → (Nat → Int32) → (Nat → Int32) → (Nat → Int32) → (Nat → Int32) → (Nat → Int32) → (Nat → Int32) → (Nat → Int32) → (Nat → Int32) → (Nat → Int32) → (Nat → Int32) → (Nat → Int32) → (Nat → Int32) → (Nat → Int32) → (Nat → Int64) → (Nat → Int32) → (Nat → Int32) → (Nat → Int32) → (Nat → Int32) → (Nat → Int32) → (Nat → Int32) → (Nat → Int32) → (Nat → Int32) → (Nat → Int32) → (Nat → Int32) → (Nat → Int32) →  Prop} (hn : n ≤ 48) (hnv : nv ≤ 6) {a b s : Nat} {W : Int32} (ha : a < n) (hb : b < n) (va : ki a = 1 → ∃ v, v < nv ∧ fi a = nI v ∧ gv v ∧ bi v = -1) (vb : ki b = 1 → ∃ v, v < nv ∧ fi b = nI v ∧ gv v ∧ bi v = -1) (hab : ki a = 1 ∨ ki b = 1) (hW : fz_WI nv gv bi W) (H : ∀ W', fz_WI nv gv bi W' → ¬ W' = 0 → J W' (nI (s + 1)) fv fc fg fe fd ft pl aw az tc pt so sc ki fi se si ins cn rc rl rr gt gx gy gf ex ey dx dy bi go df tw tl st ps ws mg mr mt mp ma mz ch is sl re) : wX_undecidedOn_111 post J W (nI s) (nI a) (nI b) fv fc fg fe fd ft pl aw az tc pt so sc ki fi se si ins cn rc rl rr gt gx gy gf ex ey dx dy bi go df tw tl st ps ws mg mr mt mp ma mz ch is sl re := by
  have ca : (nI a).toNatClampNeg = a := nI_clamp (by omega)
  have ia : vp_in (nI a) 48 := vp_in_nI (by omega) (by omega)
  by_cases hz : W = 0
  · refine br_t hz (And.intro ia ?_)
    by_cases ka : ki a = 1
    · obtain ⟨v, hv, ef, hg, hf⟩ := va ka
      have hbit : bt (W ||| ((1 : Int32) <<< (nI v &&& 31))) v = true := by rw [fz_or1 W (by omega)]; simp
      refine br_t (by rw [ca]; exact ka) (And.intro ia (nm_r (e' := W ||| ((1 : Int32) <<< (nI v &&& 31))) (by rw [ca, ef]) ?_))
      refine fz_u141 hn hnv hb vb ⟨fun i q => ?_, Or.inr ⟨v, hv, hg, hf, hbit⟩⟩ (Or.inr (fz_bne hbit)) H
      rw [fz_or1 W (by omega)] at q
      simp at q
      rcases q with q | q
      · exact hW.1 i q
      · omega
    · refine br_f (by rw [ca]; exact ka) ?_
      exact fz_u141 hn hnv hb vb hW (Or.inl (hab.elim (fun q => absurd q ka) id)) H
  · exact br_f hz (nm_r (nI_1 s) (H W hW hz))
theorem fz_undec_l {post : Int32 → SX → Prop} (hC : fz_CX n nv ki fi se ins cn tm) {x0 y0 : Nat} (hx0 : x0 < 48) (hy0 : y0 < 48) (hb : fz_bw n (fz_A tm gv) bi) (ha : fz_ac tm bi)
    (Hm : (∀ θ, fz_md tm bi θ → ¬ fz_sb θ (tm x0) = fz_sb θ (tm y0)) → ∀ (k : Nat) (st : Nat → Int32) (ps : Nat → Int64), post (-1) (fv, fc, fg, fe, fd, ft, pl, aw, az, tc, nI k, so, sc, ki, fi, se, si, ins, cn, rc, rl, rr, gt, gx, gy, gf, ex, ey, dx, dy, bi, go, df, tw, tl, st, ps, ws, mg, mr, mt, mp, ma, mz, ch, is, sl, re))
    (H0 : (∀ θ, fz_md tm bi θ → fz_sb θ (tm x0) = fz_sb θ (tm y0)) → ∀ (k : Nat) (st : Nat → Int32) (ps : Nat → Int64), post 0 (fv, fc, fg, fe, fd, ft, pl, aw, az, tc, nI k, so, sc, ki, fi, se, si, ins, cn, rc, rl, rr, gt, gx, gy, gf, ex, ey, dx, dy, bi, go, df, tw, tl, st, ps, ws, mg, mr, mt, mp, ma, mz, ch, is, sl, re))
    (Hw : ∀ W, fz_WI nv gv bi W → ¬ W = 0 → ∀ (k : Nat) (st : Nat → Int32) (ps : Nat → Int64), post W (fv, fc, fg, fe, fd, ft, pl, aw, az, tc, nI k, so, sc, ki, fi, se, si, ins, cn, rc, rl, rr, gt, gx, gy, gf, ex, ey, dx, dy, bi, go, df, tw, tl, st, ps, ws, mg, mr, mt, mp, ma, mz, ch, is, sl, re)) :
    ∀ (j s k : Nat) (W : Int32) (st : Nat → Int32) (ps : Nat → Int64), s + j = 2304 → fz_PI n (fz_A tm gv) (fz_A tm gv) s k st ps → (W = 0 → fz_CL tm bi fz_no k st ps) → fz_J1 tm (fun θ => fz_md tm bi θ ∧ fz_sb θ (tm x0) = fz_sb θ (tm y0)) bi ps → fz_sn ps (48 * x0 + y0) = true → fz_WI nv gv bi W → wX_undecidedOn_11 post (j + 1) W (nI s) fv fc fg fe fd ft pl aw az tc (nI k) so sc ki fi se si ins cn rc rl rr gt gx gy gf ex ey dx dy bi go df tw tl st ps ws mg mr mt mp ma mz ch is sl re := by
  have hn := hC.1
  have hnv := hC.2.1
  have hAB := fz_AB_gv tm gv
  have fin : ∀ (k : Nat) (W : Int32) (st : Nat → Int32) (ps : Nat → Int64), k = 0 → (W = 0 → fz_CL tm bi fz_no k st ps) → fz_sn ps (48 * x0 + y0) = true → fz_WI nv gv bi W → post W (fv, fc, fg, fe, fd, ft, pl, aw, az, tc, nI k, so, sc, ki, fi, se, si, ins, cn, rc, rl, rr, gt, gx, gy, gf, ex, ey, dx, dy, bi, go, df, tw, tl, st, ps, ws, mg, mr, mt, mp, ma, mz, ch, is, sl, re) := by
    intro k W st ps hk hcl hs hW
    by_cases hz : W = 0
    · have hcl' := hcl hz
      subst hk
      subst hz
      exact H0 (fz_end hx0 hy0 hcl' hs) 0 st ps
    · exact Hw W hW hz k st ps
  intro j
  induction j with
  | zero =>
    intro s k W st ps hsj hI hcl hj hs hW
    have hle := fz_PI_le hI
    exact br_t (nI_le (a := 2304) (by omega) (by omega)) (fin k W st ps (by omega) hcl hs hW)
  | succ j ih =>
    intro s k W st ps hsj hI hcl hj hs hW
    have hle := fz_PI_le hI
    refine br_f (nI_ge (b := 2304) (by omega) (by decide)) ?_
    cases k with
    | zero => exact br_t (by decide) (fin 0 W st ps rfl hcl hs hW)
    | succ k =>
      obtain ⟨x, y, hx, hy, hAx, hBy, est, hsn, hI'⟩ := fz_popI hI
      have hcl' : fz_CL tm bi (fun a b => ¬ W = 0 ∨ fz_is x y a b) k st ps := by
        intro x' y' h1 h2 h3
        by_cases hz : W = 0
        · rcases fz_popC (by omega) (by omega) est (hcl hz) x' y' h1 h2 h3 with q | q | q
          · exact Or.inl q
          · exact Or.inr (Or.inl q)
          · exact Or.inr (Or.inr (Or.inr q))
        · exact Or.inr (Or.inr (Or.inl hz))
      have fcl : ∀ (k : Nat) (st : Nat → Int32) (ps : Nat → Int64), fz_CL tm bi (fun a b => ¬ W = 0 ∨ fz_is x y a b) k st ps → fz_c1 tm bi ps x y → W = 0 → fz_CL tm bi fz_no k st ps := by
        intro k st ps h hc hz x' y' h1 h2 h3
        rcases h x' y' h1 h2 h3 with q | q | q | ⟨rfl, rfl⟩
        · exact Or.inl q
        · exact Or.inr (Or.inl q)
        · exact absurd hz q
        · exact Or.inr (Or.inl hc)
      refine br_f (nI_nle (by omega) (by omega)) (nm_r (nI_pred k) (And.intro (vp_in_nI (by omega) (by omega)) (nm_r (e' := nI (48 * x + y)) (by rw [nI_clamp (by omega)]; exact est) (And.intro fz_nz48 ?_))))
      have ed : nI (48 * x + y) / 48 = nI x := by
        rw [show nI (48 * x + y) / 48 = nI ((48 * x + y) / 48) from pk_div (a := 48 * x + y) (d := 48) (by omega) (by omega) (by omega)]
        congr 1; omega
      have er : nI (48 * x + y) - nI (48 * x + y) / 48 * 48 = nI y := by
        rw [show nI (48 * x + y) - nI (48 * x + y) / 48 * 48 = nI ((48 * x + y) % 48) from pk_rem (a := 48 * x + y) (d := 48) (by omega) (by omega) (by omega)]
        congr 1; omega
      rw [ed] at er
      rw [ed]
      obtain ⟨a, ha1, ha2, ha3, ha4, ha5⟩ := fz_follow (fv := fv) (fc := fc) (fg := fg) (fe := fe) (fd := fd) (ft := ft) (pl := pl) (aw := aw) (az := az) (tc := tc) (pt := nI k) (so := so) (sc := sc) (ki := ki) (fi := fi) (se := se) (si := si) (ins := ins) (cn := cn) (rc := rc) (rl := rl) (rr := rr) (gt := gt) (gx := gx) (gy := gy) (gf := gf) (ex := ex) (ey := ey) (dx := dx) (dy := dy) (bi := bi) (go := go) (df := df) (tw := tw) (tl := tl) (st := st) (ps := ps) (ws := ws) (mg := mg) (mr := mr) (mt := mt) (mp := mp) (ma := ma) (mz := mz) (ch := ch) (is := is) (sl := sl) (re := re) hC hb ha hx
      obtain ⟨b, hb1, hb2, hb3, hb4, hb5⟩ := fz_follow (fv := fv) (fc := fc) (fg := fg) (fe := fe) (fd := fd) (ft := ft) (pl := pl) (aw := aw) (az := az) (tc := tc) (pt := nI k) (so := so) (sc := sc) (ki := ki) (fi := fi) (se := se) (si := si) (ins := ins) (cn := cn) (rc := rc) (rl := rl) (rr := rr) (gt := gt) (gx := gx) (gy := gy) (gf := gf) (ex := ex) (ey := ey) (dx := dx) (dy := dy) (bi := bi) (go := go) (df := df) (tw := tw) (tl := tl) (st := st) (ps := ps) (ws := ws) (mg := mg) (mr := mr) (mt := mt) (mp := mp) (ma := ma) (mz := mz) (ch := ch) (is := is) (sl := sl) (re := re) hC hb ha hy
      refine ha5 _ (And.intro fz_nz48 ?_)
      rw [er]
      refine hb5 _ ?_
      have hAa : fz_A tm gv a := ha3.elim (fun q => by rw [q]; exact hAx) id
      have hBb : fz_A tm gv b := hb3.elim (fun q => by rw [q]; exact hBy) id
      have ia : vp_in (nI a) 48 := vp_in_nI (by omega) (by omega)
      have ib : vp_in (nI b) 48 := vp_in_nI (by omega) (by omega)
      have ca : (nI a).toNatClampNeg = a := nI_clamp (by omega)
      have cb : (nI b).toNatClampNeg = b := nI_clamp (by omega)
      have va : ki a = 1 → ∃ v, v < nv ∧ fi a = nI v ∧ gv v ∧ bi v = -1 := fun q => by
        obtain ⟨v, h1, h2, h3, h4⟩ := ha4 q
        exact ⟨v, h1, h2, hAa v (by rw [h3]; exact rfl), h4⟩
      have vb : ki b = 1 → ∃ v, v < nv ∧ fi b = nI v ∧ gv v ∧ bi v = -1 := fun q => by
        obtain ⟨v, h1, h2, h3, h4⟩ := hb4 q
        exact ⟨v, h1, h2, hBb v (by rw [h3]; exact rfl), h4⟩
      have hxy : ∀ θ, (fz_md tm bi θ ∧ fz_sb θ (tm x0) = fz_sb θ (tm y0)) → fz_sb θ (tm a) = fz_sb θ (tm b) := fun θ q => by
        have h1 := hj θ q
        rw [← ha2 θ h1.1, ← hb2 θ h1.1]
        exact h1.2 x y (by omega) (by omega) hsn
      refine And.intro ia (And.intro ib ?_)
      by_cases hcn : cn a = cn b
      · refine br_t (by rw [ca, cb]; exact hcn) (nm_r (nI_1 s) ?_)
        have et := (hC.2.2.2.2 a b ha1 hb1).mp hcn
        exact ih (s + 1) k W st ps (by omega) hI' (fcl k st ps hcl' (fun θ hθ => Or.inl (by rw [ha2 θ hθ, hb2 θ hθ, et]))) hj hs hW
      · have hne : tm a ≠ tm b := fun q => hcn ((hC.2.2.2.2 a b ha1 hb1).mpr q)
        have hvar : ∀ W', fz_WI nv gv bi W' → ¬ W' = 0 → wX_undecidedOn_11 post (j + 1) W' (nI (s + 1)) fv fc fg fe fd ft pl aw az tc (nI k) so sc ki fi se si ins cn rc rl rr gt gx gy gf ex ey dx dy bi go df tw tl st ps ws mg mr mt mp ma mz ch is sl re := fun W' h1 h2 =>
          ih (s + 1) k W' st ps (by omega) hI' (fun q => absurd q h2) hj hs h1
        refine br_f (by rw [ca, cb]; exact hcn) (And.intro ia ?_)
        by_cases ka : ki a = 1
        · exact br_t (by rw [ca]; exact ka) (fz_u111 hn hnv ha1 hb1 va vb (Or.inl ka) hW hvar)
        · refine br_f (by rw [ca]; exact ka) (And.intro ib ?_)
          by_cases kb : ki b = 1
          · exact br_t (by rw [cb]; exact kb) (fz_u111 hn hnv ha1 hb1 va vb (Or.inr kb) hW hvar)
          · refine br_f (by rw [cb]; exact kb) (And.intro ia ?_)
            by_cases k2 : ki a = 2
            · refine br_t (by rw [ca]; exact k2) (And.intro ib ?_)
              by_cases k3 : ki b = 2
              · obtain ⟨a1, a2, la1, la2, ef1, es1, et1⟩ : ∃ a1 a2, a1 < a ∧ a2 < a ∧ fi a = nI a1 ∧ se a = nI a2 ∧ tm a = .op (tm a1) (tm a2) := by
                  rcases hC.2.2.1 a ha1 with ⟨e, _⟩ | ⟨e, _⟩ | ⟨_, p, q, h⟩
                  · rw [e] at k2; exact absurd k2 fz_k02
                  · exact absurd e ka
                  · exact ⟨p, q, h⟩
                obtain ⟨b1, b2, lb1, lb2, ef2, es2, et2⟩ : ∃ a1 a2, a1 < b ∧ a2 < b ∧ fi b = nI a1 ∧ se b = nI a2 ∧ tm b = .op (tm a1) (tm a2) := by
                  rcases hC.2.2.1 b hb1 with ⟨e, _⟩ | ⟨e, _⟩ | ⟨_, p, q, h⟩
                  · rw [e] at k3; exact absurd k3 fz_k02
                  · exact absurd e kb
                  · exact ⟨p, q, h⟩
                have hA2 := hAB.2.1 a a1 a2 et1 hAa
                have hB2 := hAB.2.2.1 b b1 b2 et2 hBb
                have hin : ∀ θ, (fz_md tm bi θ ∧ fz_sb θ (tm x0) = fz_sb θ (tm y0)) → fz_sb θ (tm a1) = fz_sb θ (tm b1) ∧ fz_sb θ (tm a2) = fz_sb θ (tm b2) := fun θ q => by
                  have := hxy θ q
                  rw [et1, et2, fz_sb_op, fz_sb_op] at this
                  injection this with h1 h2
                  exact ⟨h1, h2⟩
                refine br_t (by rw [cb]; exact k3) (And.intro ia (And.intro ib ?_))
                rw [ca, cb, es1, es2]
                refine fz_pushI (n := n) (A := fz_A tm gv) (B := fz_A tm gv) (s := s + 1) (k := k) hn (by omega) (by omega) hA2.2 hB2.2 hI' hcl' hj (fun θ q => (hin θ q).2) ?_
                intro k1 st1 ps1 I1 C1 J1 U1 S1
                refine And.intro ia (And.intro ib ?_)
                rw [ef1, ef2]
                refine fz_pushI (n := n) (A := fz_A tm gv) (B := fz_A tm gv) (s := s + 1) (k := k1) hn (by omega) (by omega) hA2.1 hB2.1 I1 C1 J1 (fun θ q => (hin θ q).1) ?_
                intro k2' st2 ps2 I2 C2 J2 U2 S2
                refine nm_r (nI_1 s) ?_
                refine ih (s + 1) k2' W st2 ps2 (by omega) I2 (fcl k2' st2 ps2 C2 (fun θ hθ => Or.inr ⟨a1, a2, b1, b2, by omega, by omega, by omega, by omega, ?_, ?_, S2, U2 _ S1⟩)) J2 (U2 _ (U1 _ hs)) hW
                · rw [ha2 θ hθ, et1, fz_sb_op]
                · rw [hb2 θ hθ, et2, fz_sb_op]
              · refine br_f (by rw [cb]; exact k3) (Hm (fun θ q z => ?_) k st ps)
                exact fz_clash hC ha1 hb1 hne ka kb (fun z => k3 z.2) θ (hxy θ ⟨q, z⟩)
            · refine br_f (by rw [ca]; exact k2) (Hm (fun θ q z => ?_) k st ps)
              exact fz_clash hC ha1 hb1 hne ka kb (fun z => k2 z.1) θ (hxy θ ⟨q, z⟩)
theorem fz_undec {post : Int32 → SX → Prop} (hC : fz_CX n nv ki fi se ins cn tm) {x y : Nat} (hx : x < n) (hy : y < n) (hA : fz_A tm gv x) (hB : fz_A tm gv y) (hb : fz_bw n (fz_A tm gv) bi) (ha : fz_ac tm bi)
    (Hm : (∀ θ, fz_md tm bi θ → ¬ fz_sb θ (tm x) = fz_sb θ (tm y)) → ∀ (k : Nat) (st : Nat → Int32) (ps : Nat → Int64), post (-1) (fv, fc, fg, fe, fd, ft, pl, aw, az, tc, nI k, so, sc, ki, fi, se, si, ins, cn, rc, rl, rr, gt, gx, gy, gf, ex, ey, dx, dy, bi, go, df, tw, tl, st, ps, ws, mg, mr, mt, mp, ma, mz, ch, is, sl, re))
    (H0 : (∀ θ, fz_md tm bi θ → fz_sb θ (tm x) = fz_sb θ (tm y)) → ∀ (k : Nat) (st : Nat → Int32) (ps : Nat → Int64), post 0 (fv, fc, fg, fe, fd, ft, pl, aw, az, tc, nI k, so, sc, ki, fi, se, si, ins, cn, rc, rl, rr, gt, gx, gy, gf, ex, ey, dx, dy, bi, go, df, tw, tl, st, ps, ws, mg, mr, mt, mp, ma, mz, ch, is, sl, re))
    (Hw : ∀ W, fz_WI nv gv bi W → ¬ W = 0 → ∀ (k : Nat) (st : Nat → Int32) (ps : Nat → Int64), post W (fv, fc, fg, fe, fd, ft, pl, aw, az, tc, nI k, so, sc, ki, fi, se, si, ins, cn, rc, rl, rr, gt, gx, gy, gf, ex, ey, dx, dy, bi, go, df, tw, tl, st, ps, ws, mg, mr, mt, mp, ma, mz, ch, is, sl, re)) :
    wpX_undecidedOn post (fv, fc, fg, fe, fd, ft, pl, aw, az, tc, pt, so, sc, ki, fi, se, si, ins, cn, rc, rl, rr, gt, gx, gy, gf, ex, ey, dx, dy, bi, go, df, tw, tl, st, ps, ws, mg, mr, mt, mp, ma, mz, ch, is, sl, re) (nI x) (nI y) := by
  have hn := hC.1
  unfold wpX_undecidedOn
  refine fz_start (by omega) (by omega) ?_
  intro st' ps' h1 h2
  obtain ⟨I0, C0, J0, S0⟩ := fz_PI_0 (tm := tm) (n := n) (A := fz_A tm gv) (B := fz_A tm gv) hx hy hn hA hB h1 h2 (b := bi) (Q := fun θ => fz_md tm bi θ ∧ fz_sb θ (tm x) = fz_sb θ (tm y)) (fun θ q => q)
  refine ⟨2305, ?_⟩
  exact fz_undec_l hC (by omega) (by omega) hb ha Hm H0 Hw 2304 0 1 0 st' ps' (by omega) I0 (fun _ => C0) J0 S0 ⟨fun i q => by rw [b_0] at q; exact Bool.noConfusion q, Or.inl rfl⟩
/-! waitOn -/
theorem fz_wait_l {post : SX → Prop} {d : Nat} (hd : d < 6) (hnv : nv ≤ 6) {M : Int32} : ∀ (j i tt : Nat) (df tw tl : Nat → Int32), i + j = nv → tt + j ≤ 500 →
    (∀ (tt' : Nat) (df' tw' tl' : Nat → Int32), fz_ex tt tw tl bi df tt' tw' tl' bi df' → tt' ≤ tt + j → (∀ v k, bt (df v) k = true → bt (df' v) k = true) → (∀ v, i ≤ v → v < nv → bt M v = true → bt (df' v) d = true) → post (nI nv, fc, fg, fe, fd, nI tt', pl, aw, az, tc, pt, so, sc, ki, fi, se, si, ins, cn, rc, rl, rr, gt, gx, gy, gf, ex, ey, dx, dy, bi, go, df', tw', tl', st, ps, ws, mg, mr, mt, mp, ma, mz, ch, is, sl, re)) →
    wX_waitOn_2 post (nI d) M (j + 1) (nI i) (nI nv) fc fg fe fd (nI tt) pl aw az tc pt so sc ki fi se si ins cn rc rl rr gt gx gy gf ex ey dx dy bi go df tw tl st ps ws mg mr mt mp ma mz ch is sl re := by
  intro j
  induction j with
  | zero =>
    intro i tt df tw tl hij htt H
    exact br_t (nI_le (by omega) (by omega)) (H tt df tw tl (fz_ex_rf _ _ _ _ _) (by omega) (fun _ _ q => q) (fun v h1 h2 => by omega))
  | succ j ih =>
    intro i tt df tw tl hij htt H
    refine br_f (nI_ge (by omega) (by omega)) ?_
    cases q : bt M i
    · refine br_t ((fz_bit (by omega)).mpr q) (nm_r (nI_1 i) ?_)
      refine ih (i + 1) tt df tw tl (by omega) (by omega) (fun tt' df' tw' tl' h1 h2 h3 h4 => H tt' df' tw' tl' h1 (by omega) h3 (fun v g1 g2 g3 => ?_))
      by_cases z : v = i
      · rw [z, q] at g3; exact Bool.noConfusion g3
      · exact h4 v (by omega) g2 g3
    · have hin : vp_in (nI i) 6 := vp_in_nI (by omega) (by omega)
      refine br_f ((fz_bitT (by omega)).mpr q) (And.intro hin ?_)
      refine fz_note (tt := tt) (by omega) ?_
      refine And.intro hin (And.intro hin (nm_r (e' := upd df i (df i ||| ((1 : Int32) <<< (nI d &&& 31)))) (by rw [nI_clamp (by omega)]) (nm_r (nI_1 i) ?_)))
      have ei : (nI i).toNatClampNeg = i := nI_clamp (by omega)
      rw [ei, show (12 : Int32) + nI i = nI (12 + i) from nI_add 12 i]
      have hmono : ∀ v k, bt (df v) k = true → bt (upd df i (df i ||| ((1 : Int32) <<< (nI d &&& 31))) v) k = true := fun v k z => by
        by_cases y : v = i
        · have e : upd df i (df i ||| ((1 : Int32) <<< (nI d &&& 31))) v = df i ||| ((1 : Int32) <<< (nI d &&& 31)) := if_pos y
          rw [e, fz_or1 _ (by omega), ← y, z]; rfl
        · have e : upd df i (df i ||| ((1 : Int32) <<< (nI d &&& 31))) v = df v := if_neg y
          rw [e]; exact z
      refine ih (i + 1) (tt + 1) _ _ _ (by omega) (by omega) (fun tt' df' tw' tl' h1 h2 h3 h4 => H tt' df' tw' tl' (fz_ex_tr (fz_ex_d (by omega)) h1) (by omega) (fun v k z => h3 v k (hmono v k z)) (fun v g1 g2 g3 => ?_))
      by_cases z : v = i
      · refine h3 v d ?_
        have e : upd df i (df i ||| ((1 : Int32) <<< (nI d &&& 31))) v = df i ||| ((1 : Int32) <<< (nI d &&& 31)) := if_pos z
        rw [e, fz_or1 _ (by omega)]; simp
      · exact h4 v (by omega) g2 g3
/-! recheck -/
def fz_DK (tm : Nat → fz_T) (nv : Nat) (gv : Nat → Prop) (bi df dx dy : Nat → Int32) (d : Nat) : Prop :=
  (∀ θ, fz_md tm bi θ → ¬ fz_q tm (dx d) (dy d) θ) ∨ ∃ v, v < nv ∧ gv v ∧ bi v = -1 ∧ bt (df v) d = true
theorem fz_DK_mono {bi df df' dx dy : Nat → Int32} {d : Nat} (h : ∀ v k, bt (df v) k = true → bt (df' v) k = true) (q : fz_DK tm nv gv bi df dx dy d) : fz_DK tm nv gv bi df' dx dy d := by
  rcases q with q | ⟨v, h1, h2, h3, h4⟩
  · exact Or.inl q
  · exact Or.inr ⟨v, h1, h2, h3, h v d h4⟩
def fz_HD (tm : Nat → fz_T) (n : Nat) (P : Nat → Prop) (ex ey : Nat → Int32) (dc : Nat) : Prop := ∀ d, d < dc → ∃ x y, x < n ∧ y < n ∧ ex d = nI x ∧ ey d = nI y ∧ P x ∧ P y
theorem fz_recheck_l {post : Int32 → SX → Prop} (hC : fz_CX n nv ki fi se ins cn tm) (hb : fz_bw n (fz_A tm gv) bi) (ha : fz_ac tm bi) {dc : Nat} (hdc : dc ≤ 6) (hD : fz_HD tm n (fz_A tm gv) dx dy dc) {M : Int32} {t0 : Nat} {w0 l0 d0 : Nat → Int32}
    (H1 : ∀ (tt : Nat) (pt : Int32) (df tw tl st : Nat → Int32) (ps : Nat → Int64), fz_ex t0 w0 l0 bi d0 tt tw tl bi df → tt ≤ t0 + 36 → (∀ v j, bt (d0 v) j = true → bt (df v) j = true) → (∀ d, d < dc → bt M d = true → fz_DK tm nv gv bi df dx dy d) → post 1 (nI nv, fc, fg, fe, nI dc, nI tt, pl, aw, az, tc, pt, so, sc, ki, fi, se, si, ins, cn, rc, rl, rr, gt, gx, gy, gf, ex, ey, dx, dy, bi, go, df, tw, tl, st, ps, ws, mg, mr, mt, mp, ma, mz, ch, is, sl, re))
    (H0 : ∀ (tt : Nat) (pt : Int32) (df tw tl st : Nat → Int32) (ps : Nat → Int64), fz_ex t0 w0 l0 bi d0 tt tw tl bi df → tt ≤ t0 + 36 → (∃ d, d < dc ∧ ∀ θ, fz_md tm bi θ → fz_q tm (dx d) (dy d) θ) → post 0 (nI nv, fc, fg, fe, nI dc, nI tt, pl, aw, az, tc, pt, so, sc, ki, fi, se, si, ins, cn, rc, rl, rr, gt, gx, gy, gf, ex, ey, dx, dy, bi, go, df, tw, tl, st, ps, ws, mg, mr, mt, mp, ma, mz, ch, is, sl, re)) (h0 : t0 ≤ 460) :
    ∀ (j i tt : Nat) (pt : Int32) (df tw tl st : Nat → Int32) (ps : Nat → Int64), i + j = dc → fz_ex t0 w0 l0 bi d0 tt tw tl bi df → tt ≤ t0 + 6 * i → (∀ v j, bt (d0 v) j = true → bt (df v) j = true) → (∀ d, d < i → bt M d = true → fz_DK tm nv gv bi df dx dy d) → wX_recheck_12 post M (j + 1) (nI i) (nI nv) fc fg fe (nI dc) (nI tt) pl aw az tc pt so sc ki fi se si ins cn rc rl rr gt gx gy gf ex ey dx dy bi go df tw tl st ps ws mg mr mt mp ma mz ch is sl re := by
  have hn := hC.1
  have hnv := hC.2.1
  intro j
  induction j with
  | zero =>
    intro i tt pt df tw tl st ps hij he hle hmo hdk
    exact br_t (nI_le (by omega) (by omega)) (H1 tt pt df tw tl st ps he (by omega) hmo (fun d hd => hdk d (by omega)))
  | succ j ih =>
    intro i tt pt df tw tl st ps hij he hle hmo hdk
    refine br_f (nI_ge (by omega) (by omega)) ?_
    cases q : bt M i
    · refine br_t ((fz_bit (by omega)).mpr q) (nm_r (nI_1 i) ?_)
      refine ih (i + 1) tt pt df tw tl st ps (by omega) he (by omega) hmo (fun d hd hM => ?_)
      by_cases z : d = i
      · rw [z, q] at hM; exact Bool.noConfusion hM
      · exact hdk d (by omega) hM
    · have hin : vp_in (nI i) 6 := vp_in_nI (by omega) (by omega)
      obtain ⟨x, y, hx, hy, ex1, ey1, hAx, hAy⟩ := hD i (by omega)
      refine br_f ((fz_bitT (by omega)).mpr q) (And.intro hin (And.intro hin ?_))
      rw [nI_clamp (n := i) (by omega), ex1, ey1]
      have qi : ∀ θ, fz_q tm (dx i) (dy i) θ ↔ fz_sb θ (tm x) = fz_sb θ (tm y) := fun θ => by rw [ex1, ey1]; exact fz_q_nI (by omega) (by omega)
      refine fz_undec hC hx hy hAx hAy hb ha ?_ ?_ ?_
      · intro hne k' st' ps'
        refine br_f (by decide) (br_f (by decide) (nm_r (nI_1 i) ?_))
        refine ih (i + 1) tt (nI k') df tw tl st' ps' (by omega) he (by omega) hmo (fun d hd hM => ?_)
        by_cases z : d = i
        · rw [z]; exact Or.inl (fun θ hθ w => hne θ hθ ((qi θ).mp w))
        · exact hdk d (by omega) hM
      · intro heq k' st' ps'
        exact br_t rfl (H0 tt (nI k') df tw tl st' ps' he (by omega) ⟨i, by omega, fun θ hθ => (qi θ).mpr (heq θ hθ)⟩)
      · intro W hW hz k' st' ps'
        refine br_f hz (br_t (fz_nneg hW.1) ⟨nv + 1, ?_⟩)
        refine fz_wait_l (nv := nv) (d := i) (by omega) hnv nv 0 tt df tw tl (by omega) (by omega) ?_
        intro tt' df' tw' tl' h1 h2 h3 h4
        refine nm_r (nI_1 i) ?_
        refine ih (i + 1) tt' (nI k') df' tw' tl' st' ps' (by omega) (fz_ex_tr he h1) (by omega) (fun v j z => h3 v j (hmo v j z)) (fun d hd hM => ?_)
        by_cases z : d = i
        · rcases hW.2 with w | ⟨v, g1, g2, g3, g4⟩
          · exact absurd w hz
          · rw [z]; exact Or.inr ⟨v, g1, g2, g3, h4 v (by omega) g1 g4⟩
        · exact fz_DK_mono h3 (hdk d (by omega) hM)
theorem fz_recheck {post : Int32 → SX → Prop} (hC : fz_CX n nv ki fi se ins cn tm) (hb : fz_bw n (fz_A tm gv) bi) (ha : fz_ac tm bi) {dc tt : Nat} (hdc : dc ≤ 6) (hD : fz_HD tm n (fz_A tm gv) dx dy dc) (h0 : tt ≤ 460)
    (H1 : ∀ (tt' : Nat) (pt' : Int32) (df' tw' tl' st' : Nat → Int32) (ps' : Nat → Int64), fz_ex tt tw tl bi df tt' tw' tl' bi df' → tt' ≤ tt + 36 → (∀ v j, bt (df v) j = true → bt (df' v) j = true) → (∀ d, d < dc → bt tc d = true → fz_DK tm nv gv bi df' dx dy d) → post 1 (nI nv, fc, fg, fe, nI dc, nI tt', pl, aw, az, 0, pt', so, sc, ki, fi, se, si, ins, cn, rc, rl, rr, gt, gx, gy, gf, ex, ey, dx, dy, bi, go, df', tw', tl', st', ps', ws, mg, mr, mt, mp, ma, mz, ch, is, sl, re))
    (H0 : ∀ (tt' : Nat) (pt' : Int32) (df' tw' tl' st' : Nat → Int32) (ps' : Nat → Int64), fz_ex tt tw tl bi df tt' tw' tl' bi df' → tt' ≤ tt + 36 → (∃ d, d < dc ∧ ∀ θ, fz_md tm bi θ → fz_q tm (dx d) (dy d) θ) → post 0 (nI nv, fc, fg, fe, nI dc, nI tt', pl, aw, az, 0, pt', so, sc, ki, fi, se, si, ins, cn, rc, rl, rr, gt, gx, gy, gf, ex, ey, dx, dy, bi, go, df', tw', tl', st', ps', ws, mg, mr, mt, mp, ma, mz, ch, is, sl, re)) :
    wpX_recheck post (nI nv, fc, fg, fe, nI dc, nI tt, pl, aw, az, tc, pt, so, sc, ki, fi, se, si, ins, cn, rc, rl, rr, gt, gx, gy, gf, ex, ey, dx, dy, bi, go, df, tw, tl, st, ps, ws, mg, mr, mt, mp, ma, mz, ch, is, sl, re) :=
  ⟨dc + 1, fz_recheck_l hC hb ha hdc hD H1 H0 h0 dc 0 tt pt df tw tl st ps (by omega) (fz_ex_rf _ _ _ _ _) (by omega) (fun _ _ q => q) (fun d hd => by omega)⟩
end
end
section
/-! goals and rows -/
def fz_HG (tm : Nat → fz_T) (n : Nat) (P : Nat → Prop) (gt gx gy : Nat → Int32) (gc : Nat) : Prop := ∀ g, g < gc → ∃ t x y, t < 4 ∧ x < n ∧ y < n ∧ gt g = nI t ∧ gx g = nI x ∧ gy g = nI y ∧ P x ∧ P y
def fz_HR (tm : Nat → fz_T) (n : Nat) (rc rl rr : Nat → Int32) : Prop := ∀ t, t < 4 → ∃ m, m ≤ 6 ∧ rc t = nI m ∧ ∀ r, r < m → ∃ x y, x < n ∧ y < n ∧ rl (6 * t + r) = nI x ∧ rr (6 * t + r) = nI y ∧ fz_gd (tm x) ∧ fz_gd (tm y)
def fz_rn (rc gt : Nat → Int32) (g : Nat) : Nat := (rc (gt g).toNatClampNeg).toNatClampNeg
def fz_mt (tm : Nat → fz_T) (rl rr gt gx gy : Nat → Int32) (g r : Nat) (θ : Nat → fz_T) : Prop :=
  fz_q tm (gx g) (rl (6 * (gt g).toNatClampNeg + r)) θ ∧ fz_q tm (gy g) (rr (6 * (gt g).toNatClampNeg + r)) θ
theorem fz_HGR {tm : Nat → fz_T} {n gc : Nat} {P : Nat → Prop} {rc rl rr gt gx gy : Nat → Int32} (hG : fz_HG tm n P gt gx gy gc) (hR : fz_HR tm n rc rl rr) {g : Nat} (hg : g < gc) : ∃ t m x y, t < 4 ∧ m ≤ 6 ∧ x < n ∧ y < n ∧ gt g = nI t ∧ gx g = nI x ∧ gy g = nI y ∧ P x ∧ P y ∧ rc t = nI m ∧ fz_rn rc gt g = m ∧ ∀ r, r < m → ∃ a b, a < n ∧ b < n ∧ rl (6 * t + r) = nI a ∧ rr (6 * t + r) = nI b ∧ fz_gd (tm a) ∧ fz_gd (tm b) := by
  obtain ⟨t, x, y, h1, h2, h3, h4, h5, h6, h7, h8⟩ := hG g hg
  obtain ⟨m, m1, m2, m3⟩ := hR t h1
  refine ⟨t, m, x, y, h1, m1, h2, h3, h4, h5, h6, h7, h8, m2, ?_, m3⟩
  unfold fz_rn
  rw [h4, nI_clamp (by omega), m2, nI_clamp (by omega)]
section
variable {n nv : Nat} {tm : Nat → fz_T} {gv : Nat → Prop}
variable {fv fc fg fe fd ft pl aw az tc pt so sc : Int32} {ki fi se si ins cn rc rl rr gt gx gy gf ex ey dx dy bi go df tw tl st : Nat → Int32} {ps : Nat → Int64} {ws mg mr mt mp ma mz ch is sl re : Nat → Int32}
/-! resetMachine -/
theorem fz_reset_l {post : SX → Prop} (H : ∀ bi' go' df' : Nat → Int32, (∀ v, v < 6 → bi' v = -1) → (∀ v, v < 6 → df' v = 0) → post (fv, fc, fg, fe, fd, 0, 0, 0, 0, 0, pt, so, sc, ki, fi, se, si, ins, cn, rc, rl, rr, gt, gx, gy, gf, ex, ey, dx, dy, bi', go', df', tw, tl, st, ps, ws, mg, mr, mt, mp, ma, mz, ch, is, sl, re)) : ∀ (j i : Nat) (bi go df : Nat → Int32), i + j = 6 → (∀ v, v < i → bi v = -1) → (∀ v, v < i → df v = 0) → wX_resetMachine_2 post fv fc fg fe fd ft pl aw az tc pt so sc (j + 1) (nI i) ki fi se si ins cn rc rl rr gt gx gy gf ex ey dx dy bi go df tw tl st ps ws mg mr mt mp ma mz ch is sl re := by
  intro j
  induction j with
  | zero =>
    intro i bi go df hij h1 h2
    have e : i = 6 := by omega
    subst e
    exact br_t (by decide) (H bi go df h1 h2)
  | succ j ih =>
    intro i bi go df hij h1 h2
    have hin : vp_in (nI i) 6 := vp_in_nI (by omega) (by omega)
    have ei : (nI i).toNatClampNeg = i := nI_clamp (by omega)
    refine br_f (nI_ge (b := 6) (by omega) (by decide)) (And.intro hin (nm_e (And.intro hin (nm_e (And.intro hin (nm_e (nm_r (nI_1 i) ?_)))))))
    rw [ei]
    refine ih (i + 1) _ _ _ (by omega) (fun v hv => ?_) (fun v hv => ?_)
    · by_cases z : v = i
      · exact if_pos z
      · exact (if_neg z).trans (h1 v (by omega))
    · by_cases z : v = i
      · exact if_pos z
      · exact (if_neg z).trans (h2 v (by omega))
theorem fz_reset {post : SX → Prop} (H : ∀ bi' go' df' : Nat → Int32, (∀ v, v < 6 → bi' v = -1) → (∀ v, v < 6 → df' v = 0) → post (fv, fc, fg, fe, fd, 0, 0, 0, 0, 0, pt, so, sc, ki, fi, se, si, ins, cn, rc, rl, rr, gt, gx, gy, gf, ex, ey, dx, dy, bi', go', df', tw, tl, st, ps, ws, mg, mr, mt, mp, ma, mz, ch, is, sl, re)) : wpX_resetMachine post (fv, fc, fg, fe, fd, ft, pl, aw, az, tc, pt, so, sc, ki, fi, se, si, ins, cn, rc, rl, rr, gt, gx, gy, gf, ex, ey, dx, dy, bi, go, df, tw, tl, st, ps, ws, mg, mr, mt, mp, ma, mz, ch, is, sl, re) :=
  ⟨7, fz_reset_l H 6 0 bi go df (by omega) (fun v hv => by omega) (fun v hv => by omega)⟩
/-! tryRow -/
theorem fz_tryRow {post : Int32 → SX → Prop} (hC : fz_CX n nv ki fi se ins cn tm) (hb : fz_bw n (fz_A tm gv) bi) (ha : fz_ac tm bi) {dc gc tt g r : Nat} (hdc : dc ≤ 6) (hD : fz_HD tm n (fz_A tm gv) dx dy dc) (hgc : gc ≤ 4) (hG : fz_HG tm n (fz_A tm gv) gt gx gy gc) (hR : fz_HR tm n rc rl rr) (hg : g < gc) (hr : r < fz_rn rc gt g) (htt : tt + 3 * fz_ub bi ≤ 460) (hDK : ∀ d, d < dc → fz_DK tm nv gv bi df dx dy d)
    (H1 : ∀ (tt' : Nat) (pt' : Int32) (pl' aw' az' : Int32) (bi' go' df' tw' tl' st' : Nat → Int32) (ps' : Nat → Int64), fz_ex tt tw tl bi df tt' tw' tl' bi' df' → tt' + 3 * fz_ub bi' ≤ tt + 3 * fz_ub bi + 36 → (∀ i, (bt pl' i || bt aw' i || bt az' i) = ((bt pl i || bt aw i || bt az i) && !decide (i = g))) → fz_bw n (fz_A tm gv) bi' → fz_ac tm bi' → (∀ θ, fz_md tm bi' θ ↔ (fz_md tm bi θ ∧ fz_mt tm rl rr gt gx gy g r θ)) → (∀ d, d < dc → fz_DK tm nv gv bi' df' dx dy d) → post 1 (nI nv, fc, fg, fe, nI dc, nI tt', pl', aw', az', 0, pt', so, sc, ki, fi, se, si, ins, cn, rc, rl, rr, gt, gx, gy, gf, ex, ey, dx, dy, bi', go', df', tw', tl', st', ps', ws, mg, mr, mt, mp, ma, mz, upd ch g (nI r), is, sl, re))
    (H0 : ∀ (tt' : Nat) (pt' : Int32) (pl' aw' az' tc' : Int32) (bi' go' df' tw' tl' st' : Nat → Int32) (ps' : Nat → Int64), fz_ex tt tw tl bi df tt' tw' tl' bi' df' → tt' ≤ tt + 3 * fz_ub bi + 36 → (∀ θ, fz_md tm bi θ → fz_mt tm rl rr gt gx gy g r θ → ∃ d, d < dc ∧ fz_q tm (dx d) (dy d) θ) → post 0 (nI nv, fc, fg, fe, nI dc, nI tt', pl', aw', az', tc', pt', so, sc, ki, fi, se, si, ins, cn, rc, rl, rr, gt, gx, gy, gf, ex, ey, dx, dy, bi', go', df', tw', tl', st', ps', ws, mg, mr, mt, mp, ma, mz, upd ch g (nI r), is, sl, re)) :
    wpX_tryRow post (nI nv, fc, fg, fe, nI dc, nI tt, pl, aw, az, tc, pt, so, sc, ki, fi, se, si, ins, cn, rc, rl, rr, gt, gx, gy, gf, ex, ey, dx, dy, bi, go, df, tw, tl, st, ps, ws, mg, mr, mt, mp, ma, mz, ch, is, sl, re) (nI g) (nI r) := by
  have hn := hC.1
  have hnv := hC.2.1
  obtain ⟨t, m, x, y, ht, hm, hx, hy, et, ex1, ey1, hAx, hAy, em, ern, hrow⟩ := fz_HGR hG hR hg
  obtain ⟨a, b, ha1, hb1, ea, eb, hga, hgb⟩ := hrow r (by omega)
  have hig : vp_in (nI g) 4 := vp_in_nI (by omega) (by omega)
  have cg : (nI g).toNatClampNeg = g := nI_clamp (by omega)
  have e6 : (6 : Int32) * nI t + nI r = nI (6 * t + r) := by
    rw [show (6 : Int32) * nI t = nI (6 * t) from pk_mul 6 t, nI_add]
  have hi24 : vp_in (nI (6 * t + r)) 24 := vp_in_nI (by omega) (by omega)
  have c24 : (nI (6 * t + r)).toNatClampNeg = 6 * t + r := nI_clamp (by omega)
  have hub := fz_ub_le bi
  have hmt : ∀ θ, fz_mt tm rl rr gt gx gy g r θ ↔ (fz_sb θ (tm x) = fz_sb θ (tm a) ∧ fz_sb θ (tm y) = fz_sb θ (tm b)) := fun θ => by
    unfold fz_mt
    rw [et, nI_clamp (n := t) (by omega), ex1, ey1, ea, eb, fz_q_nI (by omega) (by omega), fz_q_nI (by omega) (by omega)]
  have hAa : fz_A tm gv a := fun v q => absurd q (hga v)
  have hAb : fz_A tm gv b := fun v q => absurd q (hgb v)
  refine nm_e (nm_e (nm_e (nm_e (And.intro hig (nm_r (e' := nI (6 * t + r)) (by rw [cg, et]; exact e6) (And.intro hig (nm_r (e' := upd ch g (nI r)) (by rw [cg]) (And.intro hig (And.intro hi24 ?_)))))))))
  rw [cg, c24, ex1, ea]
  refine fz_unify (A := fz_A tm gv) (B := fz_A tm gv) (tt := tt) hC (fz_AB_gv tm gv) hx ha1 hAx hAa hb ha (by omega) ?_ ?_
  · intro tt1 k1 aw1 az1 tc1 bi1 go1 df1 tw1 tl1 st1 ps1 g1 b1 a1 m1
    refine br_f (by decide) (And.intro hig (And.intro hi24 ?_))
    rw [ey1, eb]
    have hub1 := fz_ub_le bi1
    have q1 := g1.2.1
    refine fz_unify (A := fz_A tm gv) (B := fz_A tm gv) (tt := tt1) hC (fz_AB_gv tm gv) hy hb1 hAy hAb b1 a1 (by omega) ?_ ?_
    · intro tt2 k2 aw2 az2 tc2 bi2 go2 df2 tw2 tl2 st2 ps2 g2 b2 a2 m2
      refine br_f (by decide) ?_
      have q2 := g2.2.1
      have g12 := fz_go_tr g1 g2
      have hmd : ∀ θ, fz_md tm bi2 θ ↔ (fz_md tm bi θ ∧ fz_mt tm rl rr gt gx gy g r θ) := fun θ => by
        rw [m2, m1, hmt]
        constructor
        · rintro ⟨⟨p1, p2⟩, p3⟩; exact ⟨p1, p2, p3⟩
        · rintro ⟨p1, p2, p3⟩; exact ⟨⟨p1, p2⟩, p3⟩
      refine fz_recheck (tt := tt2) hC b2 a2 hdc hD (by omega) ?_ ?_
      · intro tt3 pt3 df3 tw3 tl3 st3 ps3 e3 l3 o3 d3
        refine And.intro rfl ?_
        refine H1 tt3 pt3 _ aw2 az2 bi2 go2 df3 tw3 tl3 st3 ps3 (fz_ex_tr g12.1 e3) (by omega) (fun i => ?_) b2 a2 hmd (fun d hd => ?_)
        · have u := g12.2.2.1 i
          rw [fz_an1 _ (by omega), fz_an1 _ (by omega)] at u
          rw [Bool.or_assoc, u, fz_an1 _ (by omega)]
          cases bt pl i <;> cases bt aw i <;> cases bt az i <;> cases decide (i = g) <;> rfl
        · rcases hDK d hd with q | ⟨v, v1, v2, v3, v4⟩
          · exact Or.inl (fun θ hθ => q θ ((hmd θ).mp hθ).1)
          · rcases g12.2.2.2.2 v d (by omega) v3 v4 with ⟨z1, z2⟩ | z
            · exact Or.inr ⟨v, v1, v2, z1, o3 v d z2⟩
            · exact d3 d hd z
      · intro tt3 pt3 df3 tw3 tl3 st3 ps3 e3 l3 hd
        refine And.intro rfl ?_
        obtain ⟨d, hd1, hd2⟩ := hd
        exact H0 tt3 pt3 _ aw2 az2 0 bi2 go2 df3 tw3 tl3 st3 ps3 (fz_ex_tr g12.1 e3) (by omega) (fun θ hθ hm' => ⟨d, hd1, hd2 θ ((hmd θ).mpr ⟨hθ, hm'⟩)⟩)
    · intro tt2 k2 aw2 az2 tc2 bi2 go2 df2 tw2 tl2 st2 ps2 g2 n2
      have q2 := g2.2.1
      refine br_t rfl (H0 tt2 (nI k2) _ aw2 az2 tc2 bi2 go2 df2 tw2 tl2 st2 ps2 (fz_go_tr g1 g2).1 (by omega) (fun θ hθ hm' => ?_))
      have := (hmt θ).mp hm'
      exact absurd ⟨(m1 θ).mpr ⟨hθ, this.1⟩, this.2⟩ (n2 θ)
  · intro tt1 k1 aw1 az1 tc1 bi1 go1 df1 tw1 tl1 st1 ps1 g1 n1
    have q1 := g1.2.1
    refine br_t rfl (H0 tt1 (nI k1) _ aw1 az1 tc1 bi1 go1 df1 tw1 tl1 st1 ps1 g1.1 (by omega) (fun θ hθ hm' => ?_))
    exact absurd ⟨hθ, ((hmt θ).mp hm').1⟩ (n1 θ)
/-! returnTo -/
theorem fz_i32m (x : Int32) : x + (-1) = x - 1 := by
  apply Int32.toBitVec_inj.mp
  show x.toBitVec + (-1 : Int32).toBitVec = x.toBitVec - (1 : Int32).toBitVec
  rw [BitVec.sub_eq_add_neg]
  rfl
theorem fz_predlt {m : Nat} (h : m < 2 ^ 30) : nI m - 1 < nI m := by
  cases m with
  | zero => decide
  | succ m => rw [nI_pred]; exact nI_lt (by omega) (by omega)
theorem fz_ret_l {post : SX → Prop} {dp m : Nat} (hdp : dp < 5) {b0 d0 : Nat → Int32} (H : ∀ go' : Nat → Int32, post (fv, fc, fg, fe, fd, nI m, mp dp, ma dp, mz dp, 0, pt, so, sc, ki, fi, se, si, ins, cn, rc, rl, rr, gt, gx, gy, gf, ex, ey, dx, dy, b0, go', d0, tw, tl, st, ps, ws, mg, mr, mt, mp, ma, mz, ch, is, sl, re)) : ∀ (k : Nat) (bi go df : Nat → Int32), m + k ≤ 512 → fz_un tw tl m k bi df b0 d0 → wX_returnTo_14 post (nI dp) (nI m) fv fc fg fe fd ft pl aw az tc pt so sc (k + 1) (nI (m + k) - 1) ki fi se si ins cn rc rl rr gt gx gy gf ex ey dx dy bi go df tw tl st ps ws mg mr mt mp ma mz ch is sl re := by
  have hin : vp_in (nI dp) 5 := vp_in_nI (by omega) (by omega)
  have cd : (nI dp).toNatClampNeg = dp := nI_clamp (by omega)
  intro k
  induction k with
  | zero =>
    rintro bi go df hle ⟨e1, e2⟩
    subst e1; subst e2
    refine br_t (fz_predlt (by omega)) (And.intro hin (nm_r (e' := mp dp) (by rw [cd]) (And.intro hin (nm_r (e' := ma dp) (by rw [cd]) (And.intro hin (nm_r (e' := mz dp) (by rw [cd]) (H go)))))))
  | succ k ih =>
    intro bi go df hle hu
    have e0 : nI (m + (k + 1)) - 1 = nI (m + k) := nI_pred (m + k)
    rw [e0]
    have h512 : vp_in (nI (m + k)) 512 := vp_in_nI (by omega) (by omega)
    have ck : (nI (m + k)).toNatClampNeg = m + k := nI_clamp (by omega)
    refine br_f (nI_nlt (by omega) (by omega)) (And.intro h512 ?_)
    rcases hu with ⟨v, hv, e, h⟩ | ⟨v, hv, e, h⟩ | ⟨v, hv, e, h⟩
    · refine nm_r (e' := nI v) (by rw [ck]; exact e) (br_f (nI_ge (b := 6) (by omega) (by decide)) (And.intro (vp_in_nI (by omega) (by omega)) (nm_r (e' := upd bi v (-1)) (by rw [nI_clamp (by omega)]) (nm_r (fz_i32m _) ?_))))
      exact ih _ _ _ (by omega) h
    · have es : nI (6 + v) - 6 = nI v := by
        rw [show nI (6 + v) - 6 = nI (6 + v - 6) from pk_sub (a := 6 + v) (b := 6) (by omega)]
        congr 1; omega
      refine nm_r (e' := nI (6 + v)) (by rw [ck]; exact e) (br_t (nI_le (a := 6) (by omega) (by omega)) (br_f (nI_ge (b := 12) (by omega) (by decide)) (And.intro h512 ?_)))
      rw [es]
      refine And.intro (vp_in_nI (by omega) (by omega)) (nm_e (nm_r (fz_i32m _) ?_))
      exact ih _ _ _ (by omega) h
    · have es : nI (12 + v) - 12 = nI v := by
        rw [show nI (12 + v) - 12 = nI (12 + v - 12) from pk_sub (a := 12 + v) (b := 12) (by omega)]
        congr 1; omega
      refine nm_r (e' := nI (12 + v)) (by rw [ck]; exact e) (br_t (nI_le (a := 6) (by omega) (by omega)) (br_t (nI_le (a := 12) (by omega) (by omega)) (And.intro h512 ?_)))
      rw [es, ck]
      refine And.intro (vp_in_nI (by omega) (by omega)) (nm_r (e' := upd df v (tl (m + k))) (by rw [nI_clamp (by omega)]) (nm_r (fz_i32m _) ?_))
      exact ih _ _ _ (by omega) h
theorem fz_ret {post : SX → Prop} {dp m tt : Nat} (hdp : dp < 5) (hm : m ≤ tt) (ht : tt ≤ 512) (em : mt dp = nI m) {b0 d0 : Nat → Int32} (hu : fz_un tw tl m (tt - m) bi df b0 d0) (H : ∀ go' : Nat → Int32, post (fv, fc, fg, fe, fd, nI m, mp dp, ma dp, mz dp, 0, pt, so, sc, ki, fi, se, si, ins, cn, rc, rl, rr, gt, gx, gy, gf, ex, ey, dx, dy, b0, go', d0, tw, tl, st, ps, ws, mg, mr, mt, mp, ma, mz, ch, is, sl, re)) : wpX_returnTo post (fv, fc, fg, fe, fd, nI tt, pl, aw, az, tc, pt, so, sc, ki, fi, se, si, ins, cn, rc, rl, rr, gt, gx, gy, gf, ex, ey, dx, dy, bi, go, df, tw, tl, st, ps, ws, mg, mr, mt, mp, ma, mz, ch, is, sl, re) (nI dp) := by
  refine And.intro (vp_in_nI (by omega) (by omega)) (nm_r (e' := nI m) (by rw [nI_clamp (by omega)]; exact em) (nm_e ⟨tt - m + 1, ?_⟩))
  have e : tt = m + (tt - m) := by omega
  have key := fz_ret_l (ft := nI tt) (pl := pl) (aw := aw) (az := az) (tc := tc) hdp H (tt - m) bi go df (by omega) hu
  rw [← e] at key
  exact key
/-! openFrame -/
theorem fz_open54 {post : SX → Prop} {dp g : Nat} (hdp : dp < 5) (H : post (fv, fc, fg, fe, fd, ft, pl, aw, az, tc, pt, so, sc, ki, fi, se, si, ins, cn, rc, rl, rr, gt, gx, gy, gf, ex, ey, dx, dy, bi, go, df, tw, tl, st, ps, ws, upd mg dp (nI g), upd mr dp (-1), upd mt dp ft, upd mp dp pl, upd ma dp aw, upd mz dp az, ch, is, sl, re)) : wX_openFrame_54 post (nI dp) (nI g) fv fc fg fe fd ft pl aw az tc pt so sc ki fi se si ins cn rc rl rr gt gx gy gf ex ey dx dy bi go df tw tl st ps ws mg mr mt mp ma mz ch is sl re := by
  have hin : vp_in (nI dp) 5 := vp_in_nI (by omega) (by omega)
  have cd : (nI dp).toNatClampNeg = dp := nI_clamp (by omega)
  exact And.intro hin (nm_r (e' := upd mg dp (nI g)) (by rw [cd]) (And.intro hin (nm_r (e' := upd mr dp (-1)) (by rw [cd]) (And.intro hin (nm_r (e' := upd mt dp ft) (by rw [cd]) (And.intro hin (nm_r (e' := upd mp dp pl) (by rw [cd]) (And.intro hin (nm_r (e' := upd ma dp aw) (by rw [cd]) (And.intro hin (nm_r (e' := upd mz dp az) (by rw [cd]) H)))))))))))
theorem fz_open35 {post : SX → Prop} {dp : Nat} {w : Int32} : ∀ j i, i + j = 3 → (∀ k, k < i → bt w k = false) → (∃ k, k < 4 ∧ bt w k = true) → (∀ g, g < 4 → bt w g = true → wX_openFrame_54 post (nI dp) (nI g) fv fc fg fe fd ft pl aw az tc pt so sc ki fi se si ins cn rc rl rr gt gx gy gf ex ey dx dy bi go df tw tl st ps ws mg mr mt mp ma mz ch is sl re) → wX_openFrame_35 post (nI dp) w fv fc fg fe fd ft pl aw az tc pt so sc ki fi se si ins cn rc rl rr gt gx gy gf ex ey dx dy bi go df tw tl st ps ws mg mr mt mp ma mz ch is sl re (j + 1) (nI i) := by
  intro j
  induction j with
  | zero =>
    intro i hi hl hb H
    obtain ⟨k, hk, e⟩ := hb
    have hk5 : k = i := by
      rcases Nat.lt_or_ge k i with q | q
      · rw [hl k q] at e; exact Bool.noConfusion e
      · omega
    subst hk5
    exact br_t (nI_le (a := 3) (by omega) (by omega)) (H k hk e)
  | succ j ih =>
    intro i hi hl hb H
    have h5 : ¬ (3 : Int32) ≤ nI i := nI_ge (b := 3) (by omega) (by decide)
    cases e : bt w i
    · refine br_f h5 (br_t ((fz_bit (by omega)).mpr e) (nm_r (nI_1 i) ?_))
      refine ih (i + 1) (by omega) (fun k hk => ?_) hb H
      by_cases z : k = i
      · rw [z]; exact e
      · exact hl k (by omega)
    · exact br_f h5 (br_f ((fz_bitT (by omega)).mpr e) (H i (by omega) e))
theorem fz_open {post : SX → Prop} {dp : Nat} (hdp : dp < 5) {R : Nat → Prop} (hR : ∀ i, R i → i < 4) (hU : ∀ i, (bt pl i || bt aw i || bt az i) = true ↔ R i) (hne : ∃ i, R i) (H : ∀ g, R g → post (fv, fc, fg, fe, fd, ft, pl, aw, az, tc, pt, so, sc, ki, fi, se, si, ins, cn, rc, rl, rr, gt, gx, gy, gf, ex, ey, dx, dy, bi, go, df, tw, tl, st, ps, ws, upd mg dp (nI g), upd mr dp (-1), upd mt dp ft, upd mp dp pl, upd ma dp aw, upd mz dp az, ch, is, sl, re)) : wpX_openFrame post (fv, fc, fg, fe, fd, ft, pl, aw, az, tc, pt, so, sc, ki, fi, se, si, ins, cn, rc, rl, rr, gt, gx, gy, gf, ex, ey, dx, dy, bi, go, df, tw, tl, st, ps, ws, mg, mr, mt, mp, ma, mz, ch, is, sl, re) (nI dp) := by
  have sub : ∀ w : Int32, (∀ i, bt w i = true → R i) → ¬ w = 0 → ∃ n35 : Nat, wX_openFrame_35 post (nI dp) w fv fc fg fe fd ft pl aw az tc pt so sc ki fi se si ins cn rc rl rr gt gx gy gf ex ey dx dy bi go df tw tl st ps ws mg mr mt mp ma mz ch is sl re n35 0 := fun w hw hz => by
    obtain ⟨i, _, hi⟩ := fz_nz hz
    exact ⟨4, fz_open35 3 0 (by omega) (fun k hk => by omega) ⟨i, hR i (hw i hi), hi⟩ (fun g _ hg => fz_open54 hdp (H g (hw g hg)))⟩
  have sp : ∀ i, bt pl i = true → R i := fun i q => (hU i).mp (by rw [q]; rfl)
  have sa : ∀ i, bt aw i = true → R i := fun i q => (hU i).mp (by rw [q]; cases bt pl i <;> rfl)
  have sz : ∀ i, bt az i = true → R i := fun i q => (hU i).mp (by rw [q]; cases bt pl i <;> cases bt aw i <;> rfl)
  by_cases ha : aw = 0
  · refine br_t ha ?_
    by_cases hp : pl = 0
    · refine br_t hp (sub az sz (fun q => ?_))
      obtain ⟨i, hi⟩ := hne
      have := (hU i).mpr hi
      rw [ha, hp, q, b_0] at this
      exact Bool.noConfusion this
    · exact br_f hp (sub pl sp hp)
  · exact br_f ha (sub aw sa ha)
end
end
section
/-! codes: Horner -/
def fz_hn (b : Nat → Nat) (ρ : Nat → Nat) : Nat → Nat
  | 0 => 0
  | i + 1 => b i * fz_hn b ρ i + ρ i
def fz_six : Nat → Nat := fun _ => 6
theorem fz_hn_cg {b ρ ρ' : Nat → Nat} : ∀ i, (∀ g, g < i → ρ g = ρ' g) → fz_hn b ρ i = fz_hn b ρ' i := by
  intro i
  induction i with
  | zero => intro _; rfl
  | succ i ih =>
    intro h
    show b i * fz_hn b ρ i + ρ i = b i * fz_hn b ρ' i + ρ' i
    rw [ih (fun g hg => h g (by omega)), h i (by omega)]
theorem fz_hn_inj {b ρ ρ' : Nat → Nat} : ∀ i, (∀ g, g < i → ρ g < b g) → (∀ g, g < i → ρ' g < b g) → fz_hn b ρ i = fz_hn b ρ' i → ∀ g, g < i → ρ g = ρ' g := by
  intro i
  induction i with
  | zero => intro _ _ _ g hg; omega
  | succ i ih =>
    intro h1 h2 e g hg
    have e' : b i * fz_hn b ρ i + ρ i = b i * fz_hn b ρ' i + ρ' i := e
    have l1 := h1 i (by omega)
    have l2 := h2 i (by omega)
    have m1 : (b i * fz_hn b ρ i + ρ i) % b i = ρ i := by rw [Nat.mul_add_mod, Nat.mod_eq_of_lt l1]
    have m2 : (b i * fz_hn b ρ' i + ρ' i) % b i = ρ' i := by rw [Nat.mul_add_mod, Nat.mod_eq_of_lt l2]
    have er : ρ i = ρ' i := by rw [← m1, ← m2, e']
    by_cases z : g = i
    · rw [z]; exact er
    · refine ih (fun g hg => h1 g (by omega)) (fun g hg => h2 g (by omega)) ?_ g (by omega)
      have e2 : b i * fz_hn b ρ i = b i * fz_hn b ρ' i := by omega
      exact Nat.eq_of_mul_eq_mul_left (by omega) e2
theorem fz_hn_6 {ρ : Nat → Nat} : ∀ i, i ≤ 4 → (∀ g, g < i → ρ g < 6) → fz_hn fz_six ρ i < 6 ^ i := by
  intro i
  induction i with
  | zero => intro _ _; show 0 < 1; omega
  | succ i ih =>
    intro hi h
    have l1 := ih (by omega) (fun g hg => h g (by omega))
    have l2 := h i (by omega)
    show 6 * fz_hn fz_six ρ i + ρ i < 6 ^ (i + 1)
    rw [Nat.pow_succ]
    omega
theorem fz_hn_1296 {ρ : Nat → Nat} {i : Nat} (hi : i ≤ 4) (h : ∀ g, g < i → ρ g < 6) : fz_hn fz_six ρ i < 1296 := by
  have l := fz_hn_6 i hi h
  have : 6 ^ i ≤ 6 ^ 4 := Nat.pow_le_pow_right (by omega) hi
  have e : (6 : Nat) ^ 4 = 1296 := by decide
  omega
/-! what a solution is -/
def fz_sol (tm : Nat → fz_T) (gc ec dc : Nat) (rl rr gt gx gy ex ey dx dy : Nat → Int32) (ρ : Nat → Nat) : Prop :=
  ∃ θ, (∀ e, e < ec → fz_q tm (ex e) (ey e) θ) ∧ (∀ g, g < gc → fz_mt tm rl rr gt gx gy g (ρ g) θ) ∧ (∀ d, d < dc → ¬ fz_q tm (dx d) (dy d) θ)
def fz_ST (n nv gc ec dc : Nat) (tm : Nat → fz_T) (gv : Nat → Prop) (ki fi se ins cn rc rl rr gt gx gy ex ey dx dy : Nat → Int32) : Prop :=
  fz_CX n nv ki fi se ins cn tm ∧ gc ≤ 4 ∧ ec ≤ 4 ∧ dc ≤ 6 ∧ fz_HG tm n (fz_A tm gv) gt gx gy gc ∧ fz_HR tm n rc rl rr ∧ fz_HD tm n (fz_A tm gv) ex ey ec ∧ fz_HD tm n (fz_A tm gv) dx dy dc ∧
  (∀ v, gv v → v < 6 ∧ ∃ g, g < gc ∧ (fz_oc v (tm (gx g).toNatClampNeg) ∨ fz_oc v (tm (gy g).toNatClampNeg)))
def fz_NI (n nv gc ec dc : Nat) (tm : Nat → fz_T) (gv : Nat → Prop) (rc rl rr gt gx gy ex ey dx dy : Nat → Int32) (R : List Nat) (m : Nat) (b0 d0 : Nat → Int32) (pl aw az : Int32) (ch : Nat → Int32) : Prop :=
  fz_bw n (fz_A tm gv) b0 ∧ fz_ac tm b0 ∧ m + 3 * fz_ub b0 + 36 * R.length ≤ 18 + 36 * (1 + gc) ∧ (∀ θ, fz_md tm b0 θ ↔ ((∀ e, e < ec → fz_q tm (ex e) (ey e) θ) ∧ ∀ g, g < gc → g ∉ R → fz_mt tm rl rr gt gx gy g (ch g).toNatClampNeg θ)) ∧
  (∀ d, d < dc → fz_DK tm nv gv b0 d0 dx dy d) ∧ (∀ i, (bt pl i || bt aw i || bt az i) = true ↔ i ∈ R) ∧ (∀ g, g < gc → g ∉ R → ∃ r, r < fz_rn rc gt g ∧ ch g = nI r)
/-- the solutions below a node -/
def fz_new (tm : Nat → fz_T) (gc ec dc : Nat) (rc rl rr gt gx gy ex ey dx dy : Nat → Int32) (R : List Nat) (ch : Nat → Int32) (Z : (Nat → Nat) → Prop) (c : Nat) : Prop :=
  ∃ ρ, (∀ g, g < gc → ρ g < fz_rn rc gt g) ∧ fz_sol tm gc ec dc rl rr gt gx gy ex ey dx dy ρ ∧ fz_hn fz_six ρ gc = c ∧ (∀ h, h < gc → h ∉ R → ch h = nI (ρ h)) ∧ Z ρ
def fz_tc : Nat → Nat
  | 0 => 1
  | L + 1 => 6 * (1 + fz_tc L) + 1
section
variable {n nv gc ec dc : Nat} {tm : Nat → fz_T} {gv : Nat → Prop}
variable {fv fc fg fe fd ft pl aw az tc pt so sc : Int32} {ki fi se si ins cn rc rl rr gt gx gy gf ex ey dx dy bi go df tw tl st : Nat → Int32} {ps : Nat → Int64} {ws mg mr mt mp ma mz ch is sl re : Nat → Int32}
theorem fz_rn6 (hS : fz_ST n nv gc ec dc tm gv ki fi se ins cn rc rl rr gt gx gy ex ey dx dy) {g : Nat} (hg : g < gc) : fz_rn rc gt g ≤ 6 := by
  obtain ⟨t, m, x, y, _, hm, _, _, _, _, _, _, _, _, e, _⟩ := fz_HGR hS.2.2.2.2.1 hS.2.2.2.2.2.1 hg
  rw [e]; exact hm
/-- a full choice that the machine has reached is a solution -/
theorem fz_leaf (hS : fz_ST n nv gc ec dc tm gv ki fi se ins cn rc rl rr gt gx gy ex ey dx dy) {b0 d0 : Nat → Int32} (hb : fz_bw n (fz_A tm gv) b0) (ha : fz_ac tm b0) {ρ : Nat → Nat} (hm : ∀ θ, fz_md tm b0 θ ↔ ((∀ e, e < ec → fz_q tm (ex e) (ey e) θ) ∧ ∀ g, g < gc → fz_mt tm rl rr gt gx gy g (ρ g) θ)) (hd : ∀ d, d < dc → fz_DK tm nv gv b0 d0 dx dy d) (hr : ∀ g, g < gc → ρ g < fz_rn rc gt g) : fz_sol tm gc ec dc rl rr gt gx gy ex ey dx dy ρ := by
  obtain ⟨hC, hgc, hec, hdc, hG, hR, hE, hD, hgv⟩ := hS
  have hn := hC.1
  obtain ⟨θ, hθ, _⟩ := fz_model hn hb ha (fun _ => .var 0)
  have h1 := (hm θ).mp hθ
  refine ⟨θ, h1.1, h1.2, fun d hd1 => ?_⟩
  rcases hd d hd1 with q | ⟨v, v1, v2, v3, v4⟩
  · exact q θ hθ
  · obtain ⟨hv6, g, hg, ho⟩ := hgv v v2
    obtain ⟨t, m, x, y, ht, hm6, hx, hy, et, ex1, ey1, _, _, em, ern, hrow⟩ := fz_HGR hG hR hg
    obtain ⟨a, b, ha1, hb1, ea, eb, hga, hgb⟩ := hrow (ρ g) (by have := hr g hg; omega)
    have hmt : ∀ θ, fz_mt tm rl rr gt gx gy g (ρ g) θ → (fz_sb θ (tm x) = tm a ∧ fz_sb θ (tm y) = tm b) := fun θ q => by
      unfold fz_mt at q
      rw [et, nI_clamp (n := t) (by omega), ex1, ey1, ea, eb, fz_q_nI (by omega) (by omega), fz_q_nI (by omega) (by omega), fz_sb_gd θ _ hga, fz_sb_gd θ _ hgb] at q
      exact q
    rw [ex1, ey1, nI_clamp (by omega), nI_clamp (by omega)] at ho
    rcases ho with ho | ho
    · exact absurd v3 (fz_bound hn hb ha (fun θ q => (hmt θ (((hm θ).mp q).2 g hg)).1) hv6 ho)
    · exact absurd v3 (fz_bound hn hb ha (fun θ q => (hmt θ (((hm θ).mp q).2 g hg)).2) hv6 ho)
/-! keepSolution -/
theorem fz_keep {post : SX → Prop} {ρ : Nat → Nat} (hgc : gc ≤ 4) (hρ : ∀ g, g < gc → ρ g < 6 ∧ ch g = nI (ρ g)) (H : ∀ is' : Nat → Int32, (∀ c, ¬ is' c = 0 ↔ (¬ is c = 0 ∨ c = fz_hn fz_six ρ gc)) → post (fv, fc, nI gc, fe, fd, ft, pl, aw, az, tc, pt, so, sc, ki, fi, se, si, ins, cn, rc, rl, rr, gt, gx, gy, gf, ex, ey, dx, dy, bi, go, df, tw, tl, st, ps, ws, mg, mr, mt, mp, ma, mz, ch, is', sl, re)) : wpX_keepSolution post (fv, fc, nI gc, fe, fd, ft, pl, aw, az, tc, pt, so, sc, ki, fi, se, si, ins, cn, rc, rl, rr, gt, gx, gy, gf, ex, ey, dx, dy, bi, go, df, tw, tl, st, ps, ws, mg, mr, mt, mp, ma, mz, ch, is, sl, re) := by
  have key : ∀ j i, i + j = gc → wX_keepSolution_4 post fv fc (nI gc) fe fd ft pl aw az tc pt so sc ki fi se si ins cn rc rl rr gt gx gy gf ex ey dx dy bi go df tw tl st ps ws mg mr mt mp ma mz ch is sl re (j + 1) (nI (fz_hn fz_six ρ i)) (nI i) := by
    intro j
    induction j with
    | zero =>
      intro i hij
      have e : i = gc := by omega
      subst e
      have hl := fz_hn_1296 (ρ := ρ) hgc (fun g hg => (hρ g hg).1)
      refine br_t (nI_le (by omega) (by omega)) (And.intro (vp_in_nI hl (by omega)) (nm_e (H _ (fun c => ?_))))
      rw [nI_clamp (by omega)]
      by_cases z : c = fz_hn fz_six ρ i
      · have e : upd is (fz_hn fz_six ρ i) (vp_nar .boolean 1) c = 1 := if_pos z
        rw [e]
        exact ⟨fun _ => Or.inr z, fun _ => by decide⟩
      · have e : upd is (fz_hn fz_six ρ i) (vp_nar .boolean 1) c = is c := if_neg z
        rw [e]
        exact ⟨fun q => Or.inl q, fun q => q.elim id (fun q => absurd q z)⟩
    | succ j ih =>
      intro i hij
      have hi := hρ i (by omega)
      refine br_f (nI_ge (by omega) (by omega)) (And.intro (vp_in_nI (by omega) (by omega)) (nm_r (e' := nI (fz_hn fz_six ρ (i + 1))) ?_ (nm_r (nI_1 i) (ih (i + 1) (by omega)))))
      rw [nI_clamp (by omega), hi.2, show (6 : Int32) * nI (fz_hn fz_six ρ i) = nI (6 * fz_hn fz_six ρ i) from pk_mul 6 _, nI_add]
      rfl
  exact ⟨gc + 1, key gc 0 (by omega)⟩
/-! the search -/
theorem fz_srch {post : SX → Prop} (hS : fz_ST n nv gc ec dc tm gv ki fi se ins cn rc rl rr gt gx gy ex ey dx dy) : ∀ (L : Nat) (R : List Nat), R.length = L → R.Nodup → (∀ i, i ∈ R → i < gc) → ∀ (dp s nf tt : Nat) (pt pl aw az tc : Int32) (bi go df tw tl st : Nat → Int32) (ps : Nat → Int64) (mg mr mt mp ma mz ch is : Nat → Int32), dp + L = gc → nf + s = 20001 → s + fz_tc L ≤ 19999 → fz_NI n nv gc ec dc tm gv rc rl rr gt gx gy ex ey dx dy R tt bi df pl aw az ch →
    (∀ (s' nf' tt' : Nat) (pt' pl' aw' az' tc' : Int32) (bi' go' df' tw' tl' st' : Nat → Int32) (ps' : Nat → Int64) (mg' mr' mt' mp' ma' mz' ch' is' : Nat → Int32), nf' + s' = 20001 → s' ≤ s + fz_tc L → tt ≤ tt' → tt' ≤ 500 → (∀ i, i < tt → tw' i = tw i ∧ tl' i = tl i) → fz_un tw' tl' tt (tt' - tt) bi' df' bi df → (∀ i, i < dp → mg' i = mg i ∧ mr' i = mr i ∧ mt' i = mt i ∧ mp' i = mp i ∧ ma' i = ma i ∧ mz' i = mz i) → (∀ h, h < gc → h ∉ R → ch' h = ch h) → (∀ c, ¬ is' c = 0 ↔ (¬ is c = 0 ∨ fz_new tm gc ec dc rc rl rr gt gx gy ex ey dx dy R ch (fun _ => True) c)) → wX_search_24 post nf' (nI dp + (-1)) (nI s') (nI nv) fc (nI gc) fe (nI dc) (nI tt') pl' aw' az' tc' pt' so sc ki fi se si ins cn rc rl rr gt gx gy gf ex ey dx dy bi' go' df' tw' tl' st' ps' ws mg' mr' mt' mp' ma' mz' ch' is' sl re) →
    (dp = gc → wX_search_24 post nf (nI dp) (nI s) (nI nv) fc (nI gc) fe (nI dc) (nI tt) pl aw az tc pt so sc ki fi se si ins cn rc rl rr gt gx gy gf ex ey dx dy bi go df tw tl st ps ws mg mr mt mp ma mz ch is sl re) ∧
    (dp < gc → ∀ P : SX → Prop, (∀ mg mr mt mp ma mz : Nat → Int32, wX_search_24 post nf (nI dp) (nI s) (nI nv) fc (nI gc) fe (nI dc) (nI tt) pl aw az tc pt so sc ki fi se si ins cn rc rl rr gt gx gy gf ex ey dx dy bi go df tw tl st ps ws mg mr mt mp ma mz ch is sl re → P (nI nv, fc, nI gc, fe, nI dc, nI tt, pl, aw, az, tc, pt, so, sc, ki, fi, se, si, ins, cn, rc, rl, rr, gt, gx, gy, gf, ex, ey, dx, dy, bi, go, df, tw, tl, st, ps, ws, mg, mr, mt, mp, ma, mz, ch, is, sl, re)) → wpX_openFrame P (nI nv, fc, nI gc, fe, nI dc, nI tt, pl, aw, az, tc, pt, so, sc, ki, fi, se, si, ins, cn, rc, rl, rr, gt, gx, gy, gf, ex, ey, dx, dy, bi, go, df, tw, tl, st, ps, ws, mg, mr, mt, mp, ma, mz, ch, is, sl, re) (nI dp)) := by
  have hS' := hS
  obtain ⟨hC, hgc, hec, hdc, hG, hR, hE, hD, hgv⟩ := hS'
  have hn := hC.1
  have hnv := hC.2.1
  intro L
  induction L with
  | zero =>
    intro R hlen hnd hlt dp s nf tt pt pl aw az tc bi go df tw tl st ps mg mr mt mp ma mz ch is hdp hnf hs hNI K
    have hRe : R = [] := List.eq_nil_of_length_eq_zero hlen
    subst hRe
    refine ⟨fun hdg => ?_, fun h => by omega⟩
    obtain ⟨n1, n2, n3, n4, n5, n6, n7⟩ := hNI
    obtain ⟨nf', rfl⟩ : ∃ nf', nf = nf' + 1 := ⟨nf - 1, by omega⟩
    have htc : fz_tc 0 = 1 := rfl
    have hch : ∀ g, g < gc → (ch g).toNatClampNeg < fz_rn rc gt g ∧ ch g = nI (ch g).toNatClampNeg := fun g hg => by
      obtain ⟨r, hr, e⟩ := n7 g hg List.not_mem_nil
      have h6 := fz_rn6 hS hg
      rw [e, nI_clamp (by omega)]; exact ⟨hr, rfl⟩
    refine br_f (nI_ge (b := 20000) (by omega) (by decide)) (br_f (nI_pos (by omega)) (br_t (by rw [hdg]) ?_))
    refine fz_keep (ρ := fun g => (ch g).toNatClampNeg) hgc (fun g hg => ⟨by have := hch g hg; have := fz_rn6 hS hg; omega, (hch g hg).2⟩) ?_
    intro is' his
    refine nm_e (nm_r (nI_1 s) ?_)
    refine K (s + 1) nf' tt pt pl aw az tc bi go df tw tl st ps mg mr mt mp ma mz ch is' (by omega) (by omega) (Nat.le_refl _) (by have := n3; omega) (fun _ _ => ⟨rfl, rfl⟩) (by rw [Nat.sub_self]; exact ⟨rfl, rfl⟩) (fun _ _ => ⟨rfl, rfl, rfl, rfl, rfl, rfl⟩) (fun _ _ _ => rfl) (fun c => ?_)
    rw [his c]
    have key : c = fz_hn fz_six (fun g => (ch g).toNatClampNeg) gc ↔ fz_new tm gc ec dc rc rl rr gt gx gy ex ey dx dy [] ch (fun _ => True) c := by
      constructor
      · intro e
        refine ⟨fun g => (ch g).toNatClampNeg, fun g hg => (hch g hg).1, ?_, e.symm, fun h hh _ => (hch h hh).2, trivial⟩
        refine fz_leaf hS n1 n2 (fun θ => (n4 θ).trans ⟨fun q => ⟨q.1, fun g hg => q.2 g hg List.not_mem_nil⟩, fun q => ⟨q.1, fun g hg _ => q.2 g hg⟩⟩) n5 (fun g hg => (hch g hg).1)
      · rintro ⟨ρ, r1, r2, r3, r4, _⟩
        rw [← r3]
        refine fz_hn_cg gc (fun g hg => ?_)
        have h6 := fz_rn6 hS hg
        have h1 := r1 g hg
        show ρ g = (ch g).toNatClampNeg
        rw [r4 g hg List.not_mem_nil, nI_clamp (by omega)]
    rw [key]
  | succ L ihL =>
    intro R hlen hnd hlt dp s0 nf0 m pt0 pl0 aw0 az0 tc0 b0 go0 d0 tw0 tl0 st0 ps0 mg0 mr0 mt0 mp0 ma0 mz0 ch0 is0 hdp hnf0 hs0 hNI K
    refine ⟨fun h => by omega, fun hdg P hP => ?_⟩
    have hNI' := hNI
    obtain ⟨n1, n2, n3, n4, n5, n6, n7⟩ := hNI'
    have htc : fz_tc (L + 1) = 6 * (1 + fz_tc L) + 1 := rfl
    refine fz_open (R := fun i => i ∈ R) (by omega) (fun i hi => by have := hlt i hi; omega) n6 ?_ ?_
    · cases R with
      | nil => exact absurd hlen (by simp)
      | cons a R => exact ⟨a, List.mem_cons_self⟩
    · intro g hg
      have hgg := hlt g hg
      have h6 := fz_rn6 hS hgg
      obtain ⟨t, mr6, x, y, ht4, hm6, hx, hy, et, ex1, ey1, hAx, hAy, em, ern, hrow⟩ := fz_HGR hG hR hgg
      have claim : ∀ (q r : Nat), r + q = fz_rn rc gt g → ∀ (s nf tt : Nat) (pt pl aw az tc : Int32) (bi go df tw tl st : Nat → Int32) (ps : Nat → Int64) (mg mr mt mp ma mz ch is : Nat → Int32), nf + s = 20001 → s + (q * (1 + fz_tc L) + 1) ≤ s0 + fz_tc (L + 1) → mg dp = nI g → mr dp + 1 = nI r → mt dp = nI m → mp dp = pl0 → ma dp = aw0 → mz dp = az0 → m ≤ tt → tt ≤ 500 → (∀ i, i < m → tw i = tw0 i ∧ tl i = tl0 i) → fz_un tw tl m (tt - m) bi df b0 d0 → (∀ i, i < dp → mg i = mg0 i ∧ mr i = mr0 i ∧ mt i = mt0 i ∧ mp i = mp0 i ∧ ma i = ma0 i ∧ mz i = mz0 i) → (∀ h, h < gc → h ∉ R → ch h = ch0 h) → (∀ c, ¬ is c = 0 ↔ (¬ is0 c = 0 ∨ fz_new tm gc ec dc rc rl rr gt gx gy ex ey dx dy R ch0 (fun ρ => ρ g < r) c)) → wX_search_24 post nf (nI dp) (nI s) (nI nv) fc (nI gc) fe (nI dc) (nI tt) pl aw az tc pt so sc ki fi se si ins cn rc rl rr gt gx gy gf ex ey dx dy bi go df tw tl st ps ws mg mr mt mp ma mz ch is sl re := by
        intro q
        induction q with
        | zero =>
          intro r hrq s nf tt pt pl aw az tc bi go df tw tl st ps mg mr mt mp ma mz ch is hnf hs e1 e2 e3 e4 e5 e6 h1 h2 h3 h4 h5 h7 h8
          obtain ⟨nf', rfl⟩ : ∃ nf', nf = nf' + 1 := ⟨nf - 1, by omega⟩
          have hin : vp_in (nI dp) 5 := vp_in_nI (by omega) (by omega)
          have cd : (nI dp).toNatClampNeg = dp := nI_clamp (by omega)
          have cdn : (nI dp).toNatClampNeg = dp := nI_clamp (by omega)
          refine br_f (nI_ge (b := 20000) (by omega) (by decide)) (br_f (nI_pos (by omega)) (br_f (fun z => by have := (nI_eq (by omega) (by omega)).mp z; omega) ?_))
          refine fz_ret (dp := dp) (m := m) (by omega) h1 (by omega) e3 h4 ?_
          intro go'
          refine And.intro hin (nm_r (e' := nI g) (by rw [cd]; exact e1) (And.intro hin (nm_r (e' := nI r) (by rw [cd]; exact e2) (And.intro hin (nm_r (e' := upd mr dp (nI r)) (by rw [cdn]) (And.intro (vp_in_nI (by omega) (by omega)) ?_))))))
          rw [nI_clamp (n := g) (by omega), et]
          refine And.intro (vp_in_nI (by omega) (by omega)) ?_
          rw [nI_clamp (n := t) (by omega), em]
          refine br_f (nI_nlt (by omega) (by omega)) (nm_e (nm_r (nI_1 s) ?_))
          refine K (s + 1) nf' m pt _ _ _ 0 b0 go' d0 tw tl st ps mg (upd mr dp (nI r)) mt mp ma mz ch is (by omega) (by omega) (Nat.le_refl _) (by omega) h3 (by rw [Nat.sub_self]; exact ⟨rfl, rfl⟩) (fun i hi => ?_) h7 (fun c => ?_)
          · obtain ⟨i1, i2, i3, i4, i5, i6⟩ := h5 i hi
            exact ⟨i1, (if_neg (by omega)).trans i2, i3, i4, i5, i6⟩
          · rw [h8 c]
            have : fz_new tm gc ec dc rc rl rr gt gx gy ex ey dx dy R ch0 (fun ρ => ρ g < r) c ↔ fz_new tm gc ec dc rc rl rr gt gx gy ex ey dx dy R ch0 (fun _ => True) c := by
              constructor
              · rintro ⟨ρ, r1, r2, r3, r4, _⟩; exact ⟨ρ, r1, r2, r3, r4, trivial⟩
              · rintro ⟨ρ, r1, r2, r3, r4, _⟩; exact ⟨ρ, r1, r2, r3, r4, by have := r1 g hgg; show ρ g < r; omega⟩
            rw [this]
        | succ q ihq =>
          intro r hrq s nf tt pt pl aw az tc bi go df tw tl st ps mg mr mt mp ma mz ch is hnf hs e1 e2 e3 e4 e5 e6 h1 h2 h3 h4 h5 h7 h8
          obtain ⟨nf', rfl⟩ : ∃ nf', nf = nf' + 1 := ⟨nf - 1, by omega⟩
          have hsq : s + 1 + fz_tc L + (q * (1 + fz_tc L) + 1) ≤ s0 + fz_tc (L + 1) := by
            have : (q + 1) * (1 + fz_tc L) = q * (1 + fz_tc L) + (1 + fz_tc L) := Nat.succ_mul _ _
            omega
          have hin : vp_in (nI dp) 5 := vp_in_nI (by omega) (by omega)
          have cd : (nI dp).toNatClampNeg = dp := nI_clamp (by omega)
          have cdn : (nI dp).toNatClampNeg = dp := nI_clamp (by omega)
          refine br_f (nI_ge (b := 20000) (by omega) (by decide)) (br_f (nI_pos (by omega)) (br_f (fun z => by have := (nI_eq (by omega) (by omega)).mp z; omega) ?_))
          refine fz_ret (dp := dp) (m := m) (by omega) h1 (by omega) e3 h4 ?_
          intro go'
          refine And.intro hin (nm_r (e' := nI g) (by rw [cd]; exact e1) (And.intro hin (nm_r (e' := nI r) (by rw [cd]; exact e2) (And.intro hin (nm_r (e' := upd mr dp (nI r)) (by rw [cdn]) (And.intro (vp_in_nI (by omega) (by omega)) ?_))))))
          rw [nI_clamp (n := g) (by omega), et]
          refine And.intro (vp_in_nI (by omega) (by omega)) ?_
          rw [nI_clamp (n := t) (by omega), em]
          refine br_t (nI_lt (by omega) (by omega)) ?_
          have hub := fz_ub_le b0
          have mrd : (upd mr dp (nI r)) dp + 1 = nI (r + 1) := by
            rw [show (upd mr dp (nI r)) dp = nI r from if_pos rfl]; exact nI_1 r
          have hfr : ∀ i, i < dp → mg i = mg0 i ∧ (upd mr dp (nI r)) i = mr0 i ∧ mt i = mt0 i ∧ mp i = mp0 i ∧ ma i = ma0 i ∧ mz i = mz0 i := fun i hi => by
            obtain ⟨i1, i2, i3, i4, i5, i6⟩ := h5 i hi
            exact ⟨i1, (if_neg (by omega)).trans i2, i3, i4, i5, i6⟩
          have hchu : ∀ h, h < gc → h ∉ R → (upd ch g (nI r)) h = ch0 h := fun h hh hn => by
            have : h ≠ g := fun z => hn (by rw [z]; exact hg)
            exact (if_neg this).trans (h7 h hh hn)
          have hlR : R.length = L + 1 := hlen
          have n3' := n3
          rw [hlR] at n3'
          refine fz_tryRow (tt := m) (g := g) (r := r) hC n1 n2 hdc hD hgc hG hR hgg (by omega) (by omega) n5 ?_ ?_
          · intro tt1 pt1 pl1 aw1 az1 bi1 go1 df1 tw1 tl1 st1 ps1 x1 x2 x3 x4 x5 x6 x7
            refine br_f (by decide) (nm_r (nI_1 dp) ?_)
            have hlen' : (R.erase g).length = L := by rw [List.length_erase_of_mem hg, hlen]; rfl
            have hnd' : (R.erase g).Nodup := hnd.erase g
            have hmem : ∀ i, i ∈ R.erase g ↔ i ≠ g ∧ i ∈ R := fun i => hnd.mem_erase_iff
            have NI1 : fz_NI n nv gc ec dc tm gv rc rl rr gt gx gy ex ey dx dy (R.erase g) tt1 bi1 df1 pl1 aw1 az1 (upd ch g (nI r)) := by
              refine ⟨x4, x5, by rw [hlen']; omega, fun θ => ?_, x7, fun i => ?_, fun h hh hn => ?_⟩
              · rw [x6 θ, n4 θ]
                constructor
                · rintro ⟨⟨p1, p2⟩, p3⟩
                  refine ⟨p1, fun h hh hn => ?_⟩
                  by_cases z : h = g
                  · rw [show (upd ch g (nI r)) h = nI r from if_pos z, z, nI_clamp (by omega)]; exact p3
                  · have hnR : h ∉ R := fun w => hn ((hmem h).mpr ⟨z, w⟩)
                    rw [hchu h hh hnR]; exact p2 h hh hnR
                · rintro ⟨p1, p2⟩
                  refine ⟨⟨p1, fun h hh hn => ?_⟩, ?_⟩
                  · have := p2 h hh (fun w => hn ((hmem h).mp w).2)
                    rw [hchu h hh hn] at this; exact this
                  · have := p2 g hgg (fun w => ((hmem g).mp w).1 rfl)
                    rw [show (upd ch g (nI r)) g = nI r from if_pos rfl, nI_clamp (by omega)] at this; exact this
              · rw [x3 i, hmem i, e4, e5, e6, ← n6 i]
                by_cases z : i = g
                · simp [z]
                · simp [z]
              · by_cases z : h = g
                · exact ⟨r, by rw [z]; omega, if_pos z⟩
                · have hnR : h ∉ R := fun w => hn ((hmem h).mpr ⟨z, w⟩)
                  rw [hchu h hh hnR]; exact n7 h hh hnR
            have D := ihL (R.erase g) hlen' hnd' (fun i hi => hlt i ((hmem i).mp hi).2) (dp + 1) (s + 1) nf' tt1 pt1 pl1 aw1 az1 0 bi1 go1 df1 tw1 tl1 st1 ps1 mg (upd mr dp (nI r)) mt mp ma mz (upd ch g (nI r)) is (by omega) (by omega) (by omega) NI1 (by
              intro s' nf'' tt' pt' pl' aw' az' tc' bi' go'' df' tw' tl' st' ps' mg' mr' mt' mp' ma' mz' ch' is' g1 g2 g3 g4 g5 g6 g7 g8 g9
              rw [show nI (dp + 1) + (-1) = nI dp from pk_m1 dp]
              obtain ⟨f1, f2, f3, f4, f5, f6⟩ := g7 dp (by omega)
              have x1' := x1.1
              have EX := fz_ex_tr x1 ⟨g3, g5, g6⟩
              refine ihq (r + 1) (by omega) s' nf'' tt' pt' pl' aw' az' tc' bi' go'' df' tw' tl' st' ps' mg' mr' mt' mp' ma' mz' ch' is' g1 (by omega) (f1.trans e1) (by rw [f2]; exact mrd) (f3.trans e3) (f4.trans e4) (f5.trans e5) (f6.trans e6) (by omega) g4 (fun i hi => ?_) EX.2.2 (fun i hi => ?_) (fun h hh hn => ?_) (fun c => ?_)
              · have := EX.2.1 i hi
                have h3' := h3 i hi
                exact ⟨this.1.trans h3'.1, this.2.trans h3'.2⟩
              · obtain ⟨i1, i2, i3, i4, i5, i6⟩ := g7 i (by omega)
                obtain ⟨j1, j2, j3, j4, j5, j6⟩ := hfr i hi
                exact ⟨i1.trans j1, i2.trans j2, i3.trans j3, i4.trans j4, i5.trans j5, i6.trans j6⟩
              · rw [g8 h hh (fun w => hn ((hmem h).mp w).2)]; exact hchu h hh hn
              · rw [g9 c, h8 c]
                have A1 : fz_new tm gc ec dc rc rl rr gt gx gy ex ey dx dy (R.erase g) (upd ch g (nI r)) (fun _ => True) c ↔ fz_new tm gc ec dc rc rl rr gt gx gy ex ey dx dy R ch0 (fun ρ => ρ g = r) c := by
                  constructor
                  · rintro ⟨ρ, r1, r2, r3, r4, _⟩
                    refine ⟨ρ, r1, r2, r3, fun h hh hn => ?_, ?_⟩
                    · rw [← r4 h hh (fun w => hn ((hmem h).mp w).2)]; exact (hchu h hh hn).symm
                    · have w := r4 g hgg (fun w => ((hmem g).mp w).1 rfl)
                      rw [show (upd ch g (nI r)) g = nI r from if_pos rfl] at w
                      have r6 := r1 g hgg
                      exact ((nI_eq (by omega) (by omega)).mp w).symm
                  · rintro ⟨ρ, r1, r2, r3, r4, r5⟩
                    refine ⟨ρ, r1, r2, r3, fun h hh hn => ?_, trivial⟩
                    by_cases z : h = g
                    · rw [z, show (upd ch g (nI r)) g = nI r from if_pos rfl, show ρ g = r from r5]
                    · have hnR : h ∉ R := fun w => hn ((hmem h).mpr ⟨z, w⟩)
                      rw [hchu h hh hnR]; exact r4 h hh hnR
                rw [A1, or_assoc]
                have A2 : (fz_new tm gc ec dc rc rl rr gt gx gy ex ey dx dy R ch0 (fun ρ => ρ g < r) c ∨ fz_new tm gc ec dc rc rl rr gt gx gy ex ey dx dy R ch0 (fun ρ => ρ g = r) c) ↔ fz_new tm gc ec dc rc rl rr gt gx gy ex ey dx dy R ch0 (fun ρ => ρ g < r + 1) c := by
                  constructor
                  · rintro (⟨ρ, r1, r2, r3, r4, r5⟩ | ⟨ρ, r1, r2, r3, r4, r5⟩)
                    · exact ⟨ρ, r1, r2, r3, r4, by have : ρ g < r := r5; show ρ g < r + 1; omega⟩
                    · exact ⟨ρ, r1, r2, r3, r4, by have : ρ g = r := r5; show ρ g < r + 1; omega⟩
                  · rintro ⟨ρ, r1, r2, r3, r4, r5⟩
                    have r5' : ρ g < r + 1 := r5
                    by_cases z : ρ g = r
                    · exact Or.inr ⟨ρ, r1, r2, r3, r4, z⟩
                    · exact Or.inl ⟨ρ, r1, r2, r3, r4, by show ρ g < r; omega⟩
                rw [A2])
            by_cases hz : gc ≤ dp + 1
            · refine br_t (nI_le hz (by omega)) (nm_r (nI_1 s) ?_)
              exact D.1 (by omega)
            · refine br_f (nI_ge (by omega) (by omega)) ?_
              refine D.2 (by omega) _ ?_
              intro mg' mr' mt' mp' ma' mz' hw
              exact nm_r (nI_1 s) hw
          · intro tt1 pt1 pl1 aw1 az1 tc1 bi1 go1 df1 tw1 tl1 st1 ps1 x1 x2 x3
            refine br_t rfl (nm_r (nI_1 s) ?_)
            refine ihq (r + 1) (by omega) (s + 1) nf' tt1 pt1 pl1 aw1 az1 tc1 bi1 go1 df1 tw1 tl1 st1 ps1 mg (upd mr dp (nI r)) mt mp ma mz (upd ch g (nI r)) is (by omega) (by omega) e1 mrd e3 e4 e5 e6 x1.1 (by omega) (fun i hi => ?_) x1.2.2 hfr hchu (fun c => ?_)
            · have := x1.2.1 i hi
              have h3' := h3 i hi
              exact ⟨this.1.trans h3'.1, this.2.trans h3'.2⟩
            · rw [h8 c]
              have A2 : fz_new tm gc ec dc rc rl rr gt gx gy ex ey dx dy R ch0 (fun ρ => ρ g < r) c ↔ fz_new tm gc ec dc rc rl rr gt gx gy ex ey dx dy R ch0 (fun ρ => ρ g < r + 1) c := by
                constructor
                · rintro ⟨ρ, r1, r2, r3, r4, r5⟩
                  exact ⟨ρ, r1, r2, r3, r4, by have : ρ g < r := r5; show ρ g < r + 1; omega⟩
                · rintro ⟨ρ, r1, r2, r3, r4, r5⟩
                  have r5' : ρ g < r + 1 := r5
                  refine ⟨ρ, r1, r2, r3, r4, ?_⟩
                  by_cases z : ρ g = r
                  · obtain ⟨θ, t1, t2, t3⟩ := r2
                    have hθ : fz_md tm b0 θ := (n4 θ).mpr ⟨t1, fun h hh hn => by
                      have r6 := r1 h hh
                      have r7 := fz_rn6 hS hh
                      rw [r4 h hh hn, nI_clamp (by omega)]; exact t2 h hh⟩
                    have hmt := t2 g hgg
                    rw [z] at hmt
                    obtain ⟨d, hd, hq⟩ := x3 θ hθ hmt
                    exact absurd hq (t3 d hd)
                  · show ρ g < r; omega
              rw [A2]
      refine hP _ _ _ _ _ _ ?_
      refine claim (fz_rn rc gt g) 0 (by omega) s0 nf0 m pt0 pl0 aw0 az0 tc0 b0 go0 d0 tw0 tl0 st0 ps0 _ _ _ _ _ _ ch0 is0 hnf0 ?_ (if_pos rfl) ?_ (if_pos rfl) (if_pos rfl) (if_pos rfl) (if_pos rfl) (Nat.le_refl _) (by omega) (fun _ _ => ⟨rfl, rfl⟩) (by rw [Nat.sub_self]; exact ⟨rfl, rfl⟩) (fun i hi => ⟨if_neg (by omega), if_neg (by omega), if_neg (by omega), if_neg (by omega), if_neg (by omega), if_neg (by omega)⟩) (fun _ _ _ => rfl) (fun c => ?_)
      · have : fz_rn rc gt g * (1 + fz_tc L) ≤ 6 * (1 + fz_tc L) := Nat.mul_le_mul_right _ h6
        omega
      · rw [show (upd mr0 dp (-1)) dp = -1 from if_pos rfl]; decide
      · constructor
        · exact Or.inl
        · rintro (q | ⟨ρ, r1, r2, r3, r4, r5⟩)
          · exact q
          · have : ρ g < 0 := r5
            omega
end
end
section
/-! prepare -/
def fz_HF (nv : Nat) (gf : Nat → Int32) (gc : Nat) : Prop := ∀ g, g < gc → gf g = -1 ∨ ∃ v, v < nv ∧ gf g = nI v
theorem fz_m1s : ∀ dc, dc < 7 → ∀ d, d < dc → bt (((1 : Int32) <<< (nI dc &&& 31)) - 1) d = true := by decide +kernel
section
variable {n nv gc ec dc : Nat} {tm : Nat → fz_T} {gv : Nat → Prop}
variable {fv fc fg fe fd ft pl aw az tc pt so sc : Int32} {ki fi se si ins cn rc rl rr gt gx gy gf ex ey dx dy bi go df tw tl st : Nat → Int32} {ps : Nat → Int64} {ws mg mr mt mp ma mz ch is sl re : Nat → Int32}
theorem fz_prep75 {post : Int32 → SX → Prop} (hS : fz_ST n nv gc ec dc tm gv ki fi se ins cn rc rl rr gt gx gy ex ey dx dy)
    (H1 : ∀ (tt : Nat) (pt pl aw az : Int32) (bi go df tw tl st : Nat → Int32) (ps : Nat → Int64), fz_NI n nv gc ec dc tm gv rc rl rr gt gx gy ex ey dx dy (List.range gc) tt bi df pl aw az ch → post 1 (nI nv, fc, nI gc, nI ec, nI dc, nI tt, pl, aw, az, 0, pt, so, sc, ki, fi, se, si, ins, cn, rc, rl, rr, gt, gx, gy, gf, ex, ey, dx, dy, bi, go, df, tw, tl, st, ps, ws, mg, mr, mt, mp, ma, mz, ch, is, sl, re))
    (H0 : ∀ (tt : Nat) (pt pl aw az tc : Int32) (bi go df tw tl st : Nat → Int32) (ps : Nat → Int64), (∀ ρ, ¬ fz_sol tm gc ec dc rl rr gt gx gy ex ey dx dy ρ) → post 0 (nI nv, fc, nI gc, nI ec, nI dc, nI tt, pl, aw, az, tc, pt, so, sc, ki, fi, se, si, ins, cn, rc, rl, rr, gt, gx, gy, gf, ex, ey, dx, dy, bi, go, df, tw, tl, st, ps, ws, mg, mr, mt, mp, ma, mz, ch, is, sl, re)) :
    ∀ (j i tt : Nat) (pt aw az tc : Int32) (bi go df tw tl st : Nat → Int32) (ps : Nat → Int64), i + j = ec → fz_bw n (fz_A tm gv) bi → fz_ac tm bi → tt + 3 * fz_ub bi ≤ 18 → (∀ θ, fz_md tm bi θ ↔ ∀ e, e < i → fz_q tm (ex e) (ey e) θ) → (∀ i, (bt pl i || bt aw i || bt az i) = true ↔ i < gc) → wX_prepare_75 post (j + 1) (nI i) (nI nv) fc (nI gc) (nI ec) (nI dc) (nI tt) pl aw az tc pt so sc ki fi se si ins cn rc rl rr gt gx gy gf ex ey dx dy bi go df tw tl st ps ws mg mr mt mp ma mz ch is sl re := by
  obtain ⟨hC, hgc, hec, hdc, hG, hR, hE, hD, hgv⟩ := hS
  have hn := hC.1
  intro j
  induction j with
  | zero =>
    intro i tt pt aw az tc bi go df tw tl st ps hij hb ha htt hm hU
    have e : i = ec := by omega
    subst e
    refine br_t (nI_le (by omega) (by omega)) (nm_e ?_)
    refine fz_recheck (tt := tt) hC hb ha hdc hD (by omega) ?_ ?_
    · intro tt' pt' df' tw' tl' st' ps' e1 e2 e3 e4
      refine And.intro rfl (H1 tt' pt' pl aw az bi go df' tw' tl' st' ps' ⟨hb, ha, by rw [List.length_range]; omega, fun θ => ?_, fun d hd => e4 d hd (fz_m1s dc (by omega) d hd), fun i => ?_, fun g hg hgn => absurd (List.mem_range.mpr hg) hgn⟩)
      · rw [hm θ]
        exact ⟨fun q => ⟨q, fun g hg hgn => absurd (List.mem_range.mpr hg) hgn⟩, fun q => q.1⟩
      · rw [hU i, List.mem_range]
    · intro tt' pt' df' tw' tl' st' ps' e1 e2 e3
      obtain ⟨d, hd, hq⟩ := e3
      refine And.intro rfl (H0 tt' pt' pl aw az 0 bi go df' tw' tl' st' ps' (fun ρ hρ => ?_))
      obtain ⟨θ, t1, t2, t3⟩ := hρ
      exact t3 d hd (hq θ ((hm θ).mpr t1))
  | succ j ih =>
    intro i tt pt aw az tc bi go df tw tl st ps hij hb ha htt hm hU
    obtain ⟨x, y, hx, hy, ex1, ey1, hAx, hAy⟩ := hE i (by omega)
    have hin : vp_in (nI i) 4 := vp_in_nI (by omega) (by omega)
    refine br_f (nI_ge (by omega) (by omega)) (And.intro hin (And.intro hin ?_))
    rw [nI_clamp (n := i) (by omega), ex1, ey1]
    have qi : ∀ θ, fz_q tm (ex i) (ey i) θ ↔ fz_sb θ (tm x) = fz_sb θ (tm y) := fun θ => by rw [ex1, ey1]; exact fz_q_nI (by omega) (by omega)
    refine fz_unify (A := fz_A tm gv) (B := fz_A tm gv) (tt := tt) hC (fz_AB_gv tm gv) hx hy hAx hAy hb ha (by omega) ?_ ?_
    · intro tt1 k1 aw1 az1 tc1 bi1 go1 df1 tw1 tl1 st1 ps1 g1 b1 a1 m1
      refine br_f (by decide) (nm_r (nI_1 i) ?_)
      refine ih (i + 1) tt1 (nI k1) aw1 az1 tc1 bi1 go1 df1 tw1 tl1 st1 ps1 (by omega) b1 a1 (by have := g1.2.1; omega) (fun θ => ?_) (fun q => ?_)
      · rw [m1 θ, hm θ]
        constructor
        · rintro ⟨p1, p2⟩ e he
          by_cases z : e = i
          · rw [z]; exact (qi θ).mpr p2
          · exact p1 e (by omega)
        · intro p
          exact ⟨fun e he => p e (by omega), (qi θ).mp (p i (by omega))⟩
      · rw [Bool.or_assoc, g1.2.2.1 q, ← Bool.or_assoc]; exact hU q
    · intro tt1 k1 aw1 az1 tc1 bi1 go1 df1 tw1 tl1 st1 ps1 g1 n1
      refine br_t rfl (H0 tt1 (nI k1) pl aw1 az1 tc1 bi1 go1 df1 tw1 tl1 st1 ps1 (fun ρ hρ => ?_))
      obtain ⟨θ, t1, t2, t3⟩ := hρ
      exact n1 θ ⟨(hm θ).mpr (fun e he => t1 e (by omega)), (qi θ).mp (t1 i (by omega))⟩
theorem fz_prep6 {post : Int32 → SX → Prop} (hgc : gc ≤ 4) (hnv : nv ≤ 6) (hF : fz_HF nv gf gc)
    (H : ∀ (pl az : Int32) (go : Nat → Int32), (∀ i, (bt pl i || bt 0 i || bt az i) = true ↔ i < gc) → ∃ n75, wX_prepare_75 post n75 0 fv fc (nI gc) fe fd ft pl 0 az tc pt so sc ki fi se si ins cn rc rl rr gt gx gy gf ex ey dx dy bi go df tw tl st ps ws mg mr mt mp ma mz ch is sl re) :
    ∀ (j i : Nat) (pl az : Int32) (go : Nat → Int32), i + j = gc → (∀ k, (bt pl k || bt 0 k || bt az k) = true ↔ k < i) → wX_prepare_6 post fv fc (nI gc) fe fd ft 0 tc pt so sc (j + 1) (nI i) pl az ki fi se si ins cn rc rl rr gt gx gy gf ex ey dx dy bi go df tw tl st ps ws mg mr mt mp ma mz ch is sl re := by
  intro j
  induction j with
  | zero =>
    intro i pl az go hij hU
    have e : i = gc := by omega
    subst e
    exact br_t (nI_le (by omega) (by omega)) (H pl az go hU)
  | succ j ih =>
    intro i pl az go hij hU
    have hin : vp_in (nI i) 4 := vp_in_nI (by omega) (by omega)
    have ci : (nI i).toNatClampNeg = i := nI_clamp (by omega)
    refine br_f (nI_ge (by omega) (by omega)) (And.intro hin ?_)
    rw [ci]
    rcases hF i (by omega) with e | ⟨v, hv, e⟩
    · refine br_f (by rw [e]; decide) (nm_e (nm_r (nI_1 i) ?_))
      refine ih (i + 1) _ az go (by omega) (fun k => ?_)
      have hk := hU k
      rw [fz_or1 _ (by omega)]
      rw [b_0] at hk ⊢
      by_cases z : k = i
      · simp [z]
      · have e1 : k < i + 1 ↔ k < i := by omega
        rw [e1, ← hk]; simp [z]
    · rw [e]
      refine br_t (nI_pos' (by omega)) (nm_e (And.intro hin (And.intro (vp_in_nI (by omega) (by omega)) (And.intro (vp_in_nI (by omega) (by omega)) (nm_e (nm_r (nI_1 i) ?_))))))
      refine ih (i + 1) pl _ _ (by omega) (fun k => ?_)
      have hk := hU k
      rw [fz_or1 _ (by omega)]
      rw [b_0] at hk ⊢
      by_cases z : k = i
      · simp [z]
      · have e1 : k < i + 1 ↔ k < i := by omega
        rw [e1, ← hk]; simp [z]
theorem fz_prep {post : Int32 → SX → Prop} (hS : fz_ST n nv gc ec dc tm gv ki fi se ins cn rc rl rr gt gx gy ex ey dx dy) (hF : fz_HF nv gf gc)
    (H1 : ∀ (tt : Nat) (pt pl aw az : Int32) (bi go df tw tl st : Nat → Int32) (ps : Nat → Int64), fz_NI n nv gc ec dc tm gv rc rl rr gt gx gy ex ey dx dy (List.range gc) tt bi df pl aw az ch → post 1 (nI nv, fc, nI gc, nI ec, nI dc, nI tt, pl, aw, az, 0, pt, so, sc, ki, fi, se, si, ins, cn, rc, rl, rr, gt, gx, gy, gf, ex, ey, dx, dy, bi, go, df, tw, tl, st, ps, ws, mg, mr, mt, mp, ma, mz, ch, is, sl, re))
    (H0 : ∀ (tt : Nat) (pt pl aw az tc : Int32) (bi go df tw tl st : Nat → Int32) (ps : Nat → Int64), (∀ ρ, ¬ fz_sol tm gc ec dc rl rr gt gx gy ex ey dx dy ρ) → post 0 (nI nv, fc, nI gc, nI ec, nI dc, nI tt, pl, aw, az, tc, pt, so, sc, ki, fi, se, si, ins, cn, rc, rl, rr, gt, gx, gy, gf, ex, ey, dx, dy, bi, go, df, tw, tl, st, ps, ws, mg, mr, mt, mp, ma, mz, ch, is, sl, re)) :
    wpX_prepare post (nI nv, fc, nI gc, nI ec, nI dc, ft, pl, aw, az, tc, pt, so, sc, ki, fi, se, si, ins, cn, rc, rl, rr, gt, gx, gy, gf, ex, ey, dx, dy, bi, go, df, tw, tl, st, ps, ws, mg, mr, mt, mp, ma, mz, ch, is, sl, re) := by
  have hub : ∀ b, fz_ub b ≤ 6 := fz_ub_le
  unfold wpX_prepare
  refine fz_reset ?_
  intro bi' go' df' h1 h2
  refine ⟨gc + 1, fz_prep6 (ft := 0) hS.2.1 hS.1.2.1 hF ?_ gc 0 0 0 go' (by omega) (fun k => ?_)⟩
  · intro pl' az' go'' hU
    refine ⟨ec + 1, fz_prep75 hS H1 H0 ec 0 0 pt 0 az' 0 bi' go'' df' tw tl st ps (by omega) (fun v hv => Or.inl (h1 v hv)) (fz_ac_free h1) (by have := hub bi'; omega) (fun θ => ?_) hU⟩
    constructor
    · intro _ e he; omega
    · intro _ v hv c hc e
      exact absurd (e.symm.trans (h1 v hv)) (fz_m1 (by omega))
  · rw [b_0]; simp
/-! search -/
theorem fz_search {post : SX → Prop} (hS : fz_ST n nv gc ec dc tm gv ki fi se ins cn rc rl rr gt gx gy ex ey dx dy) {tt : Nat} (hNI : fz_NI n nv gc ec dc tm gv rc rl rr gt gx gy ex ey dx dy (List.range gc) tt bi df pl aw az ch)
    (H : ∀ (ft pt pl aw az tc : Int32) (bi go df tw tl st : Nat → Int32) (ps : Nat → Int64) (mg mr mt mp ma mz ch is' : Nat → Int32), (∀ c, ¬ is' c = 0 ↔ (¬ is c = 0 ∨ ∃ ρ, (∀ g, g < gc → ρ g < fz_rn rc gt g) ∧ fz_sol tm gc ec dc rl rr gt gx gy ex ey dx dy ρ ∧ fz_hn fz_six ρ gc = c)) → post (nI nv, fc, nI gc, fe, nI dc, ft, pl, aw, az, tc, pt, so, sc, ki, fi, se, si, ins, cn, rc, rl, rr, gt, gx, gy, gf, ex, ey, dx, dy, bi, go, df, tw, tl, st, ps, ws, mg, mr, mt, mp, ma, mz, ch, is', sl, re)) :
    wpX_search post (nI nv, fc, nI gc, fe, nI dc, nI tt, pl, aw, az, tc, pt, so, sc, ki, fi, se, si, ins, cn, rc, rl, rr, gt, gx, gy, gf, ex, ey, dx, dy, bi, go, df, tw, tl, st, ps, ws, mg, mr, mt, mp, ma, mz, ch, is, sl, re) := by
  have hgc := hS.2.1
  cases gc with
  | zero =>
    refine br_t rfl (nm_e ?_)
    refine H (nI tt) pt pl aw az tc bi go df tw tl st ps mg mr mt mp ma mz ch _ (fun c => ?_)
    obtain ⟨n1, n2, n3, n4, n5, n6, n7⟩ := hNI
    have hsol : fz_sol tm 0 ec dc rl rr gt gx gy ex ey dx dy (fun _ => 0) :=
      fz_leaf hS n1 n2 (fun θ => (n4 θ).trans ⟨fun q => ⟨q.1, fun g hg => by omega⟩, fun q => ⟨q.1, fun g hg => by omega⟩⟩) n5 (fun g hg => by omega)
    by_cases z : c = 0
    · have e : upd is 0 (vp_nar .boolean 1) c = 1 := if_pos z
      rw [e]
      exact ⟨fun _ => Or.inr ⟨fun _ => 0, fun g hg => by omega, hsol, z.symm⟩, fun _ => by decide⟩
    · have e : upd is 0 (vp_nar .boolean 1) c = is c := if_neg z
      rw [e]
      exact ⟨fun q => Or.inl q, fun q => q.elim id (fun ⟨ρ, _, _, q⟩ => absurd q.symm z)⟩
  | succ gc =>
    have htc : fz_tc (gc + 1) ≤ fz_tc 4 := by
      have : gc = 0 ∨ gc = 1 ∨ gc = 2 ∨ gc = 3 := by omega
      rcases this with e | e | e | e <;> subst e <;> decide
    have h4 : fz_tc 4 = 3109 := by decide
    refine br_f (nI_ne0 (by omega) (by omega)) ?_
    refine (fz_srch (post := post) hS (gc + 1) (List.range (gc + 1)) List.length_range List.nodup_range (fun i hi => List.mem_range.mp hi) 0 0 20001 tt pt pl aw az tc bi go df tw tl st ps mg mr mt mp ma mz ch is (by omega) (by omega) (by omega) hNI ?_).2 (by omega) _ ?_
    · intro s' nf' tt' pt' pl' aw' az' tc' bi' go' df' tw' tl' st' ps' mg' mr' mt' mp' ma' mz' ch' is' g1 g2 g3 g4 g5 g6 g7 g8 g9
      obtain ⟨nf'', rfl⟩ : ∃ m, nf' = m + 1 := ⟨nf' - 1, by omega⟩
      refine br_f (nI_ge (b := 20000) (by omega) (by decide)) (br_t (by decide) ?_)
      refine H (nI tt') pt' pl' aw' az' tc' bi' go' df' tw' tl' st' ps' mg' mr' mt' mp' ma' mz' ch' is' (fun c => ?_)
      rw [g9 c]
      constructor
      · rintro (q | ⟨ρ, r1, r2, r3, r4, _⟩)
        · exact Or.inl q
        · exact Or.inr ⟨ρ, r1, r2, r3⟩
      · rintro (q | ⟨ρ, r1, r2, r3⟩)
        · exact Or.inl q
        · exact Or.inr ⟨ρ, r1, r2, r3, fun h hh hn => absurd (List.mem_range.mpr hh) hn, trivial⟩
    · intro mg' mr' mt' mp' ma' mz' hw
      exact ⟨20001, hw⟩
end
end
section
/-! which variables a query speaks of -/
def fz_col (tm : Nat → fz_T) (p q : Nat → Int32) (i v : Nat) : Prop := ∃ e, e < i ∧ (fz_oc v (tm (p e).toNatClampNeg) ∨ fz_oc v (tm (q e).toNatClampNeg))
def fz_frz (gf : Nat → Int32) (i v : Nat) : Prop := ∃ g, g < i ∧ gf g = nI v ∧ v < 32
def fz_spk (tm : Nat → fz_T) (gf ex ey dx dy : Nat → Int32) (gc ec dc v : Nat) : Prop := fz_frz gf gc v ∨ fz_col tm ex ey ec v ∨ fz_col tm dx dy dc v
def fz_loose (tm : Nat → fz_T) (gx gy gf ex ey dx dy : Nat → Int32) (nv gc ec dc : Nat) : Prop := ∃ v, v < nv ∧ fz_spk tm gf ex ey dx dy gc ec dc v ∧ ¬ fz_col tm gx gy gc v
def fz_tt : Nat → Prop := fun _ => True
def fz_BT (n nv gc ec dc : Nat) (tm : Nat → fz_T) (ki fi se ins cn rc rl rr gt gx gy gf ex ey dx dy : Nat → Int32) : Prop :=
  fz_CX n nv ki fi se ins cn tm ∧ gc ≤ 4 ∧ ec ≤ 4 ∧ dc ≤ 6 ∧ fz_HG tm n fz_tt gt gx gy gc ∧ fz_HR tm n rc rl rr ∧ fz_HD tm n fz_tt ex ey ec ∧ fz_HD tm n fz_tt dx dy dc ∧ fz_HF nv gf gc
theorem fz_col_s {tm : Nat → fz_T} {p q : Nat → Int32} {i v : Nat} : fz_col tm p q (i + 1) v ↔ (fz_col tm p q i v ∨ (fz_oc v (tm (p i).toNatClampNeg) ∨ fz_oc v (tm (q i).toNatClampNeg))) := by
  constructor
  · rintro ⟨e, he, h⟩
    by_cases z : e = i
    · rw [z] at h; exact Or.inr h
    · exact Or.inl ⟨e, by omega, h⟩
  · rintro (⟨e, he, h⟩ | h)
    · exact ⟨e, by omega, h⟩
    · exact ⟨i, by omega, h⟩
/-! a Boolean for a proposition -/
noncomputable def fz_pb (Q : Prop) : Bool := @decide Q (Classical.propDecidable Q)
theorem fz_pb_iff {Q : Prop} : fz_pb Q = true ↔ Q := by
  unfold fz_pb
  exact @decide_eq_true_iff Q (Classical.propDecidable Q)
/-- the codes of the solutions, in order -/
def fz_cd (tm : Nat → fz_T) (gc ec dc : Nat) (rc rl rr gt gx gy ex ey dx dy : Nat → Int32) (c : Nat) : Prop :=
  ∃ ρ, (∀ g, g < gc → ρ g < fz_rn rc gt g) ∧ fz_sol tm gc ec dc rl rr gt gx gy ex ey dx dy ρ ∧ fz_hn fz_six ρ gc = c
noncomputable def fz_SL (tm : Nat → fz_T) (gc ec dc : Nat) (rc rl rr gt gx gy ex ey dx dy : Nat → Int32) : List Nat :=
  (List.range 1296).filter (fun c => fz_pb (fz_cd tm gc ec dc rc rl rr gt gx gy ex ey dx dy c))
section
variable {n nv gc ec dc : Nat} {tm : Nat → fz_T} {gv : Nat → Prop}
variable {fv fc fg fe fd ft pl aw az tc pt so sc : Int32} {ki fi se si ins cn rc rl rr gt gx gy gf ex ey dx dy bi go df tw tl st : Nat → Int32} {ps : Nat → Int64} {ws mg mr mt mp ma mz ch is sl re : Nat → Int32}
theorem fz_CX_nv (hC : fz_CX n nv ki fi se ins cn tm) : ∀ c, c < n → ∀ v, fz_oc v (tm c) → v < nv := by
  obtain ⟨hn, hnv, hk, _, _⟩ := hC
  have key : ∀ k c, c < k → c < n → ∀ v, fz_oc v (tm c) → v < nv := by
    intro k
    induction k with
    | zero => intro c q; omega
    | succ k ih =>
      intro c q hc v ho
      rcases hk c hc with ⟨_, a, ha, _, e⟩ | ⟨_, w, hw, _, e⟩ | ⟨_, a, b, ha, hb, _, _, e⟩
      · rw [e] at ho
        have ho' : a + 1 = 100 + v := ho
        omega
      · rw [e] at ho
        have ho' : 100 + w = 100 + v := ho
        omega
      · rw [e] at ho
        exact ho.elim (ih a (by omega) (by omega) v) (ih b (by omega) (by omega) v)
  intro c hc
  exact key (c + 1) c (by omega) hc
theorem fz_insor (hC : fz_CX n nv ki fi se ins cn tm) {M : Int32} {x y v : Nat} (hx : x < n) (hy : y < n) : bt (M ||| (ins x ||| ins y)) v = true ↔ (bt M v = true ∨ (fz_oc v (tm x) ∨ fz_oc v (tm y))) := by
  rw [b_or, b_or, Bool.or_eq_true, Bool.or_eq_true, hC.2.2.2.1 x hx v, hC.2.2.2.1 y hy v]
theorem fz_vog_l (hC : fz_CX n nv ki fi se ins cn tm) (hgc : gc ≤ 4) (hG : fz_HG tm n fz_tt gt gx gy gc) : ∀ (j i : Nat) (M : Int32), i + j = gc → (∀ v, bt M v = true ↔ fz_col tm gx gy i v) → ∃ M', (∀ v, bt M' v = true ↔ fz_col tm gx gy gc v) ∧ ∀ post : Int32 → Prop, post M' → wX_variablesOfGoals_4 post fv fc (nI gc) fe fd ft pl aw az tc pt so sc ki fi se si ins cn rc rl rr gt gx gy gf ex ey dx dy bi go df tw tl st ps ws mg mr mt mp ma mz ch is sl re (j + 1) M (nI i) := by
  have hn := hC.1
  intro j
  induction j with
  | zero =>
    intro i M hij hM
    have e : i = gc := by omega
    subst e
    exact ⟨M, hM, fun post hp => br_t (nI_le (by omega) (by omega)) hp⟩
  | succ j ih =>
    intro i M hij hM
    obtain ⟨t, x, y, ht, hx, hy, et, ex1, ey1, _, _⟩ := hG i (by omega)
    obtain ⟨M', h1, h2⟩ := ih (i + 1) (M ||| (ins x ||| ins y)) (by omega) (fun v => by
      rw [fz_insor hC hx hy, hM v, fz_col_s, ex1, ey1, nI_clamp (by omega), nI_clamp (by omega)])
    refine ⟨M', h1, fun post hp => ?_⟩
    have ci : (nI i).toNatClampNeg = i := nI_clamp (by omega)
    have hin : vp_in (nI i) 4 := vp_in_nI (by omega) (by omega)
    refine br_f (nI_ge (by omega) (by omega)) ?_
    rw [ci, ex1, ey1, nI_clamp (n := x) (by omega), nI_clamp (n := y) (by omega)]
    exact And.intro hin (And.intro (vp_in_nI (by omega) (by omega)) (And.intro hin (And.intro (vp_in_nI (by omega) (by omega)) (nm_e (nm_r (nI_1 i) (h2 post hp))))))
theorem fz_vog (hC : fz_CX n nv ki fi se ins cn tm) (hgc : gc ≤ 4) (hG : fz_HG tm n fz_tt gt gx gy gc) : ∃ M, (∀ v, bt M v = true ↔ fz_col tm gx gy gc v) ∧ ∀ post : Int32 → Prop, post M → wpX_variablesOfGoals post (fv, fc, nI gc, fe, fd, ft, pl, aw, az, tc, pt, so, sc, ki, fi, se, si, ins, cn, rc, rl, rr, gt, gx, gy, gf, ex, ey, dx, dy, bi, go, df, tw, tl, st, ps, ws, mg, mr, mt, mp, ma, mz, ch, is, sl, re) := by
  obtain ⟨M, h1, h2⟩ := fz_vog_l (fv := fv) (fc := fc) (fe := fe) (fd := fd) (ft := ft) (pl := pl) (aw := aw) (az := az) (tc := tc) (pt := pt) (so := so) (sc := sc) (ki := ki) (fi := fi) (se := se) (si := si) (ins := ins) (cn := cn) (rc := rc) (rl := rl) (rr := rr) (gt := gt) (gx := gx) (gy := gy) (gf := gf) (ex := ex) (ey := ey) (dx := dx) (dy := dy) (bi := bi) (go := go) (df := df) (tw := tw) (tl := tl) (st := st) (ps := ps) (ws := ws) (mg := mg) (mr := mr) (mt := mt) (mp := mp) (ma := ma) (mz := mz) (ch := ch) (is := is) (sl := sl) (re := re) hC hgc hG gc 0 0 (by omega) (fun v => by
    rw [b_0]
    exact ⟨fun q => Bool.noConfusion q, fun ⟨e, he, _⟩ => by omega⟩)
  exact ⟨M, h1, fun post hp => ⟨gc + 1, h2 post hp⟩⟩
/-! solve: the collection of the solutions -/
theorem fz_gapp {F : List Nat} {k c i : Nat} (h : (F ++ [i])[k]? = some c) : F[k]? = some c ∨ (k = F.length ∧ c = i) := by
  rcases Nat.lt_or_ge k F.length with q | q
  · rw [List.getElem?_append_left q] at h; exact Or.inl h
  · rw [List.getElem?_append_right q] at h
    cases e : k - F.length with
    | zero =>
      rw [e] at h
      have h' : some i = some c := h
      injection h' with h'
      exact Or.inr ⟨by omega, h'.symm⟩
    | succ z =>
      rw [e] at h
      exact absurd h (by simp)
theorem fz_glt {F : List Nat} {k c : Nat} (h : F[k]? = some c) : k < F.length := by
  apply Decidable.byContradiction
  intro q
  rw [List.getElem?_eq_none (by omega)] at h
  exact absurd h (by simp)
theorem fz_s190 {post : Int32 → SX → Prop} {p : Nat → Bool} (hp : ∀ c, c < 1296 → (¬ is c = 0 ↔ p c = true))
    (H : ∀ sl : Nat → Int32, (∀ k c, ((List.range 1296).filter p)[k]? = some c → sl k = nI c) → post (nI ((List.range 1296).filter p).length) (fv, fc, fg, fe, fd, ft, pl, aw, az, tc, pt, 1, nI ((List.range 1296).filter p).length, ki, fi, se, si, ins, cn, rc, rl, rr, gt, gx, gy, gf, ex, ey, dx, dy, bi, go, df, tw, tl, st, ps, ws, mg, mr, mt, mp, ma, mz, ch, is, sl, re)) :
    ∀ (j i : Nat) (sl : Nat → Int32), i + j = 1296 → (∀ k c, ((List.range i).filter p)[k]? = some c → sl k = nI c) → wX_solve_190 post fv fc fg fe fd ft pl aw az tc pt so (j + 1) (nI i) (nI ((List.range i).filter p).length) ki fi se si ins cn rc rl rr gt gx gy gf ex ey dx dy bi go df tw tl st ps ws mg mr mt mp ma mz ch is sl re := by
  intro j
  induction j with
  | zero =>
    intro i sl hij hsl
    have e : i = 1296 := by omega
    subst e
    exact br_t (by decide) (H sl hsl)
  | succ j ih =>
    intro i sl hij hsl
    have hle : ((List.range i).filter p).length ≤ i := by
      have := List.length_filter_le p (List.range i)
      rw [List.length_range] at this; exact this
    have ci : (nI i).toNatClampNeg = i := nI_clamp (by omega)
    refine br_f (nI_ge (b := 1296) (by omega) (by decide)) (And.intro (vp_in_nI (by omega) (by omega)) ?_)
    rw [ci]
    cases q : p i
    · have hz : is i = 0 := by
        apply Classical.byContradiction
        intro w
        have := (hp i (by omega)).mp w
        rw [q] at this; exact Bool.noConfusion this
      refine br_t hz (nm_r (nI_1 i) ?_)
      have e : (List.range (i + 1)).filter p = (List.range i).filter p := by
        rw [List.range_succ, List.filter_append]; simp [q]
      have key := ih (i + 1) sl (by omega) (by rw [e]; exact hsl)
      rw [e] at key
      exact key
    · have hz : ¬ is i = 0 := (hp i (by omega)).mpr q
      have e : (List.range (i + 1)).filter p = (List.range i).filter p ++ [i] := by
        rw [List.range_succ, List.filter_append]; simp [q]
      have key := ih (i + 1) (upd sl ((List.range i).filter p).length (nI i)) (by omega) (by
        rw [e]
        intro k c hk
        rcases fz_gapp hk with w | ⟨w1, w2⟩
        · have := fz_glt w
          exact (if_neg (by omega)).trans (hsl k c w)
        · rw [w1, w2]; exact if_pos rfl)
      rw [e, List.length_append] at key
      refine br_f hz (And.intro (vp_in_nI (by omega) (by omega)) (nm_r (e' := upd sl ((List.range i).filter p).length (nI i)) (by rw [nI_clamp (by omega), fz_short (by omega)]) (nm_r (nI_1 _) (nm_r (nI_1 i) key))))
theorem fz_s190' {post : Int32 → SX → Prop} {p : Nat → Bool} (hp : ∀ c, c < 1296 → (¬ is c = 0 ↔ p c = true))
    (H : ∀ sl : Nat → Int32, (∀ k c, ((List.range 1296).filter p)[k]? = some c → sl k = nI c) → post (nI ((List.range 1296).filter p).length) (fv, fc, fg, fe, fd, ft, pl, aw, az, tc, pt, 1, nI ((List.range 1296).filter p).length, ki, fi, se, si, ins, cn, rc, rl, rr, gt, gx, gy, gf, ex, ey, dx, dy, bi, go, df, tw, tl, st, ps, ws, mg, mr, mt, mp, ma, mz, ch, is, sl, re)) : ∃ n190 : Nat, wX_solve_190 post fv fc fg fe fd ft pl aw az tc pt so n190 0 0 ki fi se si ins cn rc rl rr gt gx gy gf ex ey dx dy bi go df tw tl st ps ws mg mr mt mp ma mz ch is sl re :=
  ⟨1297, fz_s190 hp H 1296 0 sl (by omega) (fun k c h => by simp at h)⟩
/-! solve: clearing, then the machine -/
theorem fz_s152 {post : Int32 → SX → Prop} (hS : fz_ST n nv gc ec dc tm gv ki fi se ins cn rc rl rr gt gx gy ex ey dx dy) (hF : fz_HF nv gf gc)
    (H : ∀ (ft pl aw az tc pt : Int32) (bi go df tw tl st : Nat → Int32) (ps : Nat → Int64) (mg mr mt mp ma mz ch is sl : Nat → Int32), (∀ k c, (fz_SL tm gc ec dc rc rl rr gt gx gy ex ey dx dy)[k]? = some c → sl k = nI c) → post (nI (fz_SL tm gc ec dc rc rl rr gt gx gy ex ey dx dy).length) (nI nv, fc, nI gc, nI ec, nI dc, ft, pl, aw, az, tc, pt, 1, nI (fz_SL tm gc ec dc rc rl rr gt gx gy ex ey dx dy).length, ki, fi, se, si, ins, cn, rc, rl, rr, gt, gx, gy, gf, ex, ey, dx, dy, bi, go, df, tw, tl, st, ps, ws, mg, mr, mt, mp, ma, mz, ch, is, sl, re)) :
    ∀ (j i : Nat) (is : Nat → Int32), i + j = 1296 → (∀ c, c < i → is c = 0) → wX_solve_152 post (nI nv) fc (nI gc) (nI ec) (nI dc) ft pl aw az tc pt so sc (j + 1) (nI i) ki fi se si ins cn rc rl rr gt gx gy gf ex ey dx dy bi go df tw tl st ps ws mg mr mt mp ma mz ch is sl re := by
  intro j
  induction j with
  | zero =>
    intro i is hij his
    have e : i = 1296 := by omega
    subst e
    refine br_t (by decide) ?_
    refine fz_prep hS hF ?_ ?_
    · intro tt pt' pl' aw' az' bi' go' df' tw' tl' st' ps' hNI
      refine br_f (by decide) ?_
      refine fz_search hS hNI ?_
      intro ft'' pt'' pl'' aw'' az'' tc'' bi'' go'' df'' tw'' tl'' st'' ps'' mg'' mr'' mt'' mp'' ma'' mz'' ch'' is'' h''
      refine fz_s190' (p := fun c => fz_pb (fz_cd tm gc ec dc rc rl rr gt gx gy ex ey dx dy c)) (fun c hc => ?_) (fun sl' hsl => H _ _ _ _ _ _ _ _ _ _ _ _ _ _ _ _ _ _ _ _ _ _ hsl)
      rw [h'' c, fz_pb_iff]
      exact ⟨fun q => q.elim (fun w => absurd (his c hc) w) id, Or.inr⟩
    · intro tt pt' pl' aw' az' tc' bi' go' df' tw' tl' st' ps' hno
      refine br_t rfl ?_
      refine fz_s190' (p := fun c => fz_pb (fz_cd tm gc ec dc rc rl rr gt gx gy ex ey dx dy c)) (fun c hc => ?_) (fun sl' hsl => H _ _ _ _ _ _ _ _ _ _ _ _ _ _ _ _ _ _ _ _ _ _ hsl)
      rw [fz_pb_iff]
      exact ⟨fun w => absurd (his c hc) w, fun ⟨ρ, _, w, _⟩ => absurd w (hno ρ)⟩
  | succ j ih =>
    intro i is hij his
    refine br_f (nI_ge (b := 1296) (by omega) (by decide)) (And.intro (vp_in_nI (by omega) (by omega)) (nm_r (e' := upd is i 0) (by rw [nI_clamp (by omega)]; rfl) (nm_r (nI_1 i) ?_)))
    refine ih (i + 1) _ (by omega) (fun c hc => ?_)
    by_cases z : c = i
    · exact if_pos z
    · exact (if_neg z).trans (his c (by omega))
theorem fz_ST_of (hB : fz_BT n nv gc ec dc tm ki fi se ins cn rc rl rr gt gx gy gf ex ey dx dy) (hL : ¬ fz_loose tm gx gy gf ex ey dx dy nv gc ec dc) : fz_ST n nv gc ec dc tm (fz_col tm gx gy gc) ki fi se ins cn rc rl rr gt gx gy ex ey dx dy := by
  obtain ⟨hC, h1, h2, h3, hG, hR, hE, hD, hF⟩ := hB
  have hn := hC.1
  have nl : ∀ v, v < nv → fz_spk tm gf ex ey dx dy gc ec dc v → fz_col tm gx gy gc v := fun v hv hs => Classical.byContradiction (fun q => hL ⟨v, hv, hs, q⟩)
  refine ⟨hC, h1, h2, h3, fun g hg => ?_, hR, fun e he => ?_, fun d hd => ?_, fun v hv => ⟨?_, hv⟩⟩
  · obtain ⟨t, x, y, ht, hx, hy, et, ex1, ey1, _, _⟩ := hG g hg
    refine ⟨t, x, y, ht, hx, hy, et, ex1, ey1, fun v q => ⟨g, hg, Or.inl ?_⟩, fun v q => ⟨g, hg, Or.inr ?_⟩⟩
    · rw [ex1, nI_clamp (by omega)]; exact q
    · rw [ey1, nI_clamp (by omega)]; exact q
  · obtain ⟨x, y, hx, hy, ex1, ey1, _, _⟩ := hE e he
    refine ⟨x, y, hx, hy, ex1, ey1, fun v q => nl v (fz_CX_nv hC x hx v q) (Or.inr (Or.inl ⟨e, he, Or.inl ?_⟩)), fun v q => nl v (fz_CX_nv hC y hy v q) (Or.inr (Or.inl ⟨e, he, Or.inr ?_⟩))⟩
    · rw [ex1, nI_clamp (by omega)]; exact q
    · rw [ey1, nI_clamp (by omega)]; exact q
  · obtain ⟨x, y, hx, hy, ex1, ey1, _, _⟩ := hD d hd
    refine ⟨x, y, hx, hy, ex1, ey1, fun v q => nl v (fz_CX_nv hC x hx v q) (Or.inr (Or.inr ⟨d, hd, Or.inl ?_⟩)), fun v q => nl v (fz_CX_nv hC y hy v q) (Or.inr (Or.inr ⟨d, hd, Or.inr ?_⟩))⟩
    · rw [ex1, nI_clamp (by omega)]; exact q
    · rw [ey1, nI_clamp (by omega)]; exact q
  · obtain ⟨g, hg, ho⟩ := hv
    obtain ⟨t, x, y, ht, hx, hy, et, ex1, ey1, _, _⟩ := hG g hg
    rw [ex1, ey1, nI_clamp (by omega), nI_clamp (by omega)] at ho
    exact ho.elim (fz_CX_oc hC hx) (fz_CX_oc hC hy)
theorem fz_s99 {post : Int32 → SX → Prop} (hB : fz_BT n nv gc ec dc tm ki fi se ins cn rc rl rr gt gx gy gf ex ey dx dy) {M : Int32} (hM : ∀ v, bt M v = true ↔ fz_col tm gx gy gc v)
    (HL : fz_loose tm gx gy gf ex ey dx dy nv gc ec dc → post (-3) (nI nv, fc, nI gc, nI ec, nI dc, ft, pl, aw, az, tc, pt, so, sc, ki, fi, se, si, ins, cn, rc, rl, rr, gt, gx, gy, gf, ex, ey, dx, dy, bi, go, df, tw, tl, st, ps, ws, mg, mr, mt, mp, ma, mz, ch, is, sl, re))
    (H : ¬ fz_loose tm gx gy gf ex ey dx dy nv gc ec dc → ∀ (ft pl aw az tc pt : Int32) (bi go df tw tl st : Nat → Int32) (ps : Nat → Int64) (mg mr mt mp ma mz ch is sl : Nat → Int32), (∀ k c, (fz_SL tm gc ec dc rc rl rr gt gx gy ex ey dx dy)[k]? = some c → sl k = nI c) → post (nI (fz_SL tm gc ec dc rc rl rr gt gx gy ex ey dx dy).length) (nI nv, fc, nI gc, nI ec, nI dc, ft, pl, aw, az, tc, pt, 1, nI (fz_SL tm gc ec dc rc rl rr gt gx gy ex ey dx dy).length, ki, fi, se, si, ins, cn, rc, rl, rr, gt, gx, gy, gf, ex, ey, dx, dy, bi, go, df, tw, tl, st, ps, ws, mg, mr, mt, mp, ma, mz, ch, is, sl, re)) :
    ∀ (j i : Nat) (U : Int32), i + j = dc → (∀ v, bt U v = true ↔ (fz_col tm gx gy gc v ∨ fz_frz gf gc v ∨ fz_col tm ex ey ec v ∨ fz_col tm dx dy i v)) → wX_solve_99 post M (nI nv) fc (nI gc) (nI ec) (nI dc) ft pl aw az tc pt so sc ki fi se si ins cn rc rl rr gt gx gy gf ex ey dx dy bi go df tw tl st ps ws mg mr mt mp ma mz ch is sl re (j + 1) U (nI i) := by
  have hB' := hB
  obtain ⟨hC, h1, h2, h3, hG, hR, hE, hD, hF⟩ := hB'
  have hn := hC.1
  intro j
  induction j with
  | zero =>
    intro i U hij hU
    have e : i = dc := by omega
    subst e
    refine br_t (nI_le (by omega) (by omega)) ?_
    have hk : (U &&& (M ^^^ (-1))) = 0 ↔ ¬ fz_loose tm gx gy gf ex ey dx dy nv gc ec i := by
      constructor
      · rintro hz ⟨v, hv, hs, hn'⟩
        have e1 : bt (U &&& (M ^^^ (-1))) v = false := by rw [hz, b_0]
        rw [fz_anx, (hU v).mpr (Or.inr hs)] at e1
        have e2 : bt M v = true := by simpa using e1
        exact hn' ((hM v).mp e2)
      · intro hL
        apply Classical.byContradiction
        intro hz
        obtain ⟨v, _, hv⟩ := fz_nz hz
        rw [fz_anx] at hv
        have hv1 : bt U v = true := by cases q : bt U v <;> simp [q] at hv ⊢
        have hv2 : ¬ bt M v = true := by intro q; rw [q] at hv; simp at hv
        have hnm : ¬ fz_col tm gx gy gc v := fun q => hv2 ((hM v).mpr q)
        rcases (hU v).mp hv1 with q | q
        · exact hnm q
        · refine hL ⟨v, ?_, q, hnm⟩
          rcases q with ⟨g, hg, e, _⟩ | ⟨e, he, ho⟩ | ⟨d, hd, ho⟩
          · rcases hF g hg with w | ⟨u, hu, w⟩
            · exact absurd (e.symm.trans w) (fz_m1 (by have := fz_blt hv1; omega))
            · have := (nI_eq (by have := fz_blt hv1; omega) (by have := hC.2.1; omega)).mp (e.symm.trans w)
              omega
          · obtain ⟨x, y, hx, hy, ex1, ey1, _, _⟩ := hE e he
            rw [ex1, ey1, nI_clamp (by omega), nI_clamp (by omega)] at ho
            exact ho.elim (fz_CX_nv hC x hx v) (fz_CX_nv hC y hy v)
          · obtain ⟨x, y, hx, hy, ex1, ey1, _, _⟩ := hD d hd
            rw [ex1, ey1, nI_clamp (by omega), nI_clamp (by omega)] at ho
            exact ho.elim (fz_CX_nv hC x hx v) (fz_CX_nv hC y hy v)
    by_cases hL : fz_loose tm gx gy gf ex ey dx dy nv gc ec i
    · exact br_f (fun q => (hk.mp q) hL) (HL hL)
    · refine br_t (hk.mpr hL) ⟨1297, ?_⟩
      exact fz_s152 (fz_ST_of hB hL) hF (H hL) 1296 0 is (by omega) (fun c hc => by omega)
  | succ j ih =>
    intro i U hij hU
    obtain ⟨x, y, hx, hy, ex1, ey1, _, _⟩ := hD i (by omega)
    have ci : (nI i).toNatClampNeg = i := nI_clamp (by omega)
    have hin : vp_in (nI i) 6 := vp_in_nI (by omega) (by omega)
    refine br_f (nI_ge (by omega) (by omega)) ?_
    rw [ci, ex1, ey1, nI_clamp (n := x) (by omega), nI_clamp (n := y) (by omega)]
    refine And.intro hin (And.intro (vp_in_nI (by omega) (by omega)) (And.intro hin (And.intro (vp_in_nI (by omega) (by omega)) (nm_e (nm_r (nI_1 i) ?_)))))
    refine ih (i + 1) _ (by omega) (fun v => ?_)
    rw [fz_insor hC hx hy, hU v, fz_col_s, ex1, ey1, nI_clamp (by omega), nI_clamp (by omega)]
    constructor
    · rintro ((q | q | q | q) | q)
      · exact Or.inl q
      · exact Or.inr (Or.inl q)
      · exact Or.inr (Or.inr (Or.inl q))
      · exact Or.inr (Or.inr (Or.inr (Or.inl q)))
      · exact Or.inr (Or.inr (Or.inr (Or.inr q)))
    · rintro (q | q | q | q | q)
      · exact Or.inl (Or.inl q)
      · exact Or.inl (Or.inr (Or.inl q))
      · exact Or.inl (Or.inr (Or.inr (Or.inl q)))
      · exact Or.inl (Or.inr (Or.inr (Or.inr q)))
      · exact Or.inr q
theorem fz_s57 {post : Int32 → SX → Prop} (hB : fz_BT n nv gc ec dc tm ki fi se ins cn rc rl rr gt gx gy gf ex ey dx dy) {M : Int32}
    (H : ∀ U, (∀ v, bt U v = true ↔ (fz_col tm gx gy gc v ∨ fz_frz gf gc v ∨ fz_col tm ex ey ec v)) → ∃ n99, wX_solve_99 post M (nI nv) fc (nI gc) (nI ec) (nI dc) ft pl aw az tc pt so sc ki fi se si ins cn rc rl rr gt gx gy gf ex ey dx dy bi go df tw tl st ps ws mg mr mt mp ma mz ch is sl re n99 U 0) :
    ∀ (j i : Nat) (U : Int32), i + j = ec → (∀ v, bt U v = true ↔ (fz_col tm gx gy gc v ∨ fz_frz gf gc v ∨ fz_col tm ex ey i v)) → wX_solve_57 post M (nI nv) fc (nI gc) (nI ec) (nI dc) ft pl aw az tc pt so sc ki fi se si ins cn rc rl rr gt gx gy gf ex ey dx dy bi go df tw tl st ps ws mg mr mt mp ma mz ch is sl re (j + 1) U (nI i) := by
  obtain ⟨hC, h1, h2, h3, hG, hR, hE, hD, hF⟩ := hB
  have hn := hC.1
  intro j
  induction j with
  | zero =>
    intro i U hij hU
    have e : i = ec := by omega
    subst e
    exact br_t (nI_le (by omega) (by omega)) (H U hU)
  | succ j ih =>
    intro i U hij hU
    obtain ⟨x, y, hx, hy, ex1, ey1, _, _⟩ := hE i (by omega)
    have ci : (nI i).toNatClampNeg = i := nI_clamp (by omega)
    have hin : vp_in (nI i) 4 := vp_in_nI (by omega) (by omega)
    refine br_f (nI_ge (by omega) (by omega)) ?_
    rw [ci, ex1, ey1, nI_clamp (n := x) (by omega), nI_clamp (n := y) (by omega)]
    refine And.intro hin (And.intro (vp_in_nI (by omega) (by omega)) (And.intro hin (And.intro (vp_in_nI (by omega) (by omega)) (nm_e (nm_r (nI_1 i) ?_)))))
    refine ih (i + 1) _ (by omega) (fun v => ?_)
    rw [fz_insor hC hx hy, hU v, fz_col_s, ex1, ey1, nI_clamp (by omega), nI_clamp (by omega)]
    constructor
    · rintro ((q | q | q) | q)
      · exact Or.inl q
      · exact Or.inr (Or.inl q)
      · exact Or.inr (Or.inr (Or.inl q))
      · exact Or.inr (Or.inr (Or.inr q))
    · rintro (q | q | q | q)
      · exact Or.inl (Or.inl q)
      · exact Or.inl (Or.inr (Or.inl q))
      · exact Or.inl (Or.inr (Or.inr q))
      · exact Or.inr q
theorem fz_s21 {post : Int32 → SX → Prop} (hB : fz_BT n nv gc ec dc tm ki fi se ins cn rc rl rr gt gx gy gf ex ey dx dy) {M : Int32}
    (H : ∀ U, (∀ v, bt U v = true ↔ (fz_col tm gx gy gc v ∨ fz_frz gf gc v)) → ∃ n57, wX_solve_57 post M (nI nv) fc (nI gc) (nI ec) (nI dc) ft pl aw az tc pt so sc ki fi se si ins cn rc rl rr gt gx gy gf ex ey dx dy bi go df tw tl st ps ws mg mr mt mp ma mz ch is sl re n57 U 0) :
    ∀ (j i : Nat) (U : Int32), i + j = gc → (∀ v, bt U v = true ↔ (fz_col tm gx gy gc v ∨ fz_frz gf i v)) → wX_solve_21 post M (nI nv) fc (nI gc) (nI ec) (nI dc) ft pl aw az tc pt so sc ki fi se si ins cn rc rl rr gt gx gy gf ex ey dx dy bi go df tw tl st ps ws mg mr mt mp ma mz ch is sl re (j + 1) U (nI i) := by
  obtain ⟨hC, h1, h2, h3, hG, hR, hE, hD, hF⟩ := hB
  have hnv := hC.2.1
  intro j
  induction j with
  | zero =>
    intro i U hij hU
    have e : i = gc := by omega
    subst e
    exact br_t (nI_le (by omega) (by omega)) (H U hU)
  | succ j ih =>
    intro i U hij hU
    have ci : (nI i).toNatClampNeg = i := nI_clamp (by omega)
    have hin : vp_in (nI i) 4 := vp_in_nI (by omega) (by omega)
    refine br_f (nI_ge (by omega) (by omega)) (And.intro hin ?_)
    rw [ci]
    rcases hF i (by omega) with e | ⟨w, hw, e⟩
    · refine br_t (by rw [e]; decide) (nm_r (nI_1 i) ?_)
      refine ih (i + 1) U (by omega) (fun v => ?_)
      rw [hU v]
      have k : fz_frz gf i v ↔ fz_frz gf (i + 1) v := by
        constructor
        · rintro ⟨g, g1, g2, g3⟩; exact ⟨g, by omega, g2, g3⟩
        · rintro ⟨g, g1, g2, g3⟩
          refine ⟨g, ?_, g2, g3⟩
          by_cases z : g = i
          · rw [z, e] at g2
            exact absurd g2.symm (fz_m1 (by omega))
          · omega
      rw [k]
    · rw [e]
      refine br_f (nI_pos (by omega)) (And.intro hin (nm_e (nm_r (nI_1 i) ?_)))
      refine ih (i + 1) _ (by omega) (fun v => ?_)
      rw [fz_or1 _ (by omega), Bool.or_eq_true, hU v, decide_eq_true_iff]
      have k : (fz_frz gf i v ∨ v = w) ↔ fz_frz gf (i + 1) v := by
        constructor
        · rintro (⟨g, g1, g2, g3⟩ | z)
          · exact ⟨g, by omega, g2, g3⟩
          · exact ⟨i, by omega, by rw [z]; exact e, by omega⟩
        · rintro ⟨g, g1, g2, g3⟩
          by_cases z : g = i
          · rw [z, e] at g2
            exact Or.inr ((nI_eq (by omega) (by omega)).mp g2).symm
          · exact Or.inl ⟨g, by omega, g2, g3⟩
      rw [or_assoc, k]
theorem fz_Xsolve {post : Int32 → SX → Prop} (hB : fz_BT n nv gc ec dc tm ki fi se ins cn rc rl rr gt gx gy gf ex ey dx dy)
    (HL : fz_loose tm gx gy gf ex ey dx dy nv gc ec dc → post (-3) (nI nv, fc, nI gc, nI ec, nI dc, ft, pl, aw, az, tc, pt, 0, sc, ki, fi, se, si, ins, cn, rc, rl, rr, gt, gx, gy, gf, ex, ey, dx, dy, bi, go, df, tw, tl, st, ps, ws, mg, mr, mt, mp, ma, mz, ch, is, sl, re))
    (H : ¬ fz_loose tm gx gy gf ex ey dx dy nv gc ec dc → ∀ (ft pl aw az tc pt : Int32) (bi go df tw tl st : Nat → Int32) (ps : Nat → Int64) (mg mr mt mp ma mz ch is sl : Nat → Int32), (∀ k c, (fz_SL tm gc ec dc rc rl rr gt gx gy ex ey dx dy)[k]? = some c → sl k = nI c) → post (nI (fz_SL tm gc ec dc rc rl rr gt gx gy ex ey dx dy).length) (nI nv, fc, nI gc, nI ec, nI dc, ft, pl, aw, az, tc, pt, 1, nI (fz_SL tm gc ec dc rc rl rr gt gx gy ex ey dx dy).length, ki, fi, se, si, ins, cn, rc, rl, rr, gt, gx, gy, gf, ex, ey, dx, dy, bi, go, df, tw, tl, st, ps, ws, mg, mr, mt, mp, ma, mz, ch, is, sl, re)) :
    wpX_solve post (nI nv, fc, nI gc, nI ec, nI dc, ft, pl, aw, az, tc, pt, 0, sc, ki, fi, se, si, ins, cn, rc, rl, rr, gt, gx, gy, gf, ex, ey, dx, dy, bi, go, df, tw, tl, st, ps, ws, mg, mr, mt, mp, ma, mz, ch, is, sl, re) := by
  obtain ⟨M, hM, hV⟩ := fz_vog (fv := nI nv) (fc := fc) (fe := nI ec) (fd := nI dc) (ft := ft) (pl := pl) (aw := aw) (az := az) (tc := tc) (pt := pt) (so := 0) (sc := sc) (ki := ki) (fi := fi) (se := se) (si := si) (ins := ins) (cn := cn) (rc := rc) (rl := rl) (rr := rr) (gt := gt) (gx := gx) (gy := gy) (gf := gf) (ex := ex) (ey := ey) (dx := dx) (dy := dy) (bi := bi) (go := go) (df := df) (tw := tw) (tl := tl) (st := st) (ps := ps) (ws := ws) (mg := mg) (mr := mr) (mt := mt) (mp := mp) (ma := ma) (mz := mz) (ch := ch) (is := is) (sl := sl) (re := re) hB.1 hB.2.1 hB.2.2.2.2.1
  refine br_t rfl (hV _ ?_)
  refine ⟨gc + 1, fz_s21 hB ?_ gc 0 M (by omega) (fun v => ?_)⟩
  · intro U hU
    refine ⟨ec + 1, fz_s57 hB ?_ ec 0 U (by omega) (fun v => ?_)⟩
    · intro U2 hU2
      refine ⟨dc + 1, fz_s99 hB hM HL H dc 0 U2 (by omega) (fun v => ?_)⟩
      rw [hU2 v]
      constructor
      · rintro (q | q | q)
        · exact Or.inl q
        · exact Or.inr (Or.inl q)
        · exact Or.inr (Or.inr (Or.inl q))
      · rintro (q | q | q | ⟨e, he, _⟩)
        · exact Or.inl q
        · exact Or.inr (Or.inl q)
        · exact Or.inr (Or.inr q)
        · omega
    · rw [hU v]
      constructor
      · rintro (q | q)
        · exact Or.inl q
        · exact Or.inr (Or.inl q)
      · rintro (q | q | ⟨e, he, _⟩)
        · exact Or.inl q
        · exact Or.inr q
        · omega
  · rw [hM v]
    constructor
    · exact Or.inl
    · rintro (q | ⟨e, he, _⟩)
      · exact q
      · omega
end
end
section
/-! digits of a code -/
theorem fz_hn_div {ρ : Nat → Nat} {i : Nat} (h : ρ i < 6) : fz_hn fz_six ρ (i + 1) / 6 = fz_hn fz_six ρ i := by
  show (6 * fz_hn fz_six ρ i + ρ i) / 6 = _
  omega
theorem fz_hn_mod {ρ : Nat → Nat} {i : Nat} (h : ρ i < 6) : fz_hn fz_six ρ (i + 1) % 6 = ρ i := by
  show (6 * fz_hn fz_six ρ i + ρ i) % 6 = _
  omega
theorem fz_nz6 : ¬ (6 : Int32) = 0 := by decide
def fz_G (tm : Nat → fz_T) : Nat → Prop := fun c => fz_gd (tm c)
theorem fz_AB_gd (tm : Nat → fz_T) : fz_AB tm fz_tt (fz_G tm) := by
  refine ⟨fun _ _ => trivial, fun _ _ _ _ _ => ⟨trivial, trivial⟩, fun c a b e h => ?_, fun c v a e h _ => ?_⟩
  · have h' : fz_gd (tm c) := h
    rw [e] at h'
    exact fz_gd_op.mp h'
  · have h' : fz_gd (tm c) := h
    rw [e] at h'
    exact absurd rfl (h' v)
/-! the number of a term: base eighteen, in longs -/
def fz_num (acc : Int64) (L : List fz_T) : Int64 := L.foldl (fun a u => 18 * a + lN (fz_sg u)) acc
def fz_SK (ws : Nat → Int32) : List Nat → Prop
  | [] => True
  | c :: S => ws S.length = nI c ∧ fz_SK ws S
theorem fz_SK_upd {ws : Nat → Int32} {i : Nat} {x : Int32} : ∀ S : List Nat, S.length ≤ i → fz_SK ws S → fz_SK (upd ws i x) S := by
  intro S
  induction S with
  | nil => intro _ _; trivial
  | cons c S ih =>
    intro h q
    have h' : S.length + 1 ≤ i := h
    exact ⟨(if_neg (by omega)).trans q.1, ih (by omega) q.2⟩
def fz_ct (f : Nat → fz_T) : List Nat → List fz_T
  | [] => []
  | c :: S => fz_ls (f c) ++ fz_ct f S
theorem fz_ct_len (f : Nat → fz_T) : ∀ S : List Nat, S.length ≤ (fz_ct f S).length := by
  intro S
  induction S with
  | nil => exact Nat.le_refl _
  | cons c S ih =>
    have h := fz_sz_pos (f c)
    rw [← fz_ls_len] at h
    show S.length + 1 ≤ (fz_ls (f c) ++ fz_ct f S).length
    rw [List.length_append]; omega
section
variable {n nv gc ec dc : Nat} {tm : Nat → fz_T} {gv : Nat → Prop}
variable {fv fc fg fe fd ft pl aw az tc pt so sc : Int32} {ki fi se si ins cn rc rl rr gt gx gy gf ex ey dx dy bi go df tw tl st : Nat → Int32} {ps : Nat → Int64} {ws mg mr mt mp ma mz ch is sl re : Nat → Int32}
theorem fz_ric {post : Int32 → Prop} {ρ : Nat → Nat} {g : Nat} (hgc : gc ≤ 4) (hρ : ∀ g, g < gc → ρ g < 6) (hg : g < gc) (H : post (nI (ρ g))) : wpX_rowInCode post (fv, fc, nI gc, fe, fd, ft, pl, aw, az, tc, pt, so, sc, ki, fi, se, si, ins, cn, rc, rl, rr, gt, gx, gy, gf, ex, ey, dx, dy, bi, go, df, tw, tl, st, ps, ws, mg, mr, mt, mp, ma, mz, ch, is, sl, re) (nI (fz_hn fz_six ρ gc)) (nI g) := by
  have key : ∀ j, g + 1 + j ≤ gc → wX_rowInCode_10 post (nI g) fv fc (nI gc) fe fd ft pl aw az tc pt so sc ki fi se si ins cn rc rl rr gt gx gy gf ex ey dx dy bi go df tw tl st ps ws mg mr mt mp ma mz ch is sl re (j + 1) (nI (fz_hn fz_six ρ (g + 1 + j))) (nI (g + j)) := by
    intro j
    induction j with
    | zero =>
      intro hj
      have hl := fz_hn_1296 (ρ := ρ) (i := g + 1) (by omega) (fun h hh => hρ h (by omega))
      refine br_t (nI_le (by omega) (by omega)) (And.intro fz_nz6 ?_)
      rw [show nI (fz_hn fz_six ρ (g + 1)) - nI (fz_hn fz_six ρ (g + 1)) / 6 * 6 = nI (fz_hn fz_six ρ (g + 1) % 6) from pk_rem (d := 6) (by omega) (by omega) (by omega), fz_hn_mod (hρ g hg)]
      exact H
    | succ j ih =>
      intro hj
      have hl := fz_hn_1296 (ρ := ρ) (i := g + 1 + (j + 1)) (by omega) (fun h hh => hρ h (by omega))
      refine br_f (nI_ge (by omega) (by omega)) (And.intro fz_nz6 (nm_r (e' := nI (fz_hn fz_six ρ (g + 1 + j))) ?_ (nm_r (pk_m1 (g + j)) (ih (by omega)))))
      rw [show nI (fz_hn fz_six ρ (g + 1 + (j + 1))) / 6 = nI (fz_hn fz_six ρ (g + 1 + j + 1) / 6) from pk_div (d := 6) (by omega) (by omega) (by omega), fz_hn_div (hρ (g + 1 + j) (by omega))]
  have e : gc = g + 1 + (gc - (g + 1)) := by omega
  have e2 : nI gc - 1 = nI (g + (gc - (g + 1))) := by
    have := nI_pred (g + (gc - (g + 1)))
    rw [show g + (gc - (g + 1)) + 1 = gc by omega] at this
    exact this
  have k := key (gc - (g + 1)) (by omega)
  rw [← e] at k
  exact nm_r e2 ⟨_, k⟩
/-! replay -/
theorem fz_replay {post : SX → Prop} (hC : fz_CX n nv ki fi se ins cn tm) (hgc : gc ≤ 4) (hG : fz_HG tm n fz_tt gt gx gy gc) (hR : fz_HR tm n rc rl rr) {ρ : Nat → Nat} {k : Nat} (hk : k < 1296) (hρ : ∀ g, g < gc → ρ g < fz_rn rc gt g) (hsl : sl k = nI (fz_hn fz_six ρ gc)) {θ : Nat → fz_T} (hθ : ∀ g, g < gc → fz_mt tm rl rr gt gx gy g (ρ g) θ)
    (H : ∀ (ft pl aw az tc pt : Int32) (bi go df tw tl st : Nat → Int32) (ps : Nat → Int64), (∀ v, fz_col tm gx gy gc v → ∃ c, c < n ∧ bi v = nI c ∧ fz_gd (tm c) ∧ tm c = θ v) → post (fv, fc, nI gc, fe, fd, ft, pl, aw, az, tc, pt, so, sc, ki, fi, se, si, ins, cn, rc, rl, rr, gt, gx, gy, gf, ex, ey, dx, dy, bi, go, df, tw, tl, st, ps, ws, mg, mr, mt, mp, ma, mz, ch, is, sl, re)) : wpX_replay post (fv, fc, nI gc, fe, fd, ft, pl, aw, az, tc, pt, so, sc, ki, fi, se, si, ins, cn, rc, rl, rr, gt, gx, gy, gf, ex, ey, dx, dy, bi, go, df, tw, tl, st, ps, ws, mg, mr, mt, mp, ma, mz, ch, is, sl, re) (nI k) := by
  have hn := hC.1
  have hρ6 : ∀ g, g < gc → ρ g < 6 := fun g hg => by
    obtain ⟨t, m, x, y, _, hm, _, _, _, _, _, _, _, _, e, _⟩ := fz_HGR hG hR hg
    have := hρ g hg
    omega
  have loop : ∀ (j i tt : Nat) (pl pt aw az tc : Int32) (bi go df tw tl st : Nat → Int32) (ps : Nat → Int64), i + j = gc → fz_bw n (fz_G tm) bi → fz_ac tm bi → tt + 3 * fz_ub bi ≤ 18 → (∀ θ, fz_md tm bi θ ↔ ∀ g, g < i → fz_mt tm rl rr gt gx gy g (ρ g) θ) → wX_replay_13 post (nI (fz_hn fz_six ρ gc)) (j + 1) (nI i) fv fc (nI gc) fe fd (nI tt) pl aw az tc pt so sc ki fi se si ins cn rc rl rr gt gx gy gf ex ey dx dy bi go df tw tl st ps ws mg mr mt mp ma mz ch is sl re := by
    intro j
    induction j with
    | zero =>
      intro i tt pl pt aw az tc bi go df tw tl st ps hij hb ha htt hm
      have e : i = gc := by omega
      subst e
      refine br_t (nI_le (by omega) (by omega)) (H (nI tt) pl aw az tc pt bi go df tw tl st ps (fun v hv => ?_))
      obtain ⟨g, hg, ho⟩ := hv
      obtain ⟨t, m, x, y, ht, hm6, hx, hy, et, ex1, ey1, _, _, em, ern, hrow⟩ := fz_HGR hG hR hg
      obtain ⟨a, b, ha1, hb1, ea, eb, hga, hgb⟩ := hrow (ρ g) (by have := hρ g hg; omega)
      have hmt : ∀ θ, fz_mt tm rl rr gt gx gy g (ρ g) θ → (fz_sb θ (tm x) = tm a ∧ fz_sb θ (tm y) = tm b) := fun θ q => by
        unfold fz_mt at q
        rw [et, nI_clamp (n := t) (by omega), ex1, ey1, ea, eb, fz_q_nI (by omega) (by omega), fz_q_nI (by omega) (by omega), fz_sb_gd θ _ hga, fz_sb_gd θ _ hgb] at q
        exact q
      rw [ex1, ey1, nI_clamp (by omega), nI_clamp (by omega)] at ho
      have hv6 : v < 6 := ho.elim (fz_CX_oc hC hx) (fz_CX_oc hC hy)
      have hne : bi v ≠ -1 := by
        rcases ho with ho | ho
        · exact fz_bound hn hb ha (fun θ q => (hmt θ ((hm θ).mp q g hg)).1) hv6 ho
        · exact fz_bound hn hb ha (fun θ q => (hmt θ ((hm θ).mp q g hg)).2) hv6 ho
      rcases hb v hv6 with q | ⟨c, hc, e, hgc'⟩
      · exact absurd q hne
      · have := (hm θ).mpr hθ v hv6 c (by omega) e
        rw [fz_sb_gd θ _ hgc'] at this
        exact ⟨c, hc, e, hgc', this.symm⟩
    | succ j ih =>
      intro i tt pl pt aw az tc bi go df tw tl st ps hij hb ha htt hm
      obtain ⟨t, m, x, y, ht, hm6, hx, hy, et, ex1, ey1, _, _, em, ern, hrow⟩ := fz_HGR hG hR (g := i) (by omega)
      obtain ⟨a, b, ha1, hb1, ea, eb, hga, hgb⟩ := hrow (ρ i) (by have := hρ i (by omega); omega)
      have hmt : ∀ θ, fz_mt tm rl rr gt gx gy i (ρ i) θ ↔ (fz_sb θ (tm x) = fz_sb θ (tm a) ∧ fz_sb θ (tm y) = fz_sb θ (tm b)) := fun θ => by
        unfold fz_mt
        rw [et, nI_clamp (n := t) (by omega), ex1, ey1, ea, eb, fz_q_nI (by omega) (by omega), fz_q_nI (by omega) (by omega)]
      have ci : (nI i).toNatClampNeg = i := nI_clamp (by omega)
      have hin : vp_in (nI i) 4 := vp_in_nI (by omega) (by omega)
      have hr6 := hρ6 i (by omega)
      have hi24 : vp_in (nI (6 * t + ρ i)) 24 := vp_in_nI (by omega) (by omega)
      have c24 : (nI (6 * t + ρ i)).toNatClampNeg = 6 * t + ρ i := nI_clamp (by omega)
      have e6 : (6 : Int32) * nI t + nI (ρ i) = nI (6 * t + ρ i) := by
        rw [show (6 : Int32) * nI t = nI (6 * t) from pk_mul 6 t, nI_add]
      refine br_f (nI_ge (by omega) (by omega)) (And.intro hin ?_)
      refine fz_ric hgc hρ6 (by omega) ?_
      refine nm_r (e' := nI (6 * t + ρ i)) (by rw [ci, et]; exact e6) (And.intro hin (And.intro hi24 ?_))
      rw [ci, c24, ex1, ea]
      have M0 := (hm θ).mpr (fun g hg => hθ g (by omega))
      have M1 := (hmt θ).mp (hθ i (by omega))
      refine fz_unify (A := fz_tt) (B := fz_G tm) (tt := tt) hC (fz_AB_gd tm) hx ha1 trivial hga hb ha (by omega) ?_ ?_
      · intro tt1 k1 aw1 az1 tc1 bi1 go1 df1 tw1 tl1 st1 ps1 g1 b1 a1 m1
        have q1 := g1.2.1
        refine And.intro hin (And.intro hi24 ?_)
        rw [ey1, eb]
        refine fz_unify (A := fz_tt) (B := fz_G tm) (tt := tt1) hC (fz_AB_gd tm) hy hb1 trivial hgb b1 a1 (by omega) ?_ ?_
        · intro tt2 k2 aw2 az2 tc2 bi2 go2 df2 tw2 tl2 st2 ps2 g2 b2 a2 m2
          have q2 := g2.2.1
          refine nm_r (nI_1 i) ?_
          refine ih (i + 1) tt2 pl (nI k2) aw2 az2 tc2 bi2 go2 df2 tw2 tl2 st2 ps2 (by omega) b2 a2 (by omega) (fun θ => ?_)
          rw [m2 θ, m1 θ, hm θ]
          constructor
          · rintro ⟨⟨p1, p2⟩, p3⟩ g hg
            by_cases z : g = i
            · rw [z]; exact (hmt θ).mpr ⟨p2, p3⟩
            · exact p1 g (by omega)
          · intro p
            have := (hmt θ).mp (p i (by omega))
            exact ⟨⟨fun g hg => p g (by omega), this.1⟩, this.2⟩
        · intro tt2 k2 aw2 az2 tc2 bi2 go2 df2 tw2 tl2 st2 ps2 g2 n2
          exact absurd ⟨(m1 θ).mpr ⟨M0, M1.1⟩, M1.2⟩ (n2 θ)
      · intro tt1 k1 aw1 az1 tc1 bi1 go1 df1 tw1 tl1 st1 ps1 g1 n1
        exact absurd ⟨M0, M1.1⟩ (n1 θ)
  unfold wpX_replay
  refine fz_reset ?_
  intro bi' go' df' h1 h2
  refine And.intro (vp_in_nI (by omega) (by omega)) (nm_r (e' := nI (fz_hn fz_six ρ gc)) (by rw [nI_clamp (by omega)]; exact hsl) ⟨gc + 1, ?_⟩)
  refine loop gc 0 0 0 pt 0 0 0 bi' go' df' tw tl st ps (by omega) (fun v hv => Or.inl (h1 v hv)) (fz_ac_free h1) (by have := fz_ub_le bi'; omega) (fun θ => ?_)
  constructor
  · intro _ g hg; omega
  · intro _ v hv c hc e
    exact absurd (e.symm.trans (h1 v hv)) (fz_m1 (by omega))
/-! written -/
theorem fz_written_l {post : Int64 → SX → Prop} (hC : fz_CX n nv ki fi se ins cn tm) : ∀ (N s : Nat) (S : List Nat) (acc : Int64) (ws : Nat → Int32), (∀ c, c ∈ S → c < n ∧ fz_gd (tm c)) → fz_SK ws S → (fz_ct tm S).length ≤ N → s + N ≤ 13 → (∀ ws' : Nat → Int32, post (fz_num acc (fz_ct tm S)) (fv, fc, fg, fe, fd, ft, pl, aw, az, tc, pt, so, sc, ki, fi, se, si, ins, cn, rc, rl, rr, gt, gx, gy, gf, ex, ey, dx, dy, bi, go, df, tw, tl, st, ps, ws', mg, mr, mt, mp, ma, mz, ch, is, sl, re)) → wX_written_16 post fv fc fg fe fd ft pl aw az tc pt so sc (N + 1) acc (nI S.length) (nI s) ki fi se si ins cn rc rl rr gt gx gy gf ex ey dx dy bi go df tw tl st ps ws mg mr mt mp ma mz ch is sl re := by
  have hn := hC.1
  intro N
  induction N with
  | zero =>
    intro s S acc ws hS hK hl hs H
    have hlen := fz_ct_len tm S
    cases S with
    | nil =>
      refine br_f (nI_ge (b := 64) (by omega) (by decide)) (br_t (by decide) (H ws))
    | cons c S =>
      have : S.length + 1 ≤ (fz_ct tm (c :: S)).length := hlen
      omega
  | succ N ih =>
    intro s S acc ws hS hK hl hs H
    have hlen := fz_ct_len tm S
    refine br_f (nI_ge (b := 64) (by omega) (by decide)) ?_
    cases S with
    | nil => exact br_t (by decide) (H ws)
    | cons c S =>
      have hlen' : S.length + 1 ≤ (fz_ct tm (c :: S)).length := hlen
      have hS13 : S.length + 1 ≤ 13 := by omega
      have hcn := (hS c List.mem_cons_self).1
      have hcg := (hS c List.mem_cons_self).2
      have cc : (nI c).toNatClampNeg = c := nI_clamp (by omega)
      have ic : vp_in (nI c) 48 := vp_in_nI (by omega) (by omega)
      refine br_f (nI_nle (n := S.length + 1) (by omega) (by omega)) (nm_r (pk_m1 S.length) (And.intro (vp_in_nI (by omega) (by omega)) (nm_r (e' := nI c) (by rw [nI_clamp (by omega)]; exact hK.1) (And.intro ic ?_))))
      rcases hC.2.2.1 c hcn with ⟨k0, k, hk, ef, et⟩ | ⟨k1, v, hv, ef, et⟩ | ⟨k2, a, b, ha, hb, ef, es, et⟩
      · refine br_f (by rw [cc, k0]; exact fz_k02) (And.intro ic (nm_r (e' := 18 * acc + lN (k + 1)) ?_ (nm_r (nI_1 s) ?_)))
        · rw [cc, ef, nI_l (by omega), Int64.add_assoc, lN_1]
        · have e : fz_ct tm (c :: S) = .var (k + 1) :: fz_ct tm S := by
            show fz_ls (tm c) ++ fz_ct tm S = _
            rw [et]; rfl
          rw [e] at H hl
          have hl' : (fz_ct tm S).length + 1 ≤ N + 1 := hl
          exact ih (s + 1) S _ ws (fun c hc => hS c (List.mem_cons_of_mem _ hc)) hK.2 (by omega) (by omega) H
      · rw [et] at hcg
        exact absurd rfl (hcg v)
      · have ca : (nI S.length).toNatClampNeg = S.length := nI_clamp (by omega)
        rw [et] at hcg
        have hg2 := fz_gd_op.mp hcg
        have e : fz_ct tm (c :: S) = .op (tm a) (tm b) :: fz_ct tm (a :: b :: S) := by
          show fz_ls (tm c) ++ fz_ct tm S = _ :: (fz_ls (tm a) ++ (fz_ls (tm b) ++ fz_ct tm S))
          rw [et]
          show _ :: (fz_ls (tm a) ++ fz_ls (tm b)) ++ fz_ct tm S = _
          rw [List.cons_append, List.append_assoc]
        rw [e] at H hl
        have hl' : (fz_ct tm (a :: b :: S)).length + 1 ≤ N + 1 := hl
        refine br_t (by rw [cc]; exact k2) (nm_e (And.intro ic (And.intro (vp_in_nI (by omega) (by omega)) (nm_r (e' := upd ws S.length (nI b)) (by rw [ca, cc, es, fz_byte' (by omega)]) (And.intro ic ?_)))))
        rw [nI_1]
        refine And.intro (vp_in_nI (by omega) (by omega)) (nm_r (e' := upd (upd ws S.length (nI b)) (S.length + 1) (nI a)) (by rw [nI_clamp (by omega), cc, ef, fz_byte' (by omega)]) (nm_r (e' := nI (S.length + 2)) (nI_add S.length 2) (nm_r (nI_1 s) ?_)))
        refine ih (s + 1) (a :: b :: S) _ _ (fun x hx => ?_) ⟨if_pos rfl, (if_neg (by omega)).trans (if_pos rfl), fz_SK_upd S (by omega) (fz_SK_upd S (Nat.le_refl _) hK.2)⟩ (by omega) (by omega) H
        rcases List.mem_cons.mp hx with q | hx
        · rw [q]; exact ⟨by omega, hg2.1⟩
        · rcases List.mem_cons.mp hx with q | hx
          · rw [q]; exact ⟨by omega, hg2.2⟩
          · exact hS x (List.mem_cons_of_mem _ hx)
theorem fz_written {post : Int64 → SX → Prop} (hC : fz_CX n nv ki fi se ins cn tm) {c : Nat} (hc : c < n) (hg : fz_gd (tm c)) (hz : fz_sz (tm c) ≤ 13) (H : ∀ ws' : Nat → Int32, post (fz_num 0 (fz_ls (tm c))) (fv, fc, fg, fe, fd, ft, pl, aw, az, tc, pt, so, sc, ki, fi, se, si, ins, cn, rc, rl, rr, gt, gx, gy, gf, ex, ey, dx, dy, bi, go, df, tw, tl, st, ps, ws', mg, mr, mt, mp, ma, mz, ch, is, sl, re)) : wpX_written post (fv, fc, fg, fe, fd, ft, pl, aw, az, tc, pt, so, sc, ki, fi, se, si, ins, cn, rc, rl, rr, gt, gx, gy, gf, ex, ey, dx, dy, bi, go, df, tw, tl, st, ps, ws, mg, mr, mt, mp, ma, mz, ch, is, sl, re) (nI c) := by
  have hn := hC.1
  refine nm_r (e' := upd ws 0 (nI c)) (by rw [fz_byte (by omega)]) ⟨14, ?_⟩
  have e : fz_ct tm [c] = fz_ls (tm c) := List.append_nil _
  have hl := fz_ls_len (tm c)
  refine fz_written_l hC 13 0 [c] 0 _ (fun x hx => by rw [List.mem_singleton.mp hx]; exact ⟨hc, hg⟩) ⟨if_pos rfl, trivial⟩ (by rw [e]; omega) (by omega) (by rw [e]; exact H)
end
end
section
/-! making a cell -/
def fz_CZ (n : Nat) (si cn : Nat → Int32) (tm : Nat → fz_T) : Prop := ∀ c, c < n → si c = nI (fz_sz (tm c)) ∧ fz_sz (tm c) ≤ 13 ∧ ∃ m, m ≤ c ∧ cn c = nI m
def fz_tu (tm : Nat → fz_T) (n : Nat) (t : fz_T) : Nat → fz_T := fun j => if j = n then t else tm j
theorem fz_tu_s {tm : Nat → fz_T} {n : Nat} {t : fz_T} : fz_tu tm n t n = t := if_pos rfl
theorem fz_tu_n {tm : Nat → fz_T} {n : Nat} {t : fz_T} {j : Nat} (h : j < n) : fz_tu tm n t j = tm j := if_neg (by omega)
theorem fz_us {f : Nat → Int32} {k : Nat} {x : Int32} : upd f k x k = x := if_pos rfl
theorem fz_uo {f : Nat → Int32} {k j : Nat} {x : Int32} (h : j < k) : upd f k x j = f j := if_neg (by omega)
theorem fz_63 : ∀ i, i < 32 → bt 63 i = decide (i < 6) := by decide +kernel
theorem fz_small {x : Int32} (h : ∀ i, bt x i = true → i < 6) : ∃ m, m < 64 ∧ x = nI m := by
  have e : x &&& 63 = x := by
    refine b_ext (fun i hi => ?_)
    rw [b_and, fz_63 i hi]
    cases q : bt x i
    · rfl
    · have := h i q; simp [this]
  have e2 := pk_and x (m := 63) 6 (by decide)
  rw [e] at e2
  exact ⟨_, Nat.mod_lt _ (by decide), e2⟩
def fz_K1 (nv c : Nat) (ki fi se : Nat → Int32) (tm : Nat → fz_T) : Prop :=
  (ki c = 0 ∧ ∃ k, k ≤ 15 ∧ fi c = nI k ∧ tm c = .var (k + 1)) ∨ (ki c = 1 ∧ ∃ v, v < nv ∧ fi c = nI v ∧ tm c = .var (100 + v)) ∨ (ki c = 2 ∧ ∃ a b, a < c ∧ b < c ∧ fi c = nI a ∧ se c = nI b ∧ tm c = .op (tm a) (tm b))
section
variable {n nv gc ec dc : Nat} {tm : Nat → fz_T} {gv : Nat → Prop}
variable {fv fc fg fe fd ft pl aw az tc pt so sc : Int32} {ki fi se si ins cn rc rl rr gt gx gy gf ex ey dx dy bi go df tw tl st : Nat → Int32} {ps : Nat → Int64} {ws mg mr mt mp ma mz ch is sl re : Nat → Int32}
theorem fz_same {post : Int32 → Prop} {c d : Nat} (hc : c < 48) (hd : d < c) (hnv : nv ≤ 6) (kc : fz_K1 nv c ki fi se tm) (kd : fz_K1 nv d ki fi se tm) (hcn : ∀ x y, x < c → y < c → (cn x = cn y ↔ tm x = tm y)) (H1 : tm c = tm d → post 1) (H0 : tm c ≠ tm d → post 0) : wpX_sameShape post (fv, fc, fg, fe, fd, ft, pl, aw, az, tc, pt, so, sc, ki, fi, se, si, ins, cn, rc, rl, rr, gt, gx, gy, gf, ex, ey, dx, dy, bi, go, df, tw, tl, st, ps, ws, mg, mr, mt, mp, ma, mz, ch, is, sl, re) (nI c) (nI d) := by
  have ec : (nI c).toNatClampNeg = c := nI_clamp (by omega)
  have ed : (nI d).toNatClampNeg = d := nI_clamp (by omega)
  have ic : vp_in (nI c) 48 := vp_in_nI (by omega) (by omega)
  have id' : vp_in (nI d) 48 := vp_in_nI (by omega) (by omega)
  refine And.intro ic (And.intro id' ?_)
  rw [ec, ed]
  rcases kc with ⟨c0, k, hk, f1, t1⟩ | ⟨c0, v, hv, f1, t1⟩ | ⟨c0, a, b, ha, hb, f1, s1, t1⟩
  · rcases kd with ⟨d0, k', hk', f2, t2⟩ | ⟨d0, v', hv', f2, t2⟩ | ⟨d0, a', b', ha', hb', f2, s2, t2⟩
    · refine br_t (c0.trans d0.symm) (And.intro ic (br_f (by rw [c0]; exact fz_k02) (And.intro ic (And.intro id' ?_))))
      rw [f1, f2]
      by_cases z : k = k'
      · exact br_t (by rw [z]) (H1 (by rw [t1, t2, z]))
      · refine br_f (fun q => z ((nI_eq (by omega) (by omega)).mp q)) (H0 (fun q => ?_))
        rw [t1, t2] at q
        injection q with q
        omega
    · refine br_f (by rw [c0, d0]; exact fz_k01) (H0 (fun q => ?_))
      rw [t1, t2] at q
      injection q with q
      omega
    · refine br_f (by rw [c0, d0]; exact fz_k02) (H0 (fun q => ?_))
      rw [t1, t2] at q
      exact Lean.Data.AC.Expr.noConfusion q
  · rcases kd with ⟨d0, k', hk', f2, t2⟩ | ⟨d0, v', hv', f2, t2⟩ | ⟨d0, a', b', ha', hb', f2, s2, t2⟩
    · refine br_f (by rw [c0, d0]; decide) (H0 (fun q => ?_))
      rw [t1, t2] at q
      injection q with q
      omega
    · refine br_t (c0.trans d0.symm) (And.intro ic (br_f (by rw [c0]; exact fz_k12) (And.intro ic (And.intro id' ?_))))
      rw [f1, f2]
      by_cases z : v = v'
      · exact br_t (by rw [z]) (H1 (by rw [t1, t2, z]))
      · refine br_f (fun q => z ((nI_eq (by omega) (by omega)).mp q)) (H0 (fun q => ?_))
        rw [t1, t2] at q
        injection q with q
        omega
    · refine br_f (by rw [c0, d0]; exact fz_k12) (H0 (fun q => ?_))
      rw [t1, t2] at q
      exact Lean.Data.AC.Expr.noConfusion q
  · rcases kd with ⟨d0, k', hk', f2, t2⟩ | ⟨d0, v', hv', f2, t2⟩ | ⟨d0, a', b', ha', hb', f2, s2, t2⟩
    · refine br_f (by rw [c0, d0]; decide) (H0 (fun q => ?_))
      rw [t1, t2] at q
      exact Lean.Data.AC.Expr.noConfusion q
    · refine br_f (by rw [c0, d0]; exact fz_k21) (H0 (fun q => ?_))
      rw [t1, t2] at q
      exact Lean.Data.AC.Expr.noConfusion q
    · refine br_t (c0.trans d0.symm) (And.intro ic (br_t c0 (And.intro ic ?_)))
      rw [f1, f2, s1, s2]
      refine And.intro (vp_in_nI (by omega) (by omega)) (And.intro id' (And.intro (vp_in_nI (by omega) (by omega)) ?_))
      rw [nI_clamp (n := a) (by omega), nI_clamp (n := a') (by omega), nI_clamp (n := b) (by omega), nI_clamp (n := b') (by omega)]
      by_cases z : tm a = tm a'
      · refine br_t ((hcn a a' (by omega) (by omega)).mpr z) (And.intro ic (And.intro (vp_in_nI (by omega) (by omega)) (And.intro id' (And.intro (vp_in_nI (by omega) (by omega)) ?_))))
        by_cases z2 : tm b = tm b'
        · exact br_t ((hcn b b' (by omega) (by omega)).mpr z2) (H1 (by rw [t1, t2, z, z2]))
        · refine br_f (fun q => z2 ((hcn b b' (by omega) (by omega)).mp q)) (H0 (fun q => ?_))
          rw [t1, t2] at q
          injection q with q1 q2
          exact z2 q2
      · refine br_f (fun q => z ((hcn a a' (by omega) (by omega)).mp q)) (H0 (fun q => ?_))
        rw [t1, t2] at q
        injection q with q1 q2
        exact z q1
theorem fz_nc66 {post : Int32 → SX → Prop} (hn : n < 48) (hnv : nv ≤ 6) (kc : ∀ c, c < n + 1 → fz_K1 nv c ki fi se tm) (hcn : ∀ x y, x < n → y < n → (cn x = cn y ↔ tm x = tm y)) (hm : ∀ c, c < n → ∃ m, m ≤ c ∧ cn c = nI m) (h0 : cn n = nI n)
    (H : ∀ cn' : Nat → Int32, (∀ x y, x < n + 1 → y < n + 1 → (cn' x = cn' y ↔ tm x = tm y)) → (∀ c, c < n + 1 → ∃ m, m ≤ c ∧ cn' c = nI m) → post (nI n) (fv, nI (n + 1), fg, fe, fd, ft, pl, aw, az, tc, pt, so, sc, ki, fi, se, si, ins, cn', rc, rl, rr, gt, gx, gy, gf, ex, ey, dx, dy, bi, go, df, tw, tl, st, ps, ws, mg, mr, mt, mp, ma, mz, ch, is, sl, re)) :
    ∀ j i, i + j = n → (∀ d, d < i → tm n ≠ tm d) → wX_newCell_66 post (nI n) fv (nI n) fg fe fd ft pl aw az tc pt so sc ki fi se si ins cn rc rl rr gt gx gy gf ex ey dx dy bi go df tw tl st ps ws mg mr mt mp ma mz ch is sl re (j + 1) (nI i) := by
  intro j
  induction j with
  | zero =>
    intro i hij hd
    have e : i = n := by omega
    subst e
    refine br_t (nI_le (by omega) (by omega)) (nm_r (nI_1 i) (H cn (fun x y hx hy => ?_) (fun c hc => ?_)))
    · by_cases zx : x = i
      · by_cases zy : y = i
        · rw [zx, zy]; exact ⟨fun _ => rfl, fun _ => rfl⟩
        · obtain ⟨m, m1, m2⟩ := hm y (by omega)
          rw [zx, h0, m2]
          exact ⟨fun q => by have := (nI_eq (by omega) (by omega)).mp q; omega, fun q => absurd q (hd y (by omega))⟩
      · by_cases zy : y = i
        · obtain ⟨m, m1, m2⟩ := hm x (by omega)
          rw [zy, h0, m2]
          exact ⟨fun q => by have := (nI_eq (by omega) (by omega)).mp q; omega, fun q => absurd q.symm (hd x (by omega))⟩
        · exact hcn x y (by omega) (by omega)
    · by_cases z : c = i
      · exact ⟨i, by omega, by rw [z]; exact h0⟩
      · exact hm c (by omega)
  | succ j ih =>
    intro i hij hd
    refine br_f (nI_ge (by omega) (by omega)) ?_
    refine fz_same (nv := nv) (tm := tm) hn (by omega) hnv (kc n (by omega)) (kc i (by omega)) hcn (fun e => ?_) (fun e => ?_)
    · obtain ⟨m, m1, m2⟩ := hm i (by omega)
      have ci : (nI i).toNatClampNeg = i := nI_clamp (by omega)
      have cc : (nI n).toNatClampNeg = n := nI_clamp (by omega)
      refine br_f (by decide) (And.intro (vp_in_nI (by omega) (by omega)) (And.intro (vp_in_nI (by omega) (by omega)) (nm_r (e' := upd cn n (cn i)) (by rw [ci, cc, m2, fz_byte' (by omega)]) (nm_r (nI_1 n) ?_))))
      refine H _ (fun x y hx hy => ?_) (fun c hc => ?_)
      · have key : ∀ x, x < n + 1 → ∃ x', x' < n ∧ upd cn n (cn i) x = cn x' ∧ tm x = tm x' := fun x hx => by
          by_cases z : x = n
          · rw [z]; exact ⟨i, by omega, fz_us, e⟩
          · exact ⟨x, by omega, fz_uo (by omega), rfl⟩
        obtain ⟨x', a1, a2, a3⟩ := key x hx
        obtain ⟨y', b1, b2, b3⟩ := key y hy
        rw [a2, b2, a3, b3]
        exact hcn x' y' a1 b1
      · by_cases z : c = n
        · rw [z, fz_us]; exact ⟨m, by omega, m2⟩
        · rw [fz_uo (by omega)]; exact hm c (by omega)
    · refine br_t rfl (nm_r (nI_1 i) (ih (i + 1) (by omega) (fun d hd' => ?_)))
      by_cases z : d = i
      · rw [z]; exact e
      · exact hd d (by omega)
theorem fz_newcell {post : Int32 → SX → Prop} (hC : fz_CX n nv ki fi se ins cn tm) (hZ : fz_CZ n si cn tm) (hn : n < 48) {kd a b s m : Nat} {t : fz_T} (hkd : kd < 3) (ha : a < 48) (hb : b < 48) (hm : m < 64) (hs : s = fz_sz t) (hs13 : s ≤ 13)
    (hK : (kd = 0 ∧ a ≤ 15 ∧ t = .var (a + 1)) ∨ (kd = 1 ∧ a < nv ∧ t = .var (100 + a)) ∨ (kd = 2 ∧ a < n ∧ b < n ∧ t = .op (tm a) (tm b))) (hi : ∀ i, bt (nI m) i = true ↔ fz_oc i t)
    (H : ∀ cn' : Nat → Int32, fz_CX (n + 1) nv (upd ki n (nI kd)) (upd fi n (nI a)) (upd se n (nI b)) (upd ins n (nI m)) cn' (fz_tu tm n t) → fz_CZ (n + 1) (upd si n (nI s)) cn' (fz_tu tm n t) → post (nI n) (fv, nI (n + 1), fg, fe, fd, ft, pl, aw, az, tc, pt, so, sc, upd ki n (nI kd), upd fi n (nI a), upd se n (nI b), upd si n (nI s), upd ins n (nI m), cn', rc, rl, rr, gt, gx, gy, gf, ex, ey, dx, dy, bi, go, df, tw, tl, st, ps, ws, mg, mr, mt, mp, ma, mz, ch, is, sl, re)) :
    wpX_newCell post (fv, nI n, fg, fe, fd, ft, pl, aw, az, tc, pt, so, sc, ki, fi, se, si, ins, cn, rc, rl, rr, gt, gx, gy, gf, ex, ey, dx, dy, bi, go, df, tw, tl, st, ps, ws, mg, mr, mt, mp, ma, mz, ch, is, sl, re) (nI kd) (nI a) (nI b) (nI s) (nI m) := by
  obtain ⟨_, hnv, hk, hins, hcn⟩ := hC
  have cc : (nI n).toNatClampNeg = n := nI_clamp (by omega)
  have hin : vp_in (nI n) 48 := vp_in_nI (by omega) (by omega)
  have K : ∀ c, c < n + 1 → fz_K1 nv c (upd ki n (nI kd)) (upd fi n (nI a)) (upd se n (nI b)) (fz_tu tm n t) := by
    intro c hc
    by_cases z : c = n
    · subst z
      unfold fz_K1
      rw [fz_us, fz_us, fz_us, fz_tu_s]
      rcases hK with ⟨k0, k1, k2⟩ | ⟨k0, k1, k2⟩ | ⟨k0, k1, k2, k3⟩
      · exact Or.inl ⟨by rw [k0]; rfl, a, k1, rfl, k2⟩
      · exact Or.inr (Or.inl ⟨by rw [k0]; rfl, a, k1, rfl, k2⟩)
      · exact Or.inr (Or.inr ⟨by rw [k0]; rfl, a, b, k1, k2, rfl, rfl, by rw [fz_tu_n k1, fz_tu_n k2]; exact k3⟩)
    · unfold fz_K1
      rw [fz_uo (by omega), fz_uo (by omega), fz_uo (by omega), fz_tu_n (by omega)]
      rcases hk c (by omega) with h | h | ⟨h1, x, y, h2, h3, h4, h5, h6⟩
      · exact Or.inl h
      · exact Or.inr (Or.inl h)
      · exact Or.inr (Or.inr ⟨h1, x, y, h2, h3, h4, h5, by rw [fz_tu_n (by omega), fz_tu_n (by omega)]; exact h6⟩)
  refine And.intro hin (nm_r (e' := upd ki n (nI kd)) (by rw [cc, fz_byte (by omega)]) (And.intro hin (nm_r (e' := upd fi n (nI a)) (by rw [cc, fz_byte (by omega)]) (And.intro hin (nm_r (e' := upd se n (nI b)) (by rw [cc, fz_byte (by omega)]) (And.intro hin (nm_r (e' := upd si n (nI s)) (by rw [cc, fz_byte (by omega)]) (And.intro hin (nm_r (e' := upd ins n (nI m)) (by rw [cc, fz_byte (by omega)]) (And.intro hin (nm_r (e' := upd cn n (nI n)) (by rw [cc, fz_byte (by omega)]) ?_)))))))))))
  refine ⟨n + 1, fz_nc66 (tm := fz_tu tm n t) (nv := nv) hn hnv K (fun x y hx hy => ?_) (fun c hc => ?_) fz_us ?_ n 0 (by omega) (fun d hd => by omega)⟩
  · rw [fz_uo hx, fz_uo hy, fz_tu_n hx, fz_tu_n hy]; exact hcn x y hx hy
  · rw [fz_uo hc]; exact (hZ c hc).2.2
  · intro cn' h1 h2
    refine H cn' ⟨by omega, hnv, K, fun c hc i => ?_, h1⟩ (fun c hc => ⟨?_, ?_, h2 c hc⟩)
    · by_cases z : c = n
      · rw [z, fz_us, fz_tu_s]; exact hi i
      · rw [fz_uo (by omega), fz_tu_n (by omega)]; exact hins c (by omega) i
    · by_cases z : c = n
      · rw [z, fz_us, fz_tu_s, hs]
      · rw [fz_uo (by omega), fz_tu_n (by omega)]; exact (hZ c (by omega)).1
    · by_cases z : c = n
      · rw [z, fz_tu_s]; omega
      · rw [fz_tu_n (by omega)]; exact (hZ c (by omega)).2.1
end
end
section
/-! the reference: its store, and writing a term out -/
def fz_CY (n : Nat) (sg yi yj : Nat → Int32) (tm : Nat → fz_T) : Prop :=
  n ≤ 48 ∧ ∀ c, c < n → (∃ s, ((1 ≤ s ∧ s ≤ 16) ∨ (100 ≤ s ∧ s < 106)) ∧ tm c = .var s ∧ sg c = nI s) ∨ (∃ a b, a < c ∧ b < c ∧ sg c = 17 ∧ yi c = nI a ∧ yj c = nI b ∧ tm c = .op (tm a) (tm b))
def fz_by (n : Nat) (tm : Nat → fz_T) (yb : Nat → Int32) : Prop := ∀ v, v < 6 → yb v = -1 ∨ ∃ c, c < n ∧ yb v = nI c ∧ fz_gd (tm c)
def fz_th (tm : Nat → fz_T) (yb : Nat → Int32) : Nat → fz_T := fun v => if yb v = -1 then .var (100 + v) else tm (yb v).toNatClampNeg
theorem fz_th_b {tm : Nat → fz_T} {yb : Nat → Int32} {v c : Nat} (hc : c < 48) (e : yb v = nI c) : fz_th tm yb v = tm c := by
  unfold fz_th
  rw [e, if_neg (fz_m1 (by omega)), nI_clamp (by omega)]
theorem fz_th_f {tm : Nat → fz_T} {yb : Nat → Int32} {v : Nat} (e : yb v = -1) : fz_th tm yb v = .var (100 + v) := if_pos e
/-- what the loop does with a cell -/
def fz_stp (n : Nat) (sg yi yj : Nat → Int32) (f : Nat → fz_T) (c d : Nat) : Prop :=
  d < n ∧ ((∃ s, ((1 ≤ s ∧ s ≤ 16) ∨ (100 ≤ s ∧ s < 106)) ∧ f c = .var s ∧ sg d = nI s) ∨ (∃ a b, a < n ∧ b < n ∧ sg d = 17 ∧ yi d = nI a ∧ yj d = nI b ∧ f c = .op (f a) (f b)))
theorem fz_CY_wf {n : Nat} {sg yi yj : Nat → Int32} {tm : Nat → fz_T} (hY : fz_CY n sg yi yj tm) : ∀ c, c < n → fz_wf (tm c) := by
  have key : ∀ k c, c < k → c < n → fz_wf (tm c) := by
    intro k
    induction k with
    | zero => intro c q; omega
    | succ k ih =>
      intro c q hc
      rcases hY.2 c hc with ⟨s, hs, e, _⟩ | ⟨a, b, ha, hb, _, _, _, e⟩
      · rw [e]; exact hs
      · rw [e]; exact ⟨ih a (by omega) (by omega), ih b (by omega) (by omega)⟩
  intro c hc
  exact key (c + 1) c (by omega) hc
theorem fz_17 {s : Nat} (hs : (1 ≤ s ∧ s ≤ 16) ∨ (100 ≤ s ∧ s < 106)) : ¬ nI s = 17 := fun q => by
  have := (nI_eq (a := s) (b := 17) (by omega) (by omega)).mp q
  omega
section
variable {n nv gc ec dc : Nat} {tm f : Nat → fz_T}
variable {yv yc yg ye yd yo yf : Int32} {sg yi yj yr yl yq yt yx yy yz y1 y2 y3 y4 yh yp yb tx fr sk : Nat → Int32}
theorem fz_stp0 (hY : fz_CY n sg yi yj tm) {c : Nat} (hc : c < n) : fz_stp n sg yi yj tm c c := by
  refine ⟨hc, ?_⟩
  rcases hY.2 c hc with h | ⟨a, b, ha, hb, h⟩
  · obtain ⟨s, hs, e1, e2⟩ := h
    exact Or.inl ⟨s, hs, e1, e2⟩
  · exact Or.inr ⟨a, b, by omega, by omega, h⟩
theorem fz_w130 {post : Int32 → SY → Prop} {J : Int32 → Int32 → Int32 → (Nat → Int32) → (Nat → Int32) → (Nat → Int32) → (Nat → Int32) → (Nat → Int32) → (Nat → Int32) → (Nat → Int32) → (Nat → Int32) → (Nat → Int32) → (Nat → Int32) → (Nat → Int32) → (Nat → Int32) → (Nat → Int32) → (Nat → Int32) → (Nat → Int32) → (Nat → Int32) → (Nat → Int32) → (Nat → Int32) → (Nat → Int32) → (Nat → Int32) → Prop} {x2 x3 x4 : Int32} {c d w : Nat} {S : List Nat} (hn : n ≤ 48) (hst : fz_stp n sg yi yj f c d) (hS : S.length < 62)
    (H1 : ∀ s, f c = .var s → J x4 (nI S.length) (nI (w + 1)) sg yi yj yr yl yq yt yx yy yz y1 y2 y3 y4 yh yp yb tx fr sk)
    (H2 : ∀ a b, a < n → b < n → f c = .op (f a) (f b) → J x4 (nI (S.length + 2)) (nI (w + 1)) sg yi yj yr yl yq yt yx yy yz y1 y2 y3 y4 yh yp yb tx fr (upd (upd sk S.length (nI b)) (S.length + 1) (nI a))) :
    wY_write_130 post J x2 x3 x4 (nI S.length) (nI w) (nI d) yv yc yg ye yd yo yf sg yi yj yr yl yq yt yx yy yz y1 y2 y3 y4 yh yp yb tx fr sk := by
  obtain ⟨hd, hst⟩ := hst
  have cd : (nI d).toNatClampNeg = d := nI_clamp (by omega)
  have cs : (nI S.length).toNatClampNeg = S.length := nI_clamp (by omega)
  have idd : vp_in (nI d) 48 := vp_in_nI (by omega) (by omega)
  refine And.intro idd ?_
  rw [cd]
  rcases hst with ⟨s, hs, e, es⟩ | ⟨a, b, ha, hb, es, ei, ej, e⟩
  · exact br_f (by rw [es]; exact fz_17 hs) (nm_r (nI_1 w) (H1 s e))
  · refine br_t es (br_f (nI_ge (b := 62) (by omega) (by decide)) (And.intro idd (And.intro (vp_in_nI (by omega) (by omega)) (nm_r (e' := upd sk S.length (nI b)) (by rw [cs, ej]) (And.intro idd ?_)))))
    rw [nI_1, ei]
    exact And.intro (vp_in_nI (by omega) (by omega)) (nm_r (e' := upd (upd sk S.length (nI b)) (S.length + 1) (nI a)) (by rw [nI_clamp (by omega)]) (nm_r (e' := nI (S.length + 2)) (nI_add S.length 2) (nm_r (nI_1 w) (H2 a b ha hb e))))
theorem fz_w92 {post : Int32 → SY → Prop} {J : Int32 → Int32 → Int32 → (Nat → Int32) → (Nat → Int32) → (Nat → Int32) → (Nat → Int32) → (Nat → Int32) → (Nat → Int32) → (Nat → Int32) → (Nat → Int32) → (Nat → Int32) → (Nat → Int32) → (Nat → Int32) → (Nat → Int32) → (Nat → Int32) → (Nat → Int32) → (Nat → Int32) → (Nat → Int32) → (Nat → Int32) → (Nat → Int32) → (Nat → Int32) → (Nat → Int32) → Prop} {x2 : Int32} {base c d w : Nat} {S : List Nat} (hn : n ≤ 48) (hb : base ≤ 128) (hw : w < 100) (hst : fz_stp n sg yi yj f c d) (hS : S.length < 62)
    (H1 : ∀ s, f c = .var s → J (nI (w + 1)) (nI S.length) (nI (w + 1)) sg yi yj yr yl yq yt yx yy yz y1 y2 y3 y4 yh yp yb (upd tx (base + w) (nI (fz_sg (f c)))) (upd fr (base + w) (nI d)) sk)
    (H2 : ∀ a b, a < n → b < n → f c = .op (f a) (f b) → J (nI (w + 1)) (nI (S.length + 2)) (nI (w + 1)) sg yi yj yr yl yq yt yx yy yz y1 y2 y3 y4 yh yp yb (upd tx (base + w) (nI (fz_sg (f c)))) (upd fr (base + w) (nI d)) (upd (upd sk S.length (nI b)) (S.length + 1) (nI a))) :
    wY_write_92 post J x2 (nI base) (nI w) (nI S.length) (nI w) (nI d) yv yc yg ye yd yo yf sg yi yj yr yl yq yt yx yy yz y1 y2 y3 y4 yh yp yb tx fr sk := by
  have hd := hst.1
  have cd : (nI d).toNatClampNeg = d := nI_clamp (by omega)
  have esg : sg d = nI (fz_sg (f c)) := by
    rcases hst.2 with ⟨s, hs, e, es⟩ | ⟨a, b, _, _, es, _, _, e⟩
    · rw [e]; exact es
    · rw [e]; exact es
  refine br_f (nI_ge (b := 128) (by omega) (by decide)) (And.intro (vp_in_nI (by omega) (by omega)) ?_)
  rw [nI_add, cd, esg, nI_clamp (n := base + w) (by omega)]
  have hin : vp_in (nI (base + w)) 256 := vp_in_nI (by omega) (by omega)
  exact And.intro hin (nm_e (And.intro hin (nm_e (nm_r (nI_1 w) (fz_w130 (n := n) (f := f) (c := c) hn hst hS H1 H2)))))
/-- the loop, over what a step does with a cell (hB) -/
theorem fz_write_l {post : Int32 → SY → Prop} {x2 : Int32} {base : Nat} (hn : n ≤ 48) (hb : base ≤ 128)
    (hB : ∀ c, c < n → ∃ d, fz_stp n sg yi yj f c d ∧ (x2 = 0 → f d = f c) ∧ ∀ (m w k : Nat) (tx fr sk : Nat → Int32), wY_write_92 post (wY_write_16 post x2 (nI base) yv yc yg ye yd yo yf m) x2 (nI base) (nI w) (nI k) (nI w) (nI d) yv yc yg ye yd yo yf sg yi yj yr yl yq yt yx yy yz y1 y2 y3 y4 yh yp yb tx fr sk → ((x2 = 0 → (wY_write_92 post (wY_write_16 post x2 (nI base) yv yc yg ye yd yo yf m) x2 (nI base) (nI w) (nI k) (nI w) (nI c) yv yc yg ye yd yo yf sg yi yj yr yl yq yt yx yy yz y1 y2 y3 y4 yh yp yb tx fr sk)) ∧ (¬ x2 = 0 → (vp_in (nI c) 48 ∧ ((((sg (nI c).toNatClampNeg) < 100 → (wY_write_92 post (wY_write_16 post x2 (nI base) yv yc yg ye yd yo yf m) x2 (nI base) (nI w) (nI k) (nI w) (nI c) yv yc yg ye yd yo yf sg yi yj yr yl yq yt yx yy yz y1 y2 y3 y4 yh yp yb tx fr sk)) ∧ (¬ (sg (nI c).toNatClampNeg) < 100 → (vp_in (nI c) 48 ∧ (vp_in ((sg (nI c).toNatClampNeg) - 100) 6 ∧ ((((yb ((sg (nI c).toNatClampNeg) - 100).toNatClampNeg) < 0 → (wY_write_92 post (wY_write_16 post x2 (nI base) yv yc yg ye yd yo yf m) x2 (nI base) (nI w) (nI k) (nI w) (nI c) yv yc yg ye yd yo yf sg yi yj yr yl yq yt yx yy yz y1 y2 y3 y4 yh yp yb tx fr sk)) ∧ (¬ (yb ((sg (nI c).toNatClampNeg) - 100).toNatClampNeg) < 0 → (vp_in (nI c) 48 ∧ (vp_in ((sg (nI c).toNatClampNeg) - 100) 6 ∧ (∀ x7_36 : Int32, x7_36 = yb ((sg (nI c).toNatClampNeg) - 100).toNatClampNeg → (wY_write_92 post (wY_write_16 post x2 (nI base) yv yc yg ye yd yo yf m) x2 (nI base) (nI w) (nI k) (nI w) x7_36 yv yc yg ye yd yo yf sg yi yj yr yl yq yt yx yy yz y1 y2 y3 y4 yh yp yb tx fr sk)))))))))))))))) :
    ∀ (N w : Nat) (S : List Nat) (tx fr sk : Nat → Int32), (∀ c, c ∈ S → c < n) → fz_SK sk S → (fz_ct f S).length ≤ N → w + N ≤ 100 → S.length ≤ 1 + w →
    (∀ tx' fr' sk' : Nat → Int32, (∀ i u, (fz_ct f S)[i]? = some u → tx' (base + w + i) = nI (fz_sg u)) → (∀ i, i < base + w → tx' i = tx i ∧ fr' i = fr i) → (x2 = 0 → ∀ i u, (fz_ct f S)[i]? = some u → ∃ c, c < n ∧ fr' (base + w + i) = nI c ∧ f c = u) → post (nI (w + (fz_ct f S).length)) (yv, yc, yg, ye, yd, yo, yf, sg, yi, yj, yr, yl, yq, yt, yx, yy, yz, y1, y2, y3, y4, yh, yp, yb, tx', fr', sk')) →
    wY_write_16 post x2 (nI base) yv yc yg ye yd yo yf (N + 1) (nI w) (nI S.length) (nI w) sg yi yj yr yl yq yt yx yy yz y1 y2 y3 y4 yh yp yb tx fr sk := by
  intro N
  induction N with
  | zero =>
    intro w S tx fr sk hS hK hl hw hk H
    have hlen := fz_ct_len f S
    cases S with
    | nil =>
      refine br_f (nI_ge (b := 256) (by omega) (by decide)) (br_t (by decide) (H tx fr sk (fun i u h => ?_) (fun _ _ => ⟨rfl, rfl⟩) (fun _ i u h => ?_)))
      · have h' : ([] : List fz_T)[i]? = some u := h
        simp at h'
      · have h' : ([] : List fz_T)[i]? = some u := h
        simp at h'
    | cons c S =>
      have : S.length + 1 ≤ (fz_ct f (c :: S)).length := hlen
      omega
  | succ N ih =>
    intro w S tx fr sk hS hK hl hw hk H
    have hlen := fz_ct_len f S
    refine br_f (nI_ge (b := 256) (by omega) (by decide)) ?_
    cases S with
    | nil =>
      refine br_t (by decide) (H tx fr sk (fun i u h => ?_) (fun _ _ => ⟨rfl, rfl⟩) (fun _ i u h => ?_))
      · have h' : ([] : List fz_T)[i]? = some u := h
        simp at h'
      · have h' : ([] : List fz_T)[i]? = some u := h
        simp at h'
    | cons c S =>
      have hlen' : S.length + 1 ≤ (fz_ct f (c :: S)).length := hlen
      have hk' : S.length + 1 ≤ 1 + w := hk
      have hS60 : S.length < 62 := by omega
      have hcn := hS c List.mem_cons_self
      obtain ⟨d, hst, hd0, hwalk⟩ := hB c hcn
      refine br_f (nI_nle (n := S.length + 1) (by omega) (by omega)) (nm_r (pk_m1 S.length) (And.intro (vp_in_nI (by omega) (by omega)) (nm_r (e' := nI c) (by rw [nI_clamp (by omega)]; exact hK.1) ?_)))
      refine hwalk (N + 1) w S.length tx fr sk ?_
      have fin : ∀ (S' : List Nat) (sk' : Nat → Int32), (∀ c, c ∈ S' → c < n) → fz_SK sk' S' → fz_ct f (c :: S) = f c :: fz_ct f S' → S'.length ≤ 1 + (w + 1) → wY_write_16 post x2 (nI base) yv yc yg ye yd yo yf (N + 1) (nI (w + 1)) (nI S'.length) (nI (w + 1)) sg yi yj yr yl yq yt yx yy yz y1 y2 y3 y4 yh yp yb (upd tx (base + w) (nI (fz_sg (f c)))) (upd fr (base + w) (nI d)) sk' := by
        intro S' sk' g1 g2 g3 g4
        rw [g3] at H hl
        have hl' : (fz_ct f S').length + 1 ≤ N + 1 := hl
        refine ih (w + 1) S' _ _ sk' g1 g2 (by omega) (by omega) g4 (fun tx' fr' sk'' q1 q2 q3 => ?_)
        have e1 : w + 1 + (fz_ct f S').length = w + (f c :: fz_ct f S').length := by
          rw [List.length_cons]; omega
        rw [e1]
        have qb := q2 (base + w) (by omega)
        refine H tx' fr' sk'' (fun i u h => ?_) (fun i hi => ?_) (fun hz i u h => ?_)
        · cases i with
          | zero =>
            have h' : some (f c) = some u := h
            injection h' with h'
            rw [← h']
            exact qb.1.trans fz_us
          | succ i =>
            have h' : (fz_ct f S')[i]? = some u := h
            have := q1 i u h'
            rw [show base + (w + 1) + i = base + w + (i + 1) by omega] at this
            exact this
        · have := q2 i (by omega)
          exact ⟨this.1.trans (fz_uo (by omega)), this.2.trans (fz_uo (by omega))⟩
        · cases i with
          | zero =>
            have h' : some (f c) = some u := h
            injection h' with h'
            exact ⟨d, hst.1, qb.2.trans fz_us, by rw [← h']; exact hd0 hz⟩
          | succ i =>
            have h' : (fz_ct f S')[i]? = some u := h
            have := q3 hz i u h'
            rw [show base + (w + 1) + i = base + w + (i + 1) by omega] at this
            exact this
      refine fz_w92 (n := n) (f := f) (c := c) hn hb (by omega) hst hS60 (fun s e => ?_) (fun a b ha hb' e => ?_)
      · refine fin S sk (fun c hc => hS c (List.mem_cons_of_mem _ hc)) hK.2 ?_ (by omega)
        show fz_ls (f c) ++ fz_ct f S = _
        rw [e]; rfl
      · refine fin (a :: b :: S) _ (fun x hx => ?_) ⟨if_pos rfl, (if_neg (by omega)).trans (if_pos rfl), fz_SK_upd S (by omega) (fz_SK_upd S (Nat.le_refl _) hK.2)⟩ ?_ (by show S.length + 2 ≤ 1 + (w + 1); omega)
        · rcases List.mem_cons.mp hx with q | hx
          · rw [q]; exact ha
          · rcases List.mem_cons.mp hx with q | hx
            · rw [q]; exact hb'
            · exact hS x (List.mem_cons_of_mem _ hx)
        · show fz_ls (f c) ++ fz_ct f S = _ :: (fz_ls (f a) ++ (fz_ls (f b) ++ fz_ct f S))
          rw [e]
          show _ :: (fz_ls (f a) ++ fz_ls (f b)) ++ fz_ct f S = _
          rw [List.cons_append, List.append_assoc]
theorem fz_write0 {post : Int32 → SY → Prop} {base c : Nat} (hY : fz_CY n sg yi yj tm) (hb : base ≤ 128) (hc : c < n) (hz : fz_sz (tm c) ≤ 13)
    (H : ∀ tx' fr' sk' : Nat → Int32, (∀ i u, (fz_ls (tm c))[i]? = some u → tx' (base + i) = nI (fz_sg u) ∧ ∃ d, d < n ∧ fr' (base + i) = nI d ∧ tm d = u) → (∀ i, i < base → tx' i = tx i ∧ fr' i = fr i) → post (nI (fz_sz (tm c))) (yv, yc, yg, ye, yd, yo, yf, sg, yi, yj, yr, yl, yq, yt, yx, yy, yz, y1, y2, y3, y4, yh, yp, yb, tx', fr', sk')) : wpY_write post (yv, yc, yg, ye, yd, yo, yf, sg, yi, yj, yr, yl, yq, yt, yx, yy, yz, y1, y2, y3, y4, yh, yp, yb, tx, fr, sk) (nI c) 0 (nI base) := by
  have e : fz_ct tm [c] = fz_ls (tm c) := List.append_nil _
  have hl := fz_ls_len (tm c)
  refine nm_e ⟨101, ?_⟩
  refine fz_write_l (n := n) (f := tm) (x2 := 0) hY.1 hb (fun c hc => ⟨c, fz_stp0 hY hc, fun _ => rfl, fun m w k tx fr sk h => br_t rfl h⟩) 100 0 [c] tx fr _ (fun x hx => by rw [List.mem_singleton.mp hx]; exact hc) ⟨if_pos rfl, trivial⟩ (by rw [e]; omega) (by omega) (Nat.le_refl _) ?_
  rw [e]
  intro tx' fr' sk' h1 h2 h3
  rw [Nat.zero_add, hl]
  exact H tx' fr' sk' (fun i u h => ⟨h1 i u h, h3 rfl i u h⟩) h2
theorem fz_write1 {post : Int32 → SY → Prop} {base c : Nat} (hY : fz_CY n sg yi yj tm) (hby : fz_by n tm yb) (hb : base ≤ 128) (hc : c < n) (hz : ∀ c, c < n → fz_sz (tm c) ≤ 13)
    (H : ∀ tx' fr' sk' : Nat → Int32, (∀ i u, (fz_ls (fz_sb (fz_th tm yb) (tm c)))[i]? = some u → tx' (base + i) = nI (fz_sg u)) → (∀ i, i < base → tx' i = tx i ∧ fr' i = fr i) → post (nI (fz_sz (fz_sb (fz_th tm yb) (tm c)))) (yv, yc, yg, ye, yd, yo, yf, sg, yi, yj, yr, yl, yq, yt, yx, yy, yz, y1, y2, y3, y4, yh, yp, yb, tx', fr', sk')) : wpY_write post (yv, yc, yg, ye, yd, yo, yf, sg, yi, yj, yr, yl, yq, yt, yx, yy, yz, y1, y2, y3, y4, yh, yp, yb, tx, fr, sk) (nI c) 1 (nI base) := by
  have hn := hY.1
  have e : fz_ct (fun c => fz_sb (fz_th tm yb) (tm c)) [c] = fz_ls (fz_sb (fz_th tm yb) (tm c)) := List.append_nil _
  have hl := fz_ls_len (fz_sb (fz_th tm yb) (tm c))
  have hz97 : fz_sz (fz_sb (fz_th tm yb) (tm c)) ≤ 97 := by
    have h1 := fz_sz_sb (θ := fz_th tm yb) (t := tm c) (fun v hv => by
      rcases hby v (fz_wf_oc (fz_CY_wf hY c hc) hv) with f | ⟨d, hd, ed, _⟩
      · rw [fz_th_f f]; show 1 ≤ 13; omega
      · rw [fz_th_b (by omega) ed]; exact hz d hd)
    have h2 := hz c hc
    omega
  refine nm_e ⟨101, ?_⟩
  refine fz_write_l (n := n) (f := fun c => fz_sb (fz_th tm yb) (tm c)) (x2 := 1) hn hb (fun c hc => ?_) 100 0 [c] tx fr _ (fun x hx => by rw [List.mem_singleton.mp hx]; exact hc) ⟨if_pos rfl, trivial⟩ (by rw [e]; omega) (by omega) (Nat.le_refl _) ?_
  · have cc : (nI c).toNatClampNeg = c := nI_clamp (by omega)
    have ic : vp_in (nI c) 48 := vp_in_nI (by omega) (by omega)
    rcases hY.2 c hc with ⟨s, hs, et, es⟩ | ⟨a, b, ha, hb', es, ei, ej, et⟩
    · by_cases h100 : 100 ≤ s
      · have es' : s = 100 + (s - 100) := by omega
        have esub : sg (nI c).toNatClampNeg - 100 = nI (s - 100) := by
          rw [cc, es]
          exact pk_sub (a := s) (b := 100) h100
        have esb : fz_sb (fz_th tm yb) (tm c) = fz_th tm yb (s - 100) := by
          rw [et, es', fz_sb_v]
          congr 1; omega
        rcases hby (s - 100) (by omega) with f | ⟨d, hd, ed, hg⟩
        · refine ⟨c, ⟨hc, Or.inl ⟨s, hs, ?_, es⟩⟩, fun q => absurd q (by decide), fun m w k tx fr sk h => ?_⟩
          · show fz_sb (fz_th tm yb) (tm c) = _
            rw [esb, fz_th_f f, ← es']
          · rw [esub, nI_clamp (n := s - 100) (by omega), f]
            exact br_f (by decide) (And.intro ic (br_f (by rw [cc, es]; exact nI_nlt (b := 100) (by omega) (by omega)) (And.intro ic (And.intro (vp_in_nI (by omega) (by omega)) (br_t (by decide) h)))))
        · refine ⟨d, ⟨hd, ?_⟩, fun q => absurd q (by decide), fun m w k tx fr sk h => ?_⟩
          · have e1 : fz_sb (fz_th tm yb) (tm c) = tm d := by rw [esb, fz_th_b (by omega) ed]
            rcases hY.2 d hd with ⟨s', hs', et', es2⟩ | ⟨a, b, ha, hb', es2, ei, ej, et'⟩
            · exact Or.inl ⟨s', hs', by show fz_sb (fz_th tm yb) (tm c) = _; rw [e1, et'], es2⟩
            · refine Or.inr ⟨a, b, by omega, by omega, es2, ei, ej, ?_⟩
              show fz_sb (fz_th tm yb) (tm c) = .op (fz_sb (fz_th tm yb) (tm a)) (fz_sb (fz_th tm yb) (tm b))
              rw [e1, ← fz_sb_op, ← et', fz_sb_gd _ _ hg]
          · rw [esub, nI_clamp (n := s - 100) (by omega), ed]
            exact br_f (by decide) (And.intro ic (br_f (by rw [cc, es]; exact nI_nlt (b := 100) (by omega) (by omega)) (And.intro ic (And.intro (vp_in_nI (by omega) (by omega)) (br_f (nI_pos (by omega)) (And.intro ic (And.intro (vp_in_nI (by omega) (by omega)) (nm_e h))))))))
      · refine ⟨c, ⟨hc, Or.inl ⟨s, hs, ?_, es⟩⟩, fun q => absurd q (by decide), fun m w k tx fr sk h => ?_⟩
        · show fz_sb (fz_th tm yb) (tm c) = _
          rw [et, fz_sb_a _ (by omega)]
        · exact br_f (by decide) (And.intro ic (br_t (by rw [cc, es]; exact nI_lt (b := 100) (by omega) (by decide)) h))
    · refine ⟨c, ⟨hc, Or.inr ⟨a, b, by omega, by omega, es, ei, ej, ?_⟩⟩, fun q => absurd q (by decide), fun m w k tx fr sk h => ?_⟩
      · show fz_sb (fz_th tm yb) (tm c) = _
        rw [et, fz_sb_op]
      · exact br_f (by decide) (And.intro ic (br_t (by rw [cc, es]; decide) h))
  · rw [e]
    intro tx' fr' sk' h1 h2 h3
    rw [Nat.zero_add, hl]
    exact H tx' fr' sk' h1 h2
end
end
section
/-! the reference: same, occurs, ground, lengthOf, readBeside -/
theorem fz_th_wf {n : Nat} {sg yi yj : Nat → Int32} {tm : Nat → fz_T} {yb : Nat → Int32} (hY : fz_CY n sg yi yj tm) (hby : fz_by n tm yb) {v : Nat} (hv : v < 6) : fz_wf (fz_th tm yb v) := by
  have hn := hY.1
  rcases hby v hv with f | ⟨c, hc, e, _⟩
  · rw [fz_th_f f]; exact Or.inr ⟨by omega, by omega⟩
  · rw [fz_th_b (by omega) e]; exact fz_CY_wf hY c hc
theorem fz_getlt {α : Type} {L : List α} {i : Nat} (h : i < L.length) : ∃ u, L[i]? = some u ∧ u ∈ L := ⟨L[i], List.getElem?_eq_getElem h, List.getElem_mem h⟩
theorem fz_getls {α : Type} {L : List α} {i : Nat} {u : α} (h : L[i]? = some u) : i < L.length := by
  apply Decidable.byContradiction
  intro q
  rw [List.getElem?_eq_none (by omega)] at h
  exact absurd h (by simp)
theorem fz_getmem {α : Type} {L : List α} {u : α} (h : u ∈ L) : ∃ i, i < L.length ∧ L[i]? = some u := by
  obtain ⟨i, hi, e⟩ := List.mem_iff_getElem.mp h
  exact ⟨i, hi, by rw [List.getElem?_eq_getElem hi, e]⟩
section
variable {n nv gc ec dc : Nat} {tm f : Nat → fz_T}
variable {yv yc yg ye yd yo yf : Int32} {sg yi yj yr yl yq yt yx yy yz y1 y2 y3 y4 yh yp yb tx fr sk : Nat → Int32}
theorem fz_same30 {post : Int32 → SY → Prop} {m : Nat} (hm : m ≤ 128) (H1 : (∀ k, k < m → tx k = tx (128 + k)) → post 1 (yv, yc, yg, ye, yd, yo, yf, sg, yi, yj, yr, yl, yq, yt, yx, yy, yz, y1, y2, y3, y4, yh, yp, yb, tx, fr, sk)) (H0 : (∃ k, k < m ∧ tx k ≠ tx (128 + k)) → post 0 (yv, yc, yg, ye, yd, yo, yf, sg, yi, yj, yr, yl, yq, yt, yx, yy, yz, y1, y2, y3, y4, yh, yp, yb, tx, fr, sk)) : ∀ j i, i + j = m → (∀ k, k < i → tx k = tx (128 + k)) → wY_same_30 post (nI m) yv yc yg ye yd yo yf sg yi yj yr yl yq yt yx yy yz y1 y2 y3 y4 yh yp yb tx fr sk (j + 1) (nI i) := by
  intro j
  induction j with
  | zero =>
    intro i hij hk
    have e : i = m := by omega
    subst e
    exact br_t (nI_le (by omega) (by omega)) (H1 hk)
  | succ j ih =>
    intro i hij hk
    have e1 : (128 : Int32) + nI i = nI (128 + i) := nI_add 128 i
    refine br_f (nI_ge (by omega) (by omega)) (And.intro (vp_in_nI (by omega) (by omega)) ?_)
    rw [e1, nI_clamp (n := i) (by omega), nI_clamp (n := 128 + i) (by omega)]
    refine And.intro (vp_in_nI (by omega) (by omega)) ?_
    by_cases z : tx i = tx (128 + i)
    · refine br_t z (nm_r (nI_1 i) (ih (i + 1) (by omega) (fun k hk' => ?_)))
      by_cases y : k = i
      · rw [y]; exact z
      · exact hk k (by omega)
    · exact br_f z (H0 ⟨i, by omega, z⟩)
theorem fz_ysame {post : Int32 → SY → Prop} (hY : fz_CY n sg yi yj tm) (hz : ∀ c, c < n → fz_sz (tm c) ≤ 13) (hby : fz_by n tm yb) {a b : Nat} (ha : a < n) (hb : b < n)
    (H1 : fz_sb (fz_th tm yb) (tm a) = fz_sb (fz_th tm yb) (tm b) → ∀ tx fr sk : Nat → Int32, post 1 (yv, yc, yg, ye, yd, yo, yf, sg, yi, yj, yr, yl, yq, yt, yx, yy, yz, y1, y2, y3, y4, yh, yp, yb, tx, fr, sk)) (H0 : fz_sb (fz_th tm yb) (tm a) ≠ fz_sb (fz_th tm yb) (tm b) → ∀ tx fr sk : Nat → Int32, post 0 (yv, yc, yg, ye, yd, yo, yf, sg, yi, yj, yr, yl, yq, yt, yx, yy, yz, y1, y2, y3, y4, yh, yp, yb, tx, fr, sk)) : wpY_same post (yv, yc, yg, ye, yd, yo, yf, sg, yi, yj, yr, yl, yq, yt, yx, yy, yz, y1, y2, y3, y4, yh, yp, yb, tx, fr, sk) (nI a) (nI b) := by
  have hwa := fz_wf_sb (fz_CY_wf hY a ha) (fun v hv => fz_th_wf hY hby (fz_wf_oc (fz_CY_wf hY a ha) hv))
  have hwb := fz_wf_sb (fz_CY_wf hY b hb) (fun v hv => fz_th_wf hY hby (fz_wf_oc (fz_CY_wf hY b hb) hv))
  have la := fz_ls_len (fz_sb (fz_th tm yb) (tm a))
  have lb := fz_ls_len (fz_sb (fz_th tm yb) (tm b))
  have h97 : ∀ c, c < n → fz_sz (fz_sb (fz_th tm yb) (tm c)) ≤ 97 := fun c hc => by
    have h1 := fz_sz_sb (θ := fz_th tm yb) (t := tm c) (fun v hv => by
      rcases hby v (fz_wf_oc (fz_CY_wf hY c hc) hv) with f | ⟨d, hd, ed, _⟩
      · rw [fz_th_f f]; show 1 ≤ 13; omega
      · rw [fz_th_b (by have := hY.1; omega) ed]; exact hz d hd)
    have h2 := hz c hc
    omega
  have ha97 := h97 a ha
  have hb97 := h97 b hb
  unfold wpY_same
  refine fz_write1 (base := 0) hY hby (by omega) ha hz ?_
  intro tx1 fr1 sk1 p1 _
  refine fz_write1 (base := 128) hY hby (by omega) hb hz ?_
  intro tx2 fr2 sk2 p2 p3
  by_cases hl : fz_sz (fz_sb (fz_th tm yb) (tm a)) = fz_sz (fz_sb (fz_th tm yb) (tm b))
  · refine br_t (by rw [hl]) ⟨fz_sz (fz_sb (fz_th tm yb) (tm a)) + 1, ?_⟩
    have q1 : ∀ i u, (fz_ls (fz_sb (fz_th tm yb) (tm a)))[i]? = some u → tx2 i = nI (fz_sg u) := fun i u h => by
      have hi := fz_getls h
      rw [(p3 i (by omega)).1, ← p1 i u h, Nat.zero_add]
    refine fz_same30 (by omega) (fun h => ?_) (fun h => ?_) _ 0 (by omega) (fun k hk => by omega)
    · refine H1 ?_ _ _ _
      refine fz_ls_inj hwa hwb (List.ext_getElem? (fun i => ?_))
      rw [List.getElem?_map, List.getElem?_map]
      rcases Nat.lt_or_ge i (fz_sz (fz_sb (fz_th tm yb) (tm a))) with hi | hi
      · obtain ⟨u, eu, mu⟩ := fz_getlt (L := fz_ls (fz_sb (fz_th tm yb) (tm a))) (i := i) (by omega)
        obtain ⟨w, ew, mw⟩ := fz_getlt (L := fz_ls (fz_sb (fz_th tm yb) (tm b))) (i := i) (by omega)
        have h1 := h i hi
        rw [q1 i u eu, p2 i w ew] at h1
        have s1 := fz_sg_100 (fz_ls_wf hwa mu)
        have s2 := fz_sg_100 (fz_ls_wf hwb mw)
        have h2 := (nI_eq (by omega) (by omega)).mp h1
        rw [eu, ew, Option.map_some, Option.map_some, h2]
      · rw [List.getElem?_eq_none (by omega), List.getElem?_eq_none (by omega)]
    · obtain ⟨k, hk, hne⟩ := h
      refine H0 (fun e => hne ?_) _ _ _
      obtain ⟨u, eu, _⟩ := fz_getlt (L := fz_ls (fz_sb (fz_th tm yb) (tm a))) (i := k) (by omega)
      rw [q1 k u eu, p2 k u (by rw [← e]; exact eu)]
  · refine br_f (fun q => hl ((nI_eq (by omega) (by omega)).mp q)) (H0 (fun e => hl (by rw [e])) _ _ _)
theorem fz_yoccurs {post : Int32 → SY → Prop} (hY : fz_CY n sg yi yj tm) (hz : ∀ c, c < n → fz_sz (tm c) ≤ 13) {v c : Nat} (hv : v < 6) (hc : c < n) (H1 : fz_oc v (tm c) → ∀ tx fr sk : Nat → Int32, post 1 (yv, yc, yg, ye, yd, yo, yf, sg, yi, yj, yr, yl, yq, yt, yx, yy, yz, y1, y2, y3, y4, yh, yp, yb, tx, fr, sk)) (H0 : ¬ fz_oc v (tm c) → ∀ tx fr sk : Nat → Int32, post 0 (yv, yc, yg, ye, yd, yo, yf, sg, yi, yj, yr, yl, yq, yt, yx, yy, yz, y1, y2, y3, y4, yh, yp, yb, tx, fr, sk)) : wpY_occurs post (yv, yc, yg, ye, yd, yo, yf, sg, yi, yj, yr, yl, yq, yt, yx, yy, yz, y1, y2, y3, y4, yh, yp, yb, tx, fr, sk) (nI v) (nI c) := by
  have hw := fz_CY_wf hY c hc
  have hl := fz_ls_len (tm c)
  have hzc := hz c hc
  unfold wpY_occurs
  refine fz_write0 (base := 0) hY (by omega) hc (hz c hc) ?_
  intro tx1 fr1 sk1 p1 _
  refine ⟨fz_sz (tm c) + 1, ?_⟩
  have key : ∀ j i, i + j = fz_sz (tm c) → (∀ k u, k < i → (fz_ls (tm c))[k]? = some u → fz_sg u ≠ 100 + v) → wY_occurs_11 post (nI v) (nI (fz_sz (tm c))) yv yc yg ye yd yo yf sg yi yj yr yl yq yt yx yy yz y1 y2 y3 y4 yh yp yb tx1 fr1 sk1 (j + 1) (nI i) := by
    intro j
    induction j with
    | zero =>
      intro i hij hk
      refine br_t (nI_le (by omega) (by omega)) (H0 (fun ho => ?_) _ _ _)
      obtain ⟨u, hu, e⟩ := (fz_ls_oc v).mp ho
      obtain ⟨k, hk1, hk2⟩ := fz_getmem hu
      exact hk k u (by omega) hk2 e
    | succ j ih =>
      intro i hij hk
      obtain ⟨u, eu, mu⟩ := fz_getlt (L := fz_ls (tm c)) (i := i) (by omega)
      have s1 := fz_sg_100 (fz_ls_wf hw mu)
      have et := (p1 i u eu).1
      rw [Nat.zero_add] at et
      refine br_f (nI_ge (by omega) (by omega)) (And.intro (vp_in_nI (by omega) (by omega)) ?_)
      rw [nI_clamp (n := i) (by omega), et, show (100 : Int32) + nI v = nI (100 + v) from nI_add 100 v]
      by_cases z : fz_sg u = 100 + v
      · exact br_t (by rw [z]) (H1 ((fz_ls_oc v).mpr ⟨u, mu, z⟩) _ _ _)
      · refine br_f (fun q => z ((nI_eq (by omega) (by omega)).mp q)) (nm_r (nI_1 i) (ih (i + 1) (by omega) (fun k w hk' ew => ?_)))
        by_cases y : k = i
        · rw [y, eu] at ew
          injection ew with ew
          rw [← ew]; exact z
        · exact hk k w (by omega) ew
  exact key _ 0 (by omega) (fun k u hk => by omega)
theorem fz_yground {post : Int32 → SY → Prop} (hY : fz_CY n sg yi yj tm) (hz : ∀ c, c < n → fz_sz (tm c) ≤ 13) {c : Nat} (hc : c < n) (H1 : fz_gd (tm c) → ∀ tx fr sk : Nat → Int32, post 1 (yv, yc, yg, ye, yd, yo, yf, sg, yi, yj, yr, yl, yq, yt, yx, yy, yz, y1, y2, y3, y4, yh, yp, yb, tx, fr, sk)) (H0 : ¬ fz_gd (tm c) → ∀ tx fr sk : Nat → Int32, post 0 (yv, yc, yg, ye, yd, yo, yf, sg, yi, yj, yr, yl, yq, yt, yx, yy, yz, y1, y2, y3, y4, yh, yp, yb, tx, fr, sk)) : wpY_ground post (yv, yc, yg, ye, yd, yo, yf, sg, yi, yj, yr, yl, yq, yt, yx, yy, yz, y1, y2, y3, y4, yh, yp, yb, tx, fr, sk) (nI c) := by
  have hw := fz_CY_wf hY c hc
  have hl := fz_ls_len (tm c)
  have hzc := hz c hc
  unfold wpY_ground
  refine fz_write0 (base := 0) hY (by omega) hc (hz c hc) ?_
  intro tx1 fr1 sk1 p1 _
  refine ⟨fz_sz (tm c) + 1, ?_⟩
  have key : ∀ j i, i + j = fz_sz (tm c) → (∀ k u, k < i → (fz_ls (tm c))[k]? = some u → fz_sg u < 100) → wY_ground_10 post (nI (fz_sz (tm c))) yv yc yg ye yd yo yf sg yi yj yr yl yq yt yx yy yz y1 y2 y3 y4 yh yp yb tx1 fr1 sk1 (j + 1) (nI i) := by
    intro j
    induction j with
    | zero =>
      intro i hij hk
      refine br_t (nI_le (by omega) (by omega)) (H1 (fun v ho => ?_) _ _ _)
      obtain ⟨u, hu, e⟩ := (fz_ls_oc v).mp ho
      obtain ⟨k, hk1, hk2⟩ := fz_getmem hu
      have := hk k u (by omega) hk2
      omega
    | succ j ih =>
      intro i hij hk
      obtain ⟨u, eu, mu⟩ := fz_getlt (L := fz_ls (tm c)) (i := i) (by omega)
      have s1 := fz_sg_100 (fz_ls_wf hw mu)
      have et := (p1 i u eu).1
      rw [Nat.zero_add] at et
      refine br_f (nI_ge (by omega) (by omega)) (And.intro (vp_in_nI (by omega) (by omega)) ?_)
      rw [nI_clamp (n := i) (by omega), et]
      by_cases z : fz_sg u < 100
      · refine br_t (nI_lt (b := 100) z (by decide)) (nm_r (nI_1 i) (ih (i + 1) (by omega) (fun k w hk' ew => ?_)))
        by_cases y : k = i
        · rw [y, eu] at ew
          injection ew with ew
          rw [← ew]; exact z
        · exact hk k w (by omega) ew
      · refine br_f (nI_nlt (b := 100) (by omega) (by omega)) (H0 (fun hg => ?_) _ _ _)
        exact hg (fz_sg u - 100) ((fz_ls_oc _).mpr ⟨u, mu, by omega⟩)
  exact key _ 0 (by omega) (fun k u hk => by omega)
/-! lengthOf -/
theorem fz_len_l {post : Int32 → SY → Prop} (hY : fz_CY n sg yi yj tm) : ∀ (N s : Nat) (S : List Nat) (sk : Nat → Int32), (∀ c, c ∈ S → c < n) → fz_SK sk S → (fz_ct tm S).length ≤ N → s + N ≤ 13 → (∀ sk' : Nat → Int32, post (nI (s + (fz_ct tm S).length)) (yv, yc, yg, ye, yd, yo, yf, sg, yi, yj, yr, yl, yq, yt, yx, yy, yz, y1, y2, y3, y4, yh, yp, yb, tx, fr, sk')) → wY_lengthOf_14 post yv yc yg ye yd yo yf (N + 1) (nI s) (nI S.length) (nI s) sg yi yj yr yl yq yt yx yy yz y1 y2 y3 y4 yh yp yb tx fr sk := by
  have hn := hY.1
  intro N
  induction N with
  | zero =>
    intro s S sk hS hK hl hs H
    have hlen := fz_ct_len tm S
    cases S with
    | nil => exact br_f (nI_ge (b := 64) (by omega) (by decide)) (br_t (by decide) (H sk))
    | cons c S =>
      have : S.length + 1 ≤ (fz_ct tm (c :: S)).length := hlen
      omega
  | succ N ih =>
    intro s S sk hS hK hl hs H
    have hlen := fz_ct_len tm S
    refine br_f (nI_ge (b := 64) (by omega) (by decide)) ?_
    cases S with
    | nil => exact br_t (by decide) (H sk)
    | cons c S =>
      have hlen' : S.length + 1 ≤ (fz_ct tm (c :: S)).length := hlen
      have hS13 : S.length + 1 ≤ 13 := by omega
      have hcn := hS c List.mem_cons_self
      have cc : (nI c).toNatClampNeg = c := nI_clamp (by omega)
      have ic : vp_in (nI c) 48 := vp_in_nI (by omega) (by omega)
      refine br_f (nI_nle (n := S.length + 1) (by omega) (by omega)) (nm_r (pk_m1 S.length) (And.intro (vp_in_nI (by omega) (by omega)) (nm_r (e' := nI c) (by rw [nI_clamp (by omega)]; exact hK.1) (nm_r (nI_1 s) (And.intro ic ?_)))))
      rcases hY.2 c hcn with ⟨q, hq, et, es⟩ | ⟨a, b, ha, hb, es, ef, ej, et⟩
      · refine br_f (by rw [cc, es]; exact fz_17 hq) (nm_r (nI_1 s) ?_)
        have e : fz_ct tm (c :: S) = .var q :: fz_ct tm S := by
          show fz_ls (tm c) ++ fz_ct tm S = _
          rw [et]; rfl
        rw [e] at H hl
        have hl' : (fz_ct tm S).length + 1 ≤ N + 1 := hl
        refine ih (s + 1) S sk (fun c hc => hS c (List.mem_cons_of_mem _ hc)) hK.2 (by omega) (by omega) (fun sk' => ?_)
        have := H sk'
        rw [List.length_cons, show s + ((fz_ct tm S).length + 1) = s + 1 + (fz_ct tm S).length by omega] at this
        exact this
      · have ca : (nI S.length).toNatClampNeg = S.length := nI_clamp (by omega)
        have e : fz_ct tm (c :: S) = .op (tm a) (tm b) :: fz_ct tm (a :: b :: S) := by
          show fz_ls (tm c) ++ fz_ct tm S = _ :: (fz_ls (tm a) ++ (fz_ls (tm b) ++ fz_ct tm S))
          rw [et]
          show _ :: (fz_ls (tm a) ++ fz_ls (tm b)) ++ fz_ct tm S = _
          rw [List.cons_append, List.append_assoc]
        rw [e] at H hl
        have hl' : (fz_ct tm (a :: b :: S)).length + 1 ≤ N + 1 := hl
        refine br_t (by rw [cc]; exact es) (And.intro ic (And.intro (vp_in_nI (by omega) (by omega)) (nm_r (e' := upd sk S.length (nI b)) (by rw [ca, cc, ej]) (And.intro ic ?_))))
        rw [nI_1]
        refine And.intro (vp_in_nI (by omega) (by omega)) (nm_r (e' := upd (upd sk S.length (nI b)) (S.length + 1) (nI a)) (by rw [nI_clamp (by omega), cc, ef]) (nm_r (e' := nI (S.length + 2)) (nI_add S.length 2) (nm_r (nI_1 s) ?_)))
        refine ih (s + 1) (a :: b :: S) _ (fun x hx => ?_) ⟨if_pos rfl, (if_neg (by omega)).trans (if_pos rfl), fz_SK_upd S (by omega) (fz_SK_upd S (Nat.le_refl _) hK.2)⟩ (by omega) (by omega) (fun sk' => ?_)
        · rcases List.mem_cons.mp hx with q | hx
          · rw [q]; omega
          · rcases List.mem_cons.mp hx with q | hx
            · rw [q]; omega
            · exact hS x (List.mem_cons_of_mem _ hx)
        · have := H sk'
          rw [List.length_cons, show s + ((fz_ct tm (a :: b :: S)).length + 1) = s + 1 + (fz_ct tm (a :: b :: S)).length by omega] at this
          exact this
theorem fz_len {post : Int32 → SY → Prop} (hY : fz_CY n sg yi yj tm) {c : Nat} (hc : c < n) (hz : fz_sz (tm c) ≤ 13) (H : ∀ sk' : Nat → Int32, post (nI (fz_sz (tm c))) (yv, yc, yg, ye, yd, yo, yf, sg, yi, yj, yr, yl, yq, yt, yx, yy, yz, y1, y2, y3, y4, yh, yp, yb, tx, fr, sk')) : wpY_lengthOf post (yv, yc, yg, ye, yd, yo, yf, sg, yi, yj, yr, yl, yq, yt, yx, yy, yz, y1, y2, y3, y4, yh, yp, yb, tx, fr, sk) (nI c) := by
  have e : fz_ct tm [c] = fz_ls (tm c) := List.append_nil _
  have hl := fz_ls_len (tm c)
  refine nm_e ⟨14, ?_⟩
  refine fz_len_l hY 13 0 [c] _ (fun x hx => by rw [List.mem_singleton.mp hx]; exact hc) ⟨if_pos rfl, trivial⟩ (by rw [e]; omega) (by omega) (by rw [e, hl, Nat.zero_add]; exact H)
/-! readBeside -/
def fz_fl : List fz_T → List fz_T
  | [] => []
  | p :: P => fz_ls p ++ fz_fl P
def fz_ag (tm : Nat → fz_T) (yb : Nat → Int32) (θ : Nat → fz_T) : Prop := ∀ v, v < 6 → ∀ c, c < 48 → yb v = nI c → θ v = tm c
theorem fz_fl_len (P : List fz_T) : P.length ≤ (fz_fl P).length := by
  induction P with
  | nil => exact Nat.le_refl _
  | cons p P ih =>
    have h := fz_sz_pos p
    rw [← fz_ls_len] at h
    show P.length + 1 ≤ (fz_ls p ++ fz_fl P).length
    rw [List.length_append]; omega
theorem fz_read_l {post : Int32 → SY → Prop} (hY : fz_CY n sg yi yj tm) (hz : ∀ c, c < n → fz_sz (tm c) ≤ 13) {p q : fz_T} {b0 : Nat → Int32} {m : Nat} (hm : m ≤ 13)
    (H1 : ∀ yb sk : Nat → Int32, fz_by n tm yb → (∀ v, b0 v ≠ -1 → yb v = b0 v) → (∀ θ, fz_ag tm b0 θ → fz_sb θ p = q → fz_ag tm yb θ) → (∀ v, fz_oc v p → yb v ≠ -1) → post 1 (yv, yc, yg, ye, yd, yo, yf, sg, yi, yj, yr, yl, yq, yt, yx, yy, yz, y1, y2, y3, y4, yh, yp, yb, tx, fr, sk))
    (H0 : ∀ yb sk : Nat → Int32, (∀ θ, fz_ag tm b0 θ → ¬ fz_sb θ p = q) → post 0 (yv, yc, yg, ye, yd, yo, yf, sg, yi, yj, yr, yl, yq, yt, yx, yy, yz, y1, y2, y3, y4, yh, yp, yb, tx, fr, sk)) :
    ∀ (N i a : Nat) (P Q : List fz_T) (yb sk : Nat → Int32), (fz_fl P).length = N → i + N = m → P.length = Q.length → a + (fz_fl Q).length ≤ 13 → (∀ u, u ∈ P → fz_wf u) → (∀ u, u ∈ Q → fz_wf u ∧ fz_gd u) → (∀ k u, (fz_fl P)[k]? = some u → tx (i + k) = nI (fz_sg u)) → (∀ k u, (fz_fl Q)[k]? = some u → tx (128 + a + k) = nI (fz_sg u) ∧ ∃ d, d < n ∧ fr (128 + a + k) = nI d ∧ tm d = u) → fz_by n tm yb → (∀ v, b0 v ≠ -1 → yb v = b0 v) → (∀ θ, fz_ag tm b0 θ → fz_sb θ p = q → fz_ag tm yb θ ∧ P.map (fz_sb θ) = Q) → (∀ v, fz_oc v p → yb v ≠ -1 ∨ ∃ u, u ∈ P ∧ fz_oc v u) → wY_readBeside_24 post (nI m) (N + 1) (nI a) (nI i) yv yc yg ye yd yo yf sg yi yj yr yl yq yt yx yy yz y1 y2 y3 y4 yh yp yb tx fr sk := by
  have hn := hY.1
  intro N
  induction N with
  | zero =>
    intro i a P Q yb sk hN hi hPQ ha hPw hQw hP hQ hby hb0 hag hoc
    have hfl := fz_fl_len P
    have hP0 : P = [] := List.eq_nil_of_length_eq_zero (by omega)
    subst hP0
    refine br_t (nI_le (by omega) (by omega)) (H1 yb sk hby hb0 (fun θ h1 h2 => (hag θ h1 h2).1) (fun v hv => ?_))
    rcases hoc v hv with h | ⟨u, hu, _⟩
    · exact h
    · exact absurd hu List.not_mem_nil
  | succ N ih =>
    intro i a P Q yb sk hN hi hPQ ha hPw hQw hP hQ hby hb0 hag hoc
    cases P with
    | nil => exact absurd hN (by show ¬ 0 = N + 1; omega)
    | cons p1 P =>
      cases Q with
      | nil => exact absurd hPQ (by simp)
      | cons q1 Q =>
        have hPQ' : P.length = Q.length := by simpa using hPQ
        have hq1w := hQw q1 List.mem_cons_self
        have hp1w := hPw p1 List.mem_cons_self
        have hq1len := fz_ls_len q1
        have hq1pos := fz_sz_pos q1
        have hflQ : (fz_fl (q1 :: Q)).length = fz_sz q1 + (fz_fl Q).length := by
          show (fz_ls q1 ++ fz_fl Q).length = _
          rw [List.length_append, hq1len]
        have hhead : (fz_fl (q1 :: Q))[0]? = some q1 := by
          show (fz_ls q1 ++ fz_fl Q)[0]? = _
          cases q1 <;> rfl
        obtain ⟨eq1, d, hd, efr, etd⟩ := hQ 0 q1 hhead
        have ca : (nI (128 + a)).toNatClampNeg = 128 + a := nI_clamp (by omega)
        have c128 : (128 : Int32) + nI a = nI (128 + a) := nI_add 128 a
        have ci : (nI i).toNatClampNeg = i := nI_clamp (by omega)
        have hsgq := fz_sg_100 hq1w.1
        refine br_f (nI_ge (by omega) (by omega)) (br_t (nI_lt (b := 128) (by omega) (by decide)) (And.intro (vp_in_nI (by omega) (by omega)) ?_))
        rw [ci]
        have hrest : ∀ k u, (fz_fl Q)[k]? = some u → (fz_fl (q1 :: Q))[fz_sz q1 + k]? = some u := fun k u h => by
          show (fz_ls q1 ++ fz_fl Q)[fz_sz q1 + k]? = _
          rw [List.getElem?_append_right (by omega), hq1len, Nat.add_sub_cancel_left]
          exact h
        cases p1 with
        | op pa pb =>
          have e0 := hP 0 (.op pa pb) rfl
          have e0' : tx i = 17 := e0
          refine br_t (by rw [e0']; decide) (And.intro (vp_in_nI (by omega) (by omega)) ?_)
          rw [c128, ca]
          refine And.intro (vp_in_nI (by omega) (by omega)) ?_
          have eq1' : tx (128 + a) = nI (fz_sg q1) := eq1
          rw [e0', eq1']
          cases q1 with
          | var r =>
            have hr : (1 ≤ r ∧ r ≤ 16) ∨ (100 ≤ r ∧ r < 106) := hq1w.1
            refine br_f (fun z => fz_17 hr z.symm) (H0 yb sk (fun θ h1 h2 => ?_))
            have := (hag θ h1 h2).2
            injection this with this _
            exact Lean.Data.AC.Expr.noConfusion this
          | op qa qb =>
            refine br_t rfl (nm_r (nI_1 a) (nm_r (nI_1 i) ?_))
            have hfp : fz_fl (.op pa pb :: P) = .op pa pb :: fz_fl (pa :: pb :: P) := by
              show _ :: (fz_ls pa ++ fz_ls pb) ++ fz_fl P = _ :: (fz_ls pa ++ (fz_ls pb ++ fz_fl P))
              rw [List.cons_append, List.append_assoc]
            have hfq : fz_fl (.op qa qb :: Q) = .op qa qb :: fz_fl (qa :: qb :: Q) := by
              show _ :: (fz_ls qa ++ fz_ls qb) ++ fz_fl Q = _ :: (fz_ls qa ++ (fz_ls qb ++ fz_fl Q))
              rw [List.cons_append, List.append_assoc]
            rw [hfp] at hP hN
            rw [hfq] at hQ ha
            have hN' : (fz_fl (pa :: pb :: P)).length + 1 = N + 1 := hN
            have ha' : a + ((fz_fl (qa :: qb :: Q)).length + 1) ≤ 13 := ha
            refine ih (i + 1) (a + 1) (pa :: pb :: P) (qa :: qb :: Q) yb sk (by omega) (by omega) (by simp [hPQ']) (by omega) (fun u hu => ?_) (fun u hu => ?_) (fun k u h => ?_) (fun k u h => ?_) hby hb0 (fun θ h1 h2 => ?_) (fun v hv => ?_)
            · rcases List.mem_cons.mp hu with z | hu
              · rw [z]; exact hp1w.1
              · rcases List.mem_cons.mp hu with z | hu
                · rw [z]; exact hp1w.2
                · exact hPw u (List.mem_cons_of_mem _ hu)
            · rcases List.mem_cons.mp hu with z | hu
              · rw [z]; exact ⟨hq1w.1.1, (fz_gd_op.mp hq1w.2).1⟩
              · rcases List.mem_cons.mp hu with z | hu
                · rw [z]; exact ⟨hq1w.1.2, (fz_gd_op.mp hq1w.2).2⟩
                · exact hQw u (List.mem_cons_of_mem _ hu)
            · have := hP (k + 1) u h
              rw [show i + (k + 1) = i + 1 + k by omega] at this
              exact this
            · have := hQ (k + 1) u h
              rw [show 128 + a + (k + 1) = 128 + (a + 1) + k by omega] at this
              exact this
            · obtain ⟨g1, g2⟩ := hag θ h1 h2
              refine ⟨g1, ?_⟩
              injection g2 with g3 g4
              have g3' : Lean.Data.AC.Expr.op (fz_sb θ pa) (fz_sb θ pb) = .op qa qb := g3
              injection g3' with g5 g6
              show fz_sb θ pa :: fz_sb θ pb :: P.map (fz_sb θ) = _
              rw [g5, g6, g4]
            · rcases hoc v hv with h | ⟨u, hu, ho⟩
              · exact Or.inl h
              · rcases List.mem_cons.mp hu with z | hu
                · rw [z] at ho
                  rcases ho with ho | ho
                  · exact Or.inr ⟨pa, List.mem_cons_self, ho⟩
                  · exact Or.inr ⟨pb, List.mem_cons_of_mem _ List.mem_cons_self, ho⟩
                · exact Or.inr ⟨u, List.mem_cons_of_mem _ (List.mem_cons_of_mem _ hu), ho⟩
        | var s =>
          have e0 := hP 0 (.var s) rfl
          have e0' : tx i = nI s := e0
          have hsw : (1 ≤ s ∧ s ≤ 16) ∨ (100 ≤ s ∧ s < 106) := hp1w
          have hN' : (fz_fl P).length + 1 = N + 1 := hN
          have hP' : ∀ k u, (fz_fl P)[k]? = some u → tx (i + 1 + k) = nI (fz_sg u) := fun k u h => by
            have := hP (k + 1) u h
            rw [show i + (k + 1) = i + 1 + k by omega] at this
            exact this
          rw [e0']
          by_cases h100 : s < 100
          · refine br_t (nI_lt (b := 100) h100 (by decide)) (And.intro (vp_in_nI (by omega) (by omega)) ?_)
            rw [c128, ca]
            refine And.intro (vp_in_nI (by omega) (by omega)) ?_
            have eq1' : tx (128 + a) = nI (fz_sg q1) := eq1
            rw [eq1']
            by_cases hsq : s = fz_sg q1
            · have hq1 : q1 = .var s := by
                cases q1 with
                | var r => rw [show s = r from hsq]
                | op x y =>
                  have : s = 17 := hsq
                  omega
              refine br_t (by rw [hsq]) (nm_r (nI_1 a) (nm_r (nI_1 i) ?_))
              have hsz1 : fz_sz q1 = 1 := by rw [hq1]; rfl
              refine ih (i + 1) (a + 1) P Q yb sk (by omega) (by omega) hPQ' (by omega) (fun u hu => hPw u (List.mem_cons_of_mem _ hu)) (fun u hu => hQw u (List.mem_cons_of_mem _ hu)) hP' (fun k u h => ?_) hby hb0 (fun θ h1 h2 => ?_) (fun v hv => ?_)
              · have := hQ (fz_sz q1 + k) u (hrest k u h)
                rw [show 128 + a + (fz_sz q1 + k) = 128 + (a + 1) + k by omega] at this
                exact this
              · obtain ⟨g1, g2⟩ := hag θ h1 h2
                injection g2 with g3 g4
                exact ⟨g1, g4⟩
              · rcases hoc v hv with h | ⟨u, hu, ho⟩
                · exact Or.inl h
                · rcases List.mem_cons.mp hu with z | hu
                  · rw [z] at ho
                    have ho' : s = 100 + v := ho
                    omega
                  · exact Or.inr ⟨u, hu, ho⟩
            · refine br_f (fun z => hsq ((nI_eq (by omega) (by omega)).mp z)) (H0 yb sk (fun θ h1 h2 => ?_))
              obtain ⟨g1, g2⟩ := hag θ h1 h2
              injection g2 with g3 g4
              rw [fz_sb_a θ h100] at g3
              exact hsq (by rw [← g3]; rfl)
          · have es : s = 100 + (s - 100) := by omega
            have esub : nI s - 100 = nI (s - 100) := pk_sub (a := s) (b := 100) (by omega)
            have cv : (nI (s - 100)).toNatClampNeg = s - 100 := nI_clamp (by omega)
            have iv : vp_in (nI (s - 100)) 6 := vp_in_nI (by omega) (by omega)
            have efr' : fr (128 + a) = nI d := efr
            have hszd : fz_sz (tm d) = fz_sz q1 := by rw [etd]
            refine br_f (nI_nlt (b := 100) (by omega) (by omega)) (And.intro (vp_in_nI (by omega) (by omega)) (nm_r (e' := nI (s - 100)) esub ?_))
            rw [c128, ca, cv]
            refine And.intro (vp_in_nI (by omega) (by omega)) (nm_r (e' := nI d) efr' (And.intro iv ?_))
            have go : ∀ yb' : Nat → Int32, fz_by n tm yb' → (∀ v, b0 v ≠ -1 → yb' v = b0 v) → (∀ θ, fz_ag tm b0 θ → fz_sb θ p = q → fz_ag tm yb' θ) → yb' (s - 100) ≠ -1 → (∀ v, yb v ≠ -1 → yb' v ≠ -1) → wY_readBeside_96 post (wY_readBeside_24 post (nI m) (N + 1)) (nI m) (nI a) (nI i) (nI d) yv yc yg ye yd yo yf sg yi yj yr yl yq yt yx yy yz y1 y2 y3 y4 yh yp yb' tx fr sk := by
              intro yb' k1 k2 k3 k4 k5
              unfold wY_readBeside_96
              refine fz_len hY hd (hz d hd) ?_
              intro sk'
              refine nm_r (e' := nI (a + fz_sz q1)) (by rw [nI_add, hszd]) (nm_r (nI_1 i) ?_)
              refine ih (i + 1) (a + fz_sz q1) P Q yb' sk' (by omega) (by omega) hPQ' (by omega) (fun u hu => hPw u (List.mem_cons_of_mem _ hu)) (fun u hu => hQw u (List.mem_cons_of_mem _ hu)) hP' (fun k u h => ?_) k1 k2 (fun θ h1 h2 => ?_) (fun v hv => ?_)
              · have := hQ (fz_sz q1 + k) u (hrest k u h)
                rw [show 128 + a + (fz_sz q1 + k) = 128 + (a + fz_sz q1) + k by omega] at this
                exact this
              · obtain ⟨g1, g2⟩ := hag θ h1 h2
                injection g2 with g3 g4
                exact ⟨k3 θ h1 h2, g4⟩
              · rcases hoc v hv with h | ⟨u, hu, ho⟩
                · exact Or.inl (k5 v h)
                · rcases List.mem_cons.mp hu with z | hu
                  · rw [z] at ho
                    have ho' : s = 100 + v := ho
                    rw [show v = s - 100 by omega]
                    exact Or.inl k4
                  · exact Or.inr ⟨u, hu, ho⟩
            rcases hby (s - 100) (by omega) with f | ⟨c, hc, ec, hg⟩
            · refine br_f (by rw [f]; decide) (And.intro iv (nm_e ?_))
              have hqv : ∀ θ, fz_ag tm b0 θ → fz_sb θ p = q → θ (s - 100) = tm d := fun θ h1 h2 => by
                obtain ⟨g1, g2⟩ := hag θ h1 h2
                injection g2 with g3 g4
                rw [es, fz_sb_v] at g3
                rw [etd, ← g3]
              refine go _ (fun v hv => ?_) (fun v hv => ?_) (fun θ h1 h2 v hv c hc e => ?_) (by rw [fz_us]; exact fz_m1 (by omega)) (fun v hv => ?_)
              · by_cases z : v = s - 100
                · refine Or.inr ⟨d, hd, if_pos z, ?_⟩
                  rw [etd]; exact hq1w.2
                · rw [show upd yb (s - 100) (nI d) v = yb v from if_neg z]; exact hby v hv
              · by_cases z : v = s - 100
                · have := hb0 v hv
                  rw [z, f] at this
                  rw [z] at hv
                  exact absurd this.symm hv
                · rw [show upd yb (s - 100) (nI d) v = yb v from if_neg z]; exact hb0 v hv
              · by_cases z : v = s - 100
                · rw [show upd yb (s - 100) (nI d) v = nI d from if_pos z] at e
                  have := (nI_eq (by omega) (by omega)).mp e
                  rw [z, ← this]; exact hqv θ h1 h2
                · rw [show upd yb (s - 100) (nI d) v = yb v from if_neg z] at e
                  exact (hag θ h1 h2).1 v hv c hc e
              · by_cases z : v = s - 100
                · rw [show upd yb (s - 100) (nI d) v = nI d from if_pos z]; exact fz_m1 (by omega)
                · rw [show upd yb (s - 100) (nI d) v = yb v from if_neg z]; exact hv
            · refine br_t (by rw [ec]; exact nI_pos' (by omega)) ?_
              exact go yb hby hb0 (fun θ h1 h2 => (hag θ h1 h2).1) (by rw [ec]; exact fz_m1 (by omega)) (fun _ h => h)
theorem fz_read {post : Int32 → SY → Prop} (hY : fz_CY n sg yi yj tm) (hz : ∀ c, c < n → fz_sz (tm c) ≤ 13) {x y : Nat} (hx : x < n) (hy : y < n) (hg : fz_gd (tm y)) (hby : fz_by n tm yb)
    (H1 : ∀ yb' tx' fr' sk' : Nat → Int32, fz_by n tm yb' → (∀ v, yb v ≠ -1 → yb' v = yb v) → (∀ θ, fz_ag tm yb θ → fz_sb θ (tm x) = tm y → fz_ag tm yb' θ) → (∀ v, fz_oc v (tm x) → yb' v ≠ -1) → post 1 (yv, yc, yg, ye, yd, yo, yf, sg, yi, yj, yr, yl, yq, yt, yx, yy, yz, y1, y2, y3, y4, yh, yp, yb', tx', fr', sk'))
    (H0 : ∀ yb' tx' fr' sk' : Nat → Int32, (∀ θ, fz_ag tm yb θ → ¬ fz_sb θ (tm x) = tm y) → post 0 (yv, yc, yg, ye, yd, yo, yf, sg, yi, yj, yr, yl, yq, yt, yx, yy, yz, y1, y2, y3, y4, yh, yp, yb', tx', fr', sk')) : wpY_readBeside post (yv, yc, yg, ye, yd, yo, yf, sg, yi, yj, yr, yl, yq, yt, yx, yy, yz, y1, y2, y3, y4, yh, yp, yb, tx, fr, sk) (nI x) (nI y) := by
  have hzx := hz x hx
  have hzy := hz y hy
  have lx := fz_ls_len (tm x)
  have ly := fz_ls_len (tm y)
  unfold wpY_readBeside
  refine fz_write0 (base := 0) hY (by omega) hx hzx ?_
  intro tx1 fr1 sk1 p1 _
  refine fz_write0 (base := 128) hY (by omega) hy hzy ?_
  intro tx2 fr2 sk2 p2 p3
  refine ⟨fz_sz (tm x) + 1, ?_⟩
  have e1 : fz_fl [tm x] = fz_ls (tm x) := List.append_nil _
  have e2 : fz_fl [tm y] = fz_ls (tm y) := List.append_nil _
  refine fz_read_l hY hz (p := tm x) (q := tm y) (b0 := yb) hzx (fun yb' sk' => H1 yb' tx2 fr2 sk') (fun yb' sk' => H0 yb' tx2 fr2 sk') (fz_sz (tm x)) 0 0 [tm x] [tm y] yb sk2 (by rw [e1, lx]) (by omega) rfl (by rw [e2]; omega) (fun u hu => by rw [List.mem_singleton.mp hu]; exact fz_CY_wf hY x hx) (fun u hu => by rw [List.mem_singleton.mp hu]; exact ⟨fz_CY_wf hY y hy, hg⟩) (fun k u h => ?_) (fun k u h => ?_) hby (fun _ _ => rfl) (fun θ h1 h2 => ⟨h1, by rw [← h2]; rfl⟩) (fun v hv => Or.inr ⟨tm x, List.mem_singleton.mpr rfl, hv⟩)
  · rw [e1] at h
    have hk := fz_getls h
    rw [(p3 (0 + k) (by omega)).1]
    exact (p1 k u h).1
  · rw [e2] at h
    exact p2 k u h
end
end
section
/-! the reference: choices -/
def fz_pr (b : Nat → Nat) : Nat → Nat
  | 0 => 1
  | i + 1 => fz_pr b i * b i
theorem fz_hn_pr {b ρ : Nat → Nat} : ∀ i, (∀ g, g < i → ρ g < b g) → fz_hn b ρ i < fz_pr b i := by
  intro i
  induction i with
  | zero => intro _; exact Nat.one_pos
  | succ i ih =>
    intro h
    have h1 := ih (fun g hg => h g (by omega))
    have h2 := h i (by omega)
    show b i * fz_hn b ρ i + ρ i < fz_pr b i * b i
    have h3 : b i * (fz_hn b ρ i + 1) ≤ b i * fz_pr b i := Nat.mul_le_mul_left _ h1
    rw [Nat.mul_add, Nat.mul_one, Nat.mul_comm (b i) (fz_pr b i)] at h3
    omega
theorem fz_pr_le {b : Nat → Nat} : ∀ i, (∀ g, g < i → b g ≤ 6) → fz_pr b i ≤ 6 ^ i := by
  intro i
  induction i with
  | zero => intro _; exact Nat.le_refl _
  | succ i ih =>
    intro h
    show fz_pr b i * b i ≤ 6 ^ (i + 1)
    rw [Nat.pow_succ]
    exact Nat.mul_le_mul (ih (fun g hg => h g (by omega))) (h i (by omega))
theorem fz_pr_1296 {b : Nat → Nat} {i : Nat} (hi : i ≤ 4) (h : ∀ g, g < i → b g ≤ 6) : fz_pr b i ≤ 1296 := by
  have l := fz_pr_le i h
  have : 6 ^ i ≤ 6 ^ 4 := Nat.pow_le_pow_right (by omega) hi
  have e : (6 : Nat) ^ 4 = 1296 := by decide
  omega
def fz_dg (b : Nat → Nat) : Nat → Nat → Nat → Nat
  | 0 => fun _ _ => 0
  | i + 1 => fun m g => if g = i then m % b i else fz_dg b i (m / b i) g
theorem fz_dg_ok {b : Nat → Nat} : ∀ i m, m < fz_pr b i → (∀ g, g < i → fz_dg b i m g < b g) ∧ fz_hn b (fz_dg b i m) i = m := by
  intro i
  induction i with
  | zero =>
    intro m hm
    have hm' : m < 1 := hm
    refine ⟨fun g hg => by omega, ?_⟩
    show 0 = m
    omega
  | succ i ih =>
    intro m hm
    have hm' : m < fz_pr b i * b i := hm
    have hb : 0 < b i := by
      apply Decidable.byContradiction
      intro q
      have : b i = 0 := by omega
      rw [this, Nat.mul_zero] at hm'
      omega
    obtain ⟨h1, h2⟩ := ih (m / b i) ((Nat.div_lt_iff_lt_mul hb).mpr hm')
    refine ⟨fun g hg => ?_, ?_⟩
    · show (if g = i then m % b i else fz_dg b i (m / b i) g) < b g
      by_cases z : g = i
      · rw [if_pos z, z]; exact Nat.mod_lt _ hb
      · rw [if_neg z]; exact h1 g (by omega)
    · show b i * fz_hn b (fz_dg b (i + 1) m) i + (if i = i then m % b i else _) = m
      have e1 : fz_hn b (fz_dg b (i + 1) m) i = fz_hn b (fz_dg b i (m / b i)) i := fz_hn_cg i (fun g hg => by
        show (if g = i then m % b i else fz_dg b i (m / b i) g) = _
        rw [if_neg (by omega)])
      rw [if_pos rfl, e1, h2]
      exact Nat.div_add_mod m (b i)
section
variable {n nv gc ec dc : Nat} {tm f : Nat → fz_T}
variable {yv yc yg ye yd yo yf : Int32} {sg yi yj yr yl yq yt yx yy yz y1 y2 y3 y4 yh yp yb tx fr sk : Nat → Int32}
theorem fz_unb_l {post : SY → Prop} (H : ∀ yb : Nat → Int32, (∀ v, v < 6 → yb v = -1) → post (yv, yc, yg, ye, yd, yo, yf, sg, yi, yj, yr, yl, yq, yt, yx, yy, yz, y1, y2, y3, y4, yh, yp, yb, tx, fr, sk)) : ∀ (j i : Nat) (yb : Nat → Int32), i + j = 6 → (∀ v, v < i → yb v = -1) → wY_unbind_2 post yv yc yg ye yd yo yf (j + 1) (nI i) sg yi yj yr yl yq yt yx yy yz y1 y2 y3 y4 yh yp yb tx fr sk := by
  intro j
  induction j with
  | zero =>
    intro i yb hij h1
    have e : i = 6 := by omega
    subst e
    exact br_t (by decide) (H yb h1)
  | succ j ih =>
    intro i yb hij h1
    refine br_f (nI_ge (b := 6) (by omega) (by decide)) (And.intro (vp_in_nI (by omega) (by omega)) (nm_r (e' := upd yb i (-1)) (by rw [nI_clamp (by omega)]) (nm_r (nI_1 i) ?_)))
    refine ih (i + 1) _ (by omega) (fun v hv => ?_)
    by_cases z : v = i
    · exact if_pos z
    · exact (if_neg z).trans (h1 v (by omega))
theorem fz_unb {post : SY → Prop} (H : ∀ yb : Nat → Int32, (∀ v, v < 6 → yb v = -1) → post (yv, yc, yg, ye, yd, yo, yf, sg, yi, yj, yr, yl, yq, yt, yx, yy, yz, y1, y2, y3, y4, yh, yp, yb, tx, fr, sk)) : wpY_unbind post (yv, yc, yg, ye, yd, yo, yf, sg, yi, yj, yr, yl, yq, yt, yx, yy, yz, y1, y2, y3, y4, yh, yp, yb, tx, fr, sk) :=
  ⟨7, fz_unb_l H 6 0 yb (by omega) (fun v hv => by omega)⟩
/-! which variables the query speaks of -/
theorem fz_ing_l {post : Int32 → SY → Prop} (hY : fz_CY n sg yi yj tm) (hz : ∀ c, c < n → fz_sz (tm c) ≤ 13) (hgc : gc ≤ 4) (hG : fz_HG tm n fz_tt yt yx yy gc) {v : Nat} (hv : v < 6) (H1 : fz_col tm yx yy gc v → ∀ tx fr sk : Nat → Int32, post 1 (yv, yc, nI gc, ye, yd, yo, yf, sg, yi, yj, yr, yl, yq, yt, yx, yy, yz, y1, y2, y3, y4, yh, yp, yb, tx, fr, sk)) (H0 : ¬ fz_col tm yx yy gc v → ∀ tx fr sk : Nat → Int32, post 0 (yv, yc, nI gc, ye, yd, yo, yf, sg, yi, yj, yr, yl, yq, yt, yx, yy, yz, y1, y2, y3, y4, yh, yp, yb, tx, fr, sk)) : ∀ (j i : Nat) (tx fr sk : Nat → Int32), i + j = gc → ¬ fz_col tm yx yy i v → wY_inGoals_2 post (nI v) (j + 1) (nI i) yv yc (nI gc) ye yd yo yf sg yi yj yr yl yq yt yx yy yz y1 y2 y3 y4 yh yp yb tx fr sk := by
  have hn := hY.1
  intro j
  induction j with
  | zero =>
    intro i tx fr sk hij hno
    have e : i = gc := by omega
    subst e
    exact br_t (nI_le (by omega) (by omega)) (H0 hno tx fr sk)
  | succ j ih =>
    intro i tx fr sk hij hno
    obtain ⟨t, x, y, ht, hx, hy, et, ex1, ey1, _, _⟩ := hG i (by omega)
    have hin : vp_in (nI i) 4 := vp_in_nI (by omega) (by omega)
    have ox : fz_oc v (tm x) → fz_col tm yx yy gc v := fun q => ⟨i, by omega, Or.inl (by rw [ex1, nI_clamp (by omega)]; exact q)⟩
    have oy : fz_oc v (tm y) → fz_col tm yx yy gc v := fun q => ⟨i, by omega, Or.inr (by rw [ey1, nI_clamp (by omega)]; exact q)⟩
    refine br_f (nI_ge (by omega) (by omega)) (And.intro hin ?_)
    rw [nI_clamp (n := i) (by omega), ex1]
    refine fz_yoccurs hY hz hv hx (fun q tx' fr' sk' => br_f (by decide) (H1 (ox q) _ _ _)) (fun q tx' fr' sk' => br_t rfl (And.intro hin ?_))
    rw [ey1]
    refine fz_yoccurs hY hz hv hy (fun q tx' fr' sk' => br_f (by decide) (H1 (oy q) _ _ _)) (fun q2 tx2 fr2 sk2 => br_t rfl (nm_r (nI_1 i) (ih (i + 1) tx2 fr2 sk2 (by omega) (fun w => ?_))))
    rw [fz_col_s, ex1, ey1, nI_clamp (by omega), nI_clamp (by omega)] at w
    rcases w with w | w | w
    · exact hno w
    · exact q w
    · exact q2 w
theorem fz_ing {post : Int32 → SY → Prop} (hY : fz_CY n sg yi yj tm) (hz : ∀ c, c < n → fz_sz (tm c) ≤ 13) (hgc : gc ≤ 4) (hG : fz_HG tm n fz_tt yt yx yy gc) {v : Nat} (hv : v < 6) (H1 : fz_col tm yx yy gc v → ∀ tx fr sk : Nat → Int32, post 1 (yv, yc, nI gc, ye, yd, yo, yf, sg, yi, yj, yr, yl, yq, yt, yx, yy, yz, y1, y2, y3, y4, yh, yp, yb, tx, fr, sk)) (H0 : ¬ fz_col tm yx yy gc v → ∀ tx fr sk : Nat → Int32, post 0 (yv, yc, nI gc, ye, yd, yo, yf, sg, yi, yj, yr, yl, yq, yt, yx, yy, yz, y1, y2, y3, y4, yh, yp, yb, tx, fr, sk)) : wpY_inGoals post (yv, yc, nI gc, ye, yd, yo, yf, sg, yi, yj, yr, yl, yq, yt, yx, yy, yz, y1, y2, y3, y4, yh, yp, yb, tx, fr, sk) (nI v) :=
  ⟨gc + 1, fz_ing_l hY hz hgc hG hv H1 H0 gc 0 tx fr sk (by omega) (fun ⟨e, he, _⟩ => by omega)⟩
theorem fz_sp76 {post : Int32 → SY → Prop} (hY : fz_CY n sg yi yj tm) (hz : ∀ c, c < n → fz_sz (tm c) ≤ 13) (hdc : dc ≤ 6) (hD : fz_HD tm n fz_tt y3 y4 dc) {v : Nat} (hv : v < 6) (H1 : fz_col tm y3 y4 dc v → ∀ tx fr sk : Nat → Int32, post 1 (yv, yc, yg, ye, nI dc, yo, yf, sg, yi, yj, yr, yl, yq, yt, yx, yy, yz, y1, y2, y3, y4, yh, yp, yb, tx, fr, sk)) (H0 : ¬ fz_col tm y3 y4 dc v → ∀ tx fr sk : Nat → Int32, post 0 (yv, yc, yg, ye, nI dc, yo, yf, sg, yi, yj, yr, yl, yq, yt, yx, yy, yz, y1, y2, y3, y4, yh, yp, yb, tx, fr, sk)) : ∀ (j i : Nat) (tx fr sk : Nat → Int32), i + j = dc → ¬ fz_col tm y3 y4 i v → wY_spokenOf_76 post (nI v) (j + 1) (nI i) yv yc yg ye (nI dc) yo yf sg yi yj yr yl yq yt yx yy yz y1 y2 y3 y4 yh yp yb tx fr sk := by
  have hn := hY.1
  intro j
  induction j with
  | zero =>
    intro i tx fr sk hij hno
    have e : i = dc := by omega
    subst e
    exact br_t (nI_le (by omega) (by omega)) (H0 hno tx fr sk)
  | succ j ih =>
    intro i tx fr sk hij hno
    obtain ⟨x, y, hx, hy, ex1, ey1, _, _⟩ := hD i (by omega)
    have hin : vp_in (nI i) 6 := vp_in_nI (by omega) (by omega)
    have ox : fz_oc v (tm x) → fz_col tm y3 y4 dc v := fun q => ⟨i, by omega, Or.inl (by rw [ex1, nI_clamp (by omega)]; exact q)⟩
    have oy : fz_oc v (tm y) → fz_col tm y3 y4 dc v := fun q => ⟨i, by omega, Or.inr (by rw [ey1, nI_clamp (by omega)]; exact q)⟩
    refine br_f (nI_ge (by omega) (by omega)) (And.intro hin ?_)
    rw [nI_clamp (n := i) (by omega), ex1]
    refine fz_yoccurs hY hz hv hx (fun q tx' fr' sk' => br_f (by decide) (H1 (ox q) _ _ _)) (fun q tx' fr' sk' => br_t rfl (And.intro hin ?_))
    rw [ey1]
    refine fz_yoccurs hY hz hv hy (fun q tx' fr' sk' => br_f (by decide) (H1 (oy q) _ _ _)) (fun q2 tx2 fr2 sk2 => br_t rfl (nm_r (nI_1 i) (ih (i + 1) tx2 fr2 sk2 (by omega) (fun w => ?_))))
    rw [fz_col_s, ex1, ey1, nI_clamp (by omega), nI_clamp (by omega)] at w
    rcases w with w | w | w
    · exact hno w
    · exact q w
    · exact q2 w
theorem fz_sp30 {post : Int32 → SY → Prop} (hY : fz_CY n sg yi yj tm) (hz : ∀ c, c < n → fz_sz (tm c) ≤ 13) (hec : ec ≤ 4) (hE : fz_HD tm n fz_tt y1 y2 ec) {v : Nat} (hv : v < 6) (H1 : fz_col tm y1 y2 ec v → ∀ tx fr sk : Nat → Int32, post 1 (yv, yc, yg, nI ec, yd, yo, yf, sg, yi, yj, yr, yl, yq, yt, yx, yy, yz, y1, y2, y3, y4, yh, yp, yb, tx, fr, sk)) (H0 : ¬ fz_col tm y1 y2 ec v → ∀ tx fr sk : Nat → Int32, ∃ n76, wY_spokenOf_76 post (nI v) n76 0 yv yc yg (nI ec) yd yo yf sg yi yj yr yl yq yt yx yy yz y1 y2 y3 y4 yh yp yb tx fr sk) : ∀ (j i : Nat) (tx fr sk : Nat → Int32), i + j = ec → ¬ fz_col tm y1 y2 i v → wY_spokenOf_30 post (nI v) (j + 1) (nI i) yv yc yg (nI ec) yd yo yf sg yi yj yr yl yq yt yx yy yz y1 y2 y3 y4 yh yp yb tx fr sk := by
  have hn := hY.1
  intro j
  induction j with
  | zero =>
    intro i tx fr sk hij hno
    have e : i = ec := by omega
    subst e
    exact br_t (nI_le (by omega) (by omega)) (H0 hno tx fr sk)
  | succ j ih =>
    intro i tx fr sk hij hno
    obtain ⟨x, y, hx, hy, ex1, ey1, _, _⟩ := hE i (by omega)
    have hin : vp_in (nI i) 4 := vp_in_nI (by omega) (by omega)
    have ox : fz_oc v (tm x) → fz_col tm y1 y2 ec v := fun q => ⟨i, by omega, Or.inl (by rw [ex1, nI_clamp (by omega)]; exact q)⟩
    have oy : fz_oc v (tm y) → fz_col tm y1 y2 ec v := fun q => ⟨i, by omega, Or.inr (by rw [ey1, nI_clamp (by omega)]; exact q)⟩
    refine br_f (nI_ge (by omega) (by omega)) (And.intro hin ?_)
    rw [nI_clamp (n := i) (by omega), ex1]
    refine fz_yoccurs hY hz hv hx (fun q tx' fr' sk' => br_f (by decide) (H1 (ox q) _ _ _)) (fun q tx' fr' sk' => br_t rfl (And.intro hin ?_))
    rw [ey1]
    refine fz_yoccurs hY hz hv hy (fun q tx' fr' sk' => br_f (by decide) (H1 (oy q) _ _ _)) (fun q2 tx2 fr2 sk2 => br_t rfl (nm_r (nI_1 i) (ih (i + 1) tx2 fr2 sk2 (by omega) (fun w => ?_))))
    rw [fz_col_s, ex1, ey1, nI_clamp (by omega), nI_clamp (by omega)] at w
    rcases w with w | w | w
    · exact hno w
    · exact q w
    · exact q2 w
theorem fz_spo {post : Int32 → SY → Prop} (hY : fz_CY n sg yi yj tm) (hz : ∀ c, c < n → fz_sz (tm c) ≤ 13) (hgc : gc ≤ 4) (hec : ec ≤ 4) (hdc : dc ≤ 6) (hE : fz_HD tm n fz_tt y1 y2 ec) (hD : fz_HD tm n fz_tt y3 y4 dc) {v : Nat} (hv : v < 6) (H1 : fz_spk tm yz y1 y2 y3 y4 gc ec dc v → ∀ tx fr sk : Nat → Int32, post 1 (yv, yc, nI gc, nI ec, nI dc, yo, yf, sg, yi, yj, yr, yl, yq, yt, yx, yy, yz, y1, y2, y3, y4, yh, yp, yb, tx, fr, sk)) (H0 : ¬ fz_spk tm yz y1 y2 y3 y4 gc ec dc v → ∀ tx fr sk : Nat → Int32, post 0 (yv, yc, nI gc, nI ec, nI dc, yo, yf, sg, yi, yj, yr, yl, yq, yt, yx, yy, yz, y1, y2, y3, y4, yh, yp, yb, tx, fr, sk)) : wpY_spokenOf post (yv, yc, nI gc, nI ec, nI dc, yo, yf, sg, yi, yj, yr, yl, yq, yt, yx, yy, yz, y1, y2, y3, y4, yh, yp, yb, tx, fr, sk) (nI v) := by
  have key : ∀ (j i : Nat), i + j = gc → ¬ fz_frz yz i v → wY_spokenOf_2 post (nI v) yv yc (nI gc) (nI ec) (nI dc) yo yf sg yi yj yr yl yq yt yx yy yz y1 y2 y3 y4 yh yp yb tx fr sk (j + 1) (nI i) := by
    intro j
    induction j with
    | zero =>
      intro i hij hno
      have e : i = gc := by omega
      subst e
      refine br_t (nI_le (by omega) (by omega)) ⟨ec + 1, ?_⟩
      refine fz_sp30 hY hz hec hE hv (fun q => H1 (Or.inr (Or.inl q))) (fun q tx' fr' sk' => ⟨dc + 1, ?_⟩) ec 0 tx fr sk (by omega) (fun ⟨e, he, _⟩ => by omega)
      refine fz_sp76 hY hz hdc hD hv (fun q => H1 (Or.inr (Or.inr q))) (fun q2 => H0 ?_) dc 0 tx' fr' sk' (by omega) (fun ⟨e, he, _⟩ => by omega)
      rintro (w | w | w)
      · exact hno w
      · exact q w
      · exact q2 w
    | succ j ih =>
      intro i hij hno
      refine br_f (nI_ge (by omega) (by omega)) (And.intro (vp_in_nI (by omega) (by omega)) ?_)
      rw [nI_clamp (n := i) (by omega)]
      by_cases z : yz i = nI v
      · exact br_t z (H1 (Or.inl ⟨i, by omega, z, by omega⟩) tx fr sk)
      · refine br_f z (nm_r (nI_1 i) (ih (i + 1) (by omega) ?_))
        rintro ⟨g, g1, g2, g3⟩
        by_cases w : g = i
        · rw [w] at g2; exact z g2
        · exact hno ⟨g, by omega, g2, g3⟩
  exact ⟨gc + 1, key gc 0 (by omega) (fun ⟨e, he, _⟩ => by omega)⟩
theorem fz_ylo_l {post : Int32 → SY → Prop} (hY : fz_CY n sg yi yj tm) (hz : ∀ c, c < n → fz_sz (tm c) ≤ 13) (hnv : nv ≤ 6) (hgc : gc ≤ 4) (hec : ec ≤ 4) (hdc : dc ≤ 6) (hG : fz_HG tm n fz_tt yt yx yy gc) (hE : fz_HD tm n fz_tt y1 y2 ec) (hD : fz_HD tm n fz_tt y3 y4 dc)
    (H1 : fz_loose tm yx yy yz y1 y2 y3 y4 nv gc ec dc → ∀ tx fr sk : Nat → Int32, post 1 (nI nv, yc, nI gc, nI ec, nI dc, yo, yf, sg, yi, yj, yr, yl, yq, yt, yx, yy, yz, y1, y2, y3, y4, yh, yp, yb, tx, fr, sk)) (H0 : ¬ fz_loose tm yx yy yz y1 y2 y3 y4 nv gc ec dc → ∀ tx fr sk : Nat → Int32, post 0 (nI nv, yc, nI gc, nI ec, nI dc, yo, yf, sg, yi, yj, yr, yl, yq, yt, yx, yy, yz, y1, y2, y3, y4, yh, yp, yb, tx, fr, sk)) :
    ∀ (j i : Nat) (tx fr sk : Nat → Int32), i + j = nv → (∀ v, v < i → fz_spk tm yz y1 y2 y3 y4 gc ec dc v → fz_col tm yx yy gc v) → wY_loose_2 post (j + 1) (nI i) (nI nv) yc (nI gc) (nI ec) (nI dc) yo yf sg yi yj yr yl yq yt yx yy yz y1 y2 y3 y4 yh yp yb tx fr sk := by
  intro j
  induction j with
  | zero =>
    intro i tx fr sk hij hno
    have e : i = nv := by omega
    subst e
    exact br_t (nI_le (by omega) (by omega)) (H0 (fun ⟨v, v1, v2, v3⟩ => v3 (hno v v1 v2)) tx fr sk)
  | succ j ih =>
    intro i tx fr sk hij hno
    have nx : (fz_spk tm yz y1 y2 y3 y4 gc ec dc i → fz_col tm yx yy gc i) → ∀ v, v < i + 1 → fz_spk tm yz y1 y2 y3 y4 gc ec dc v → fz_col tm yx yy gc v := fun h v hv q => by
      by_cases z : v = i
      · rw [z] at q ⊢; exact h q
      · exact hno v (by omega) q
    refine br_f (nI_ge (by omega) (by omega)) ?_
    refine fz_spo hY hz hgc hec hdc hE hD (by omega) (fun q tx' fr' sk' => br_f (by decide) ?_) (fun q tx' fr' sk' => br_t rfl (nm_r (nI_1 i) (ih (i + 1) tx' fr' sk' (by omega) (nx (fun w => absurd w q)))))
    refine fz_ing hY hz hgc hG (by omega) (fun q2 tx2 fr2 sk2 => br_f (by decide) (nm_r (nI_1 i) (ih (i + 1) tx2 fr2 sk2 (by omega) (nx (fun _ => q2))))) (fun q2 tx2 fr2 sk2 => br_t rfl (H1 ⟨i, by omega, q, q2⟩ tx2 fr2 sk2))
theorem fz_ylo {post : Int32 → SY → Prop} (hY : fz_CY n sg yi yj tm) (hz : ∀ c, c < n → fz_sz (tm c) ≤ 13) (hnv : nv ≤ 6) (hgc : gc ≤ 4) (hec : ec ≤ 4) (hdc : dc ≤ 6) (hG : fz_HG tm n fz_tt yt yx yy gc) (hE : fz_HD tm n fz_tt y1 y2 ec) (hD : fz_HD tm n fz_tt y3 y4 dc)
    (H1 : fz_loose tm yx yy yz y1 y2 y3 y4 nv gc ec dc → ∀ tx fr sk : Nat → Int32, post 1 (nI nv, yc, nI gc, nI ec, nI dc, yo, yf, sg, yi, yj, yr, yl, yq, yt, yx, yy, yz, y1, y2, y3, y4, yh, yp, yb, tx, fr, sk)) (H0 : ¬ fz_loose tm yx yy yz y1 y2 y3 y4 nv gc ec dc → ∀ tx fr sk : Nat → Int32, post 0 (nI nv, yc, nI gc, nI ec, nI dc, yo, yf, sg, yi, yj, yr, yl, yq, yt, yx, yy, yz, y1, y2, y3, y4, yh, yp, yb, tx, fr, sk)) : wpY_loose post (nI nv, yc, nI gc, nI ec, nI dc, yo, yf, sg, yi, yj, yr, yl, yq, yt, yx, yy, yz, y1, y2, y3, y4, yh, yp, yb, tx, fr, sk) :=
  ⟨nv + 1, fz_ylo_l hY hz hnv hgc hec hdc hG hE hD H1 H0 nv 0 tx fr sk (by omega) (fun v hv => by omega)⟩
/-! choices, setPicks -/
theorem fz_ychoices {post : Int32 → Prop} (hgc : gc ≤ 4) (hG : fz_HG tm n fz_tt yt yx yy gc) (hR : fz_HR tm n yr yl yq) (H : post (nI (fz_pr (fz_rn yr yt) gc))) : wpY_choices post (yv, yc, nI gc, ye, yd, yo, yf, sg, yi, yj, yr, yl, yq, yt, yx, yy, yz, y1, y2, y3, y4, yh, yp, yb, tx, fr, sk) := by
  have key : ∀ j i, i + j = gc → wY_choices_4 post yv yc (nI gc) ye yd yo yf sg yi yj yr yl yq yt yx yy yz y1 y2 y3 y4 yh yp yb tx fr sk (j + 1) (nI (fz_pr (fz_rn yr yt) i)) (nI i) := by
    intro j
    induction j with
    | zero =>
      intro i hij
      have e : i = gc := by omega
      subst e
      exact br_t (nI_le (by omega) (by omega)) H
    | succ j ih =>
      intro i hij
      obtain ⟨t, m, x, y, ht, hm, hx, hy, et, _, _, _, _, em, ern, _⟩ := fz_HGR hG hR (g := i) (by omega)
      refine br_f (nI_ge (by omega) (by omega)) (And.intro (vp_in_nI (by omega) (by omega)) ?_)
      rw [nI_clamp (n := i) (by omega), et]
      refine And.intro (vp_in_nI (by omega) (by omega)) (nm_r (e' := nI (fz_pr (fz_rn yr yt) (i + 1))) ?_ (nm_r (nI_1 i) (ih (i + 1) (by omega))))
      rw [nI_clamp (n := t) (by omega), em, pk_mul]
      show _ = nI (fz_pr (fz_rn yr yt) i * fz_rn yr yt i)
      rw [ern]
  exact ⟨gc + 1, key gc 0 (by omega)⟩
theorem fz_picks {post : SY → Prop} (hgc : gc ≤ 4) (hG : fz_HG tm n fz_tt yt yx yy gc) (hR : fz_HR tm n yr yl yq) {ρ : Nat → Nat} (hρ : ∀ g, g < gc → ρ g < fz_rn yr yt g) (H : ∀ yp : Nat → Int32, (∀ g, g < gc → yp g = nI (ρ g)) → post (yv, yc, nI gc, ye, yd, yo, yf, sg, yi, yj, yr, yl, yq, yt, yx, yy, yz, y1, y2, y3, y4, yh, yp, yb, tx, fr, sk)) : wpY_setPicks post (yv, yc, nI gc, ye, yd, yo, yf, sg, yi, yj, yr, yl, yq, yt, yx, yy, yz, y1, y2, y3, y4, yh, yp, yb, tx, fr, sk) (nI (fz_hn (fz_rn yr yt) ρ gc)) := by
  have h6 : ∀ g, g < gc → fz_rn yr yt g ≤ 6 := fun g hg => by
    obtain ⟨t, m, x, y, ht, hm, hx, hy, et, _, _, _, _, em, ern, _⟩ := fz_HGR hG hR hg
    omega
  have key : ∀ (j : Nat) (yp : Nat → Int32), j ≤ gc → (∀ g, j ≤ g → g < gc → yp g = nI (ρ g)) → wY_setPicks_9 post yv yc (nI gc) ye yd yo yf (j + 1) (nI (fz_hn (fz_rn yr yt) ρ j)) (nI j - 1) sg yi yj yr yl yq yt yx yy yz y1 y2 y3 y4 yh yp yb tx fr sk := by
    intro j
    induction j with
    | zero =>
      intro yp hj hp
      exact br_t (by decide) (H yp (fun g hg => hp g (by omega) hg))
    | succ j ih =>
      intro yp hj hp
      obtain ⟨t, m, x, y, ht, hm, hx, hy, et, _, _, _, _, em, ern, _⟩ := fz_HGR hG hR (g := j) (by omega)
      have hlt := hρ j (by omega)
      have hl : fz_hn (fz_rn yr yt) ρ (j + 1) < 1296 := by
        have h1 := fz_hn_pr (b := fz_rn yr yt) (ρ := ρ) (j + 1) (fun g hg => hρ g (by omega))
        have h2 := fz_pr_1296 (b := fz_rn yr yt) (i := j + 1) (by omega) (fun g hg => h6 g (by omega))
        omega
      have eh : fz_hn (fz_rn yr yt) ρ (j + 1) = m * fz_hn (fz_rn yr yt) ρ j + ρ j := by
        show fz_rn yr yt j * _ + _ = _
        rw [ern]
      have em1 : fz_hn (fz_rn yr yt) ρ (j + 1) % m = ρ j := by rw [eh, Nat.mul_add_mod, Nat.mod_eq_of_lt (by omega)]
      have ed1 : fz_hn (fz_rn yr yt) ρ (j + 1) / m = fz_hn (fz_rn yr yt) ρ j := by
        rw [eh, Nat.mul_add_div (by omega), Nat.div_eq_of_lt (by omega), Nat.add_zero]
      have cj : (nI j).toNatClampNeg = j := nI_clamp (by omega)
      have ij : vp_in (nI j) 4 := vp_in_nI (by omega) (by omega)
      rw [nI_pred]
      refine br_f (nI_pos (by omega)) (And.intro ij ?_)
      rw [cj, et]
      refine And.intro (vp_in_nI (by omega) (by omega)) (nm_r (e' := nI m) (by rw [nI_clamp (by omega)]; exact em) (br_f (nI_nle (by omega) (by omega)) (And.intro (nI_ne0 (by omega) (by omega)) (And.intro ij (nm_r (e' := upd yp j (nI (ρ j))) ?_ (And.intro (nI_ne0 (by omega) (by omega)) (nm_r (e' := nI (fz_hn (fz_rn yr yt) ρ j)) ?_ (nm_r (fz_i32m _) (ih _ (by omega) (fun g g1 g2 => ?_))))))))))
      · rw [pk_rem (by omega) (by omega) (by omega), em1]
      · rw [pk_div (by omega) (by omega) (by omega), ed1]
      · by_cases z : g = j
        · rw [z]; exact if_pos rfl
        · exact (if_neg z).trans (hp g (by omega) g2)
  exact nm_e ⟨gc + 1, key gc yp (Nat.le_refl _) (fun g g1 g2 => by omega)⟩
end
end
section
/-! the reference: tryChoice -/
def fz_YT (n gc ec dc : Nat) (tm : Nat → fz_T) (sg yi yj yr yl yq yt yx yy y1 y2 y3 y4 : Nat → Int32) : Prop :=
  fz_CY n sg yi yj tm ∧ (∀ c, c < n → fz_sz (tm c) ≤ 13) ∧ gc ≤ 4 ∧ ec ≤ 4 ∧ dc ≤ 6 ∧ fz_HG tm n (fz_A tm (fz_col tm yx yy gc)) yt yx yy gc ∧ fz_HR tm n yr yl yq ∧ fz_HD tm n (fz_A tm (fz_col tm yx yy gc)) y1 y2 ec ∧ fz_HD tm n (fz_A tm (fz_col tm yx yy gc)) y3 y4 dc
theorem fz_HG_w {tm : Nat → fz_T} {n gc : Nat} {P : Nat → Prop} {gt gx gy : Nat → Int32} (h : fz_HG tm n P gt gx gy gc) : fz_HG tm n fz_tt gt gx gy gc := fun g hg => by
  obtain ⟨t, x, y, h1, h2, h3, h4, h5, h6, _, _⟩ := h g hg
  exact ⟨t, x, y, h1, h2, h3, h4, h5, h6, trivial, trivial⟩
/-- what is known of the values that the reference has read -/
def fz_RD (n gc : Nat) (tm : Nat → fz_T) (yl yq yt yx yy yb : Nat → Int32) (ρ : Nat → Nat) : Prop :=
  fz_by n tm yb ∧ (∀ v, fz_col tm yx yy gc v → yb v ≠ -1) ∧ (∀ θ, (∀ g, g < gc → fz_mt tm yl yq yt yx yy g (ρ g) θ) → fz_ag tm yb θ)
section
variable {n nv gc ec dc : Nat} {tm f : Nat → fz_T}
variable {yv yc yg ye yd yo yf : Int32} {sg yi yj yr yl yq yt yx yy yz y1 y2 y3 y4 yh yp yb tx fr sk : Nat → Int32}
theorem fz_RD_th (hT : fz_YT n gc ec dc tm sg yi yj yr yl yq yt yx yy y1 y2 y3 y4) {ρ : Nat → Nat} (hr : fz_RD n gc tm yl yq yt yx yy yb ρ) {θ : Nat → fz_T} (hθ : ∀ g, g < gc → fz_mt tm yl yq yt yx yy g (ρ g) θ) {c : Nat} (hc : c < n) (hA : fz_A tm (fz_col tm yx yy gc) c) : fz_sb θ (tm c) = fz_sb (fz_th tm yb) (tm c) := by
  have hn := hT.1.1
  refine fz_sb_ext _ (fun v hv => ?_)
  have h6 := fz_wf_oc (fz_CY_wf hT.1 c hc) hv
  rcases hr.1 v h6 with q | ⟨d, hd, e, _⟩
  · exact absurd q (hr.2.1 v (hA v hv))
  · rw [fz_th_b (by omega) e]
    exact hr.2.2 θ hθ v h6 d (by omega) e
theorem fz_t194 {post : Int32 → SY → Prop} (hT : fz_YT n gc ec dc tm sg yi yj yr yl yq yt yx yy y1 y2 y3 y4) {ρ : Nat → Nat} (hr : fz_RD n gc tm yl yq yt yx yy yb ρ) (hg : ∀ g, g < gc → fz_mt tm yl yq yt yx yy g (ρ g) (fz_th tm yb)) (he : ∀ e, e < ec → fz_q tm (y1 e) (y2 e) (fz_th tm yb))
    (H1 : fz_sol tm gc ec dc yl yq yt yx yy y1 y2 y3 y4 ρ → ∀ tx fr sk : Nat → Int32, post 1 (yv, yc, nI gc, nI ec, nI dc, yo, yf, sg, yi, yj, yr, yl, yq, yt, yx, yy, yz, y1, y2, y3, y4, yh, yp, yb, tx, fr, sk)) (H0 : ¬ fz_sol tm gc ec dc yl yq yt yx yy y1 y2 y3 y4 ρ → ∀ tx fr sk : Nat → Int32, post 0 (yv, yc, nI gc, nI ec, nI dc, yo, yf, sg, yi, yj, yr, yl, yq, yt, yx, yy, yz, y1, y2, y3, y4, yh, yp, yb, tx, fr, sk)) :
    ∀ (j i : Nat) (tx fr sk : Nat → Int32), i + j = dc → (∀ d, d < i → ¬ fz_q tm (y3 d) (y4 d) (fz_th tm yb)) → wY_tryChoice_194 post (j + 1) (nI i) yv yc (nI gc) (nI ec) (nI dc) yo yf sg yi yj yr yl yq yt yx yy yz y1 y2 y3 y4 yh yp yb tx fr sk := by
  have hT' := hT
  obtain ⟨hY, hz, hgc, hec, hdc, hG, hR, hE, hD⟩ := hT'
  have hn := hY.1
  intro j
  induction j with
  | zero =>
    intro i tx fr sk hij hd
    have e : i = dc := by omega
    subst e
    exact br_t (nI_le (by omega) (by omega)) (H1 ⟨_, he, hg, hd⟩ tx fr sk)
  | succ j ih =>
    intro i tx fr sk hij hd
    obtain ⟨x, y, hx, hy, ex1, ey1, hAx, hAy⟩ := hD i (by omega)
    have hin : vp_in (nI i) 6 := vp_in_nI (by omega) (by omega)
    refine br_f (nI_ge (by omega) (by omega)) (And.intro hin (And.intro hin ?_))
    rw [nI_clamp (n := i) (by omega), ex1, ey1]
    refine fz_ysame hY hz hr.1 hx hy (fun q tx' fr' sk' => ?_) (fun q tx' fr' sk' => ?_)
    · refine br_f (by decide) (H0 (fun hs => ?_) _ _ _)
      obtain ⟨θ, t1, t2, t3⟩ := hs
      refine t3 i (by omega) ?_
      rw [ex1, ey1, fz_q_nI (by omega) (by omega), fz_RD_th hT hr t2 hx hAx, fz_RD_th hT hr t2 hy hAy]
      exact q
    · refine br_t rfl (nm_r (nI_1 i) (ih (i + 1) tx' fr' sk' (by omega) (fun d hd' => ?_)))
      by_cases z : d = i
      · rw [z, ex1, ey1, fz_q_nI (by omega) (by omega)]; exact q
      · exact hd d (by omega)
theorem fz_t157 {post : Int32 → SY → Prop} (hT : fz_YT n gc ec dc tm sg yi yj yr yl yq yt yx yy y1 y2 y3 y4) {ρ : Nat → Nat} (hr : fz_RD n gc tm yl yq yt yx yy yb ρ) (hg : ∀ g, g < gc → fz_mt tm yl yq yt yx yy g (ρ g) (fz_th tm yb))
    (H1 : fz_sol tm gc ec dc yl yq yt yx yy y1 y2 y3 y4 ρ → ∀ tx fr sk : Nat → Int32, post 1 (yv, yc, nI gc, nI ec, nI dc, yo, yf, sg, yi, yj, yr, yl, yq, yt, yx, yy, yz, y1, y2, y3, y4, yh, yp, yb, tx, fr, sk)) (H0 : ¬ fz_sol tm gc ec dc yl yq yt yx yy y1 y2 y3 y4 ρ → ∀ tx fr sk : Nat → Int32, post 0 (yv, yc, nI gc, nI ec, nI dc, yo, yf, sg, yi, yj, yr, yl, yq, yt, yx, yy, yz, y1, y2, y3, y4, yh, yp, yb, tx, fr, sk)) :
    ∀ (j i : Nat) (tx fr sk : Nat → Int32), i + j = ec → (∀ e, e < i → fz_q tm (y1 e) (y2 e) (fz_th tm yb)) → wY_tryChoice_157 post (j + 1) (nI i) yv yc (nI gc) (nI ec) (nI dc) yo yf sg yi yj yr yl yq yt yx yy yz y1 y2 y3 y4 yh yp yb tx fr sk := by
  have hT' := hT
  obtain ⟨hY, hz, hgc, hec, hdc, hG, hR, hE, hD⟩ := hT'
  have hn := hY.1
  intro j
  induction j with
  | zero =>
    intro i tx fr sk hij he
    have e : i = ec := by omega
    subst e
    exact br_t (nI_le (by omega) (by omega)) ⟨dc + 1, fz_t194 hT hr hg he H1 H0 dc 0 tx fr sk (by omega) (fun d hd => by omega)⟩
  | succ j ih =>
    intro i tx fr sk hij he
    obtain ⟨x, y, hx, hy, ex1, ey1, hAx, hAy⟩ := hE i (by omega)
    have hin : vp_in (nI i) 4 := vp_in_nI (by omega) (by omega)
    refine br_f (nI_ge (by omega) (by omega)) (And.intro hin (And.intro hin ?_))
    rw [nI_clamp (n := i) (by omega), ex1, ey1]
    refine fz_ysame hY hz hr.1 hx hy (fun q tx' fr' sk' => ?_) (fun q tx' fr' sk' => ?_)
    · refine br_f (by decide) (nm_r (nI_1 i) (ih (i + 1) tx' fr' sk' (by omega) (fun d hd' => ?_)))
      by_cases z : d = i
      · rw [z, ex1, ey1, fz_q_nI (by omega) (by omega)]; exact q
      · exact he d (by omega)
    · refine br_t rfl (H0 (fun hs => q ?_) _ _ _)
      obtain ⟨θ, t1, t2, t3⟩ := hs
      have := t1 i (by omega)
      rw [ex1, ey1, fz_q_nI (by omega) (by omega), fz_RD_th hT hr t2 hx hAx, fz_RD_th hT hr t2 hy hAy] at this
      exact this
theorem fz_t84 {post : Int32 → SY → Prop} (hT : fz_YT n gc ec dc tm sg yi yj yr yl yq yt yx yy y1 y2 y3 y4) {ρ : Nat → Nat} (hρ : ∀ g, g < gc → ρ g < fz_rn yr yt g) (hp : ∀ g, g < gc → yp g = nI (ρ g)) (hr : fz_RD n gc tm yl yq yt yx yy yb ρ)
    (H1 : fz_sol tm gc ec dc yl yq yt yx yy y1 y2 y3 y4 ρ → ∀ tx fr sk : Nat → Int32, post 1 (yv, yc, nI gc, nI ec, nI dc, yo, yf, sg, yi, yj, yr, yl, yq, yt, yx, yy, yz, y1, y2, y3, y4, yh, yp, yb, tx, fr, sk)) (H0 : ¬ fz_sol tm gc ec dc yl yq yt yx yy y1 y2 y3 y4 ρ → ∀ tx fr sk : Nat → Int32, post 0 (yv, yc, nI gc, nI ec, nI dc, yo, yf, sg, yi, yj, yr, yl, yq, yt, yx, yy, yz, y1, y2, y3, y4, yh, yp, yb, tx, fr, sk)) :
    ∀ (j i : Nat) (tx fr sk : Nat → Int32), i + j = gc → (∀ g, g < i → fz_mt tm yl yq yt yx yy g (ρ g) (fz_th tm yb)) → wY_tryChoice_84 post (j + 1) (nI i) yv yc (nI gc) (nI ec) (nI dc) yo yf sg yi yj yr yl yq yt yx yy yz y1 y2 y3 y4 yh yp yb tx fr sk := by
  have hT' := hT
  obtain ⟨hY, hz, hgc, hec, hdc, hG, hR, hE, hD⟩ := hT'
  have hn := hY.1
  intro j
  induction j with
  | zero =>
    intro i tx fr sk hij he
    have e : i = gc := by omega
    subst e
    exact br_t (nI_le (by omega) (by omega)) ⟨ec + 1, fz_t157 hT hr he H1 H0 ec 0 tx fr sk (by omega) (fun d hd => by omega)⟩
  | succ j ih =>
    intro i tx fr sk hij he
    obtain ⟨t, m, x, y, ht, hm6, hx, hy, et, ex1, ey1, hAx, hAy, em, ern, hrow⟩ := fz_HGR hG hR (g := i) (by omega)
    have hri := hρ i (by omega)
    obtain ⟨a, b, ha1, hb1, ea, eb, hga, hgb⟩ := hrow (ρ i) (by omega)
    have hin : vp_in (nI i) 4 := vp_in_nI (by omega) (by omega)
    have ci : (nI i).toNatClampNeg = i := nI_clamp (by omega)
    have e6 : (6 : Int32) * nI t + nI (ρ i) = nI (6 * t + ρ i) := by
      rw [show (6 : Int32) * nI t = nI (6 * t) from pk_mul 6 t, nI_add]
    have hi24 : vp_in (nI (6 * t + ρ i)) 24 := vp_in_nI (by omega) (by omega)
    have c24 : (nI (6 * t + ρ i)).toNatClampNeg = 6 * t + ρ i := nI_clamp (by omega)
    have hAa : fz_A tm (fz_col tm yx yy gc) a := fun v q => absurd q (hga v)
    have hAb : fz_A tm (fz_col tm yx yy gc) b := fun v q => absurd q (hgb v)
    have hmt : ∀ θ, fz_mt tm yl yq yt yx yy i (ρ i) θ ↔ (fz_sb θ (tm x) = fz_sb θ (tm a) ∧ fz_sb θ (tm y) = fz_sb θ (tm b)) := fun θ => by
      unfold fz_mt
      rw [et, nI_clamp (n := t) (by omega), ex1, ey1, ea, eb, fz_q_nI (by omega) (by omega), fz_q_nI (by omega) (by omega)]
    refine br_f (nI_ge (by omega) (by omega)) (And.intro hin (And.intro hin (nm_r (e' := nI (6 * t + ρ i)) (by rw [ci, et, hp i (by omega)]; exact e6) (And.intro hin (And.intro hi24 ?_)))))
    rw [ci, c24, ex1, ea]
    refine fz_ysame hY hz hr.1 hx ha1 (fun q tx' fr' sk' => ?_) (fun q tx' fr' sk' => ?_)
    · refine br_f (by decide) (And.intro hin (And.intro hi24 ?_))
      rw [ey1, eb]
      refine fz_ysame hY hz hr.1 hy hb1 (fun q2 tx2 fr2 sk2 => ?_) (fun q2 tx2 fr2 sk2 => ?_)
      · refine br_f (by decide) (nm_r (nI_1 i) (ih (i + 1) tx2 fr2 sk2 (by omega) (fun d hd' => ?_)))
        by_cases z : d = i
        · rw [z]; exact (hmt _).mpr ⟨q, q2⟩
        · exact he d (by omega)
      · refine br_t rfl (H0 (fun hs => q2 ?_) _ _ _)
        obtain ⟨θ, t1, t2, t3⟩ := hs
        have := ((hmt θ).mp (t2 i (by omega))).2
        rw [fz_RD_th hT hr t2 hy hAy, fz_RD_th hT hr t2 hb1 hAb] at this
        exact this
    · refine br_t rfl (H0 (fun hs => q ?_) _ _ _)
      obtain ⟨θ, t1, t2, t3⟩ := hs
      have := ((hmt θ).mp (t2 i (by omega))).1
      rw [fz_RD_th hT hr t2 hx hAx, fz_RD_th hT hr t2 ha1 hAa] at this
      exact this
theorem fz_t11 {post : Int32 → SY → Prop} (hT : fz_YT n gc ec dc tm sg yi yj yr yl yq yt yx yy y1 y2 y3 y4) {ρ : Nat → Nat} (hρ : ∀ g, g < gc → ρ g < fz_rn yr yt g) (hp : ∀ g, g < gc → yp g = nI (ρ g))
    (H1 : fz_sol tm gc ec dc yl yq yt yx yy y1 y2 y3 y4 ρ → ∀ yb tx fr sk : Nat → Int32, fz_RD n gc tm yl yq yt yx yy yb ρ → post 1 (yv, yc, nI gc, nI ec, nI dc, yo, yf, sg, yi, yj, yr, yl, yq, yt, yx, yy, yz, y1, y2, y3, y4, yh, yp, yb, tx, fr, sk)) (H0 : ¬ fz_sol tm gc ec dc yl yq yt yx yy y1 y2 y3 y4 ρ → ∀ yb tx fr sk : Nat → Int32, post 0 (yv, yc, nI gc, nI ec, nI dc, yo, yf, sg, yi, yj, yr, yl, yq, yt, yx, yy, yz, y1, y2, y3, y4, yh, yp, yb, tx, fr, sk)) :
    ∀ (j i : Nat) (yb tx fr sk : Nat → Int32), i + j = gc → fz_by n tm yb → (∀ v, fz_col tm yx yy i v → yb v ≠ -1) → (∀ θ, (∀ g, g < i → fz_mt tm yl yq yt yx yy g (ρ g) θ) → fz_ag tm yb θ) → wY_tryChoice_11 post (j + 1) (nI i) yv yc (nI gc) (nI ec) (nI dc) yo yf sg yi yj yr yl yq yt yx yy yz y1 y2 y3 y4 yh yp yb tx fr sk := by
  have hT' := hT
  obtain ⟨hY, hz, hgc, hec, hdc, hG, hR, hE, hD⟩ := hT'
  have hn := hY.1
  intro j
  induction j with
  | zero =>
    intro i yb tx fr sk hij r1 r2 r3
    have e : i = gc := by omega
    subst e
    have hr : fz_RD n i tm yl yq yt yx yy yb ρ := ⟨r1, r2, r3⟩
    exact br_t (nI_le (by omega) (by omega)) ⟨i + 1, fz_t84 hT hρ hp hr (fun hs tx fr sk => H1 hs yb tx fr sk hr) (fun hs => H0 hs yb) i 0 tx fr sk (by omega) (fun d hd => by omega)⟩
  | succ j ih =>
    intro i yb tx fr sk hij r1 r2 r3
    obtain ⟨t, m, x, y, ht, hm6, hx, hy, et, ex1, ey1, hAx, hAy, em, ern, hrow⟩ := fz_HGR hG hR (g := i) (by omega)
    have hri := hρ i (by omega)
    obtain ⟨a, b, ha1, hb1, ea, eb, hga, hgb⟩ := hrow (ρ i) (by omega)
    have hin : vp_in (nI i) 4 := vp_in_nI (by omega) (by omega)
    have ci : (nI i).toNatClampNeg = i := nI_clamp (by omega)
    have e6 : (6 : Int32) * nI t + nI (ρ i) = nI (6 * t + ρ i) := by
      rw [show (6 : Int32) * nI t = nI (6 * t) from pk_mul 6 t, nI_add]
    have hi24 : vp_in (nI (6 * t + ρ i)) 24 := vp_in_nI (by omega) (by omega)
    have c24 : (nI (6 * t + ρ i)).toNatClampNeg = 6 * t + ρ i := nI_clamp (by omega)
    have hmt : ∀ θ, fz_mt tm yl yq yt yx yy i (ρ i) θ → (fz_sb θ (tm x) = tm a ∧ fz_sb θ (tm y) = tm b) := fun θ q => by
      unfold fz_mt at q
      rw [et, nI_clamp (n := t) (by omega), ex1, ey1, ea, eb, fz_q_nI (by omega) (by omega), fz_q_nI (by omega) (by omega), fz_sb_gd θ _ hga, fz_sb_gd θ _ hgb] at q
      exact q
    refine br_f (nI_ge (by omega) (by omega)) (And.intro hin (And.intro hin (nm_r (e' := nI (6 * t + ρ i)) (by rw [ci, et, hp i (by omega)]; exact e6) (And.intro hin (And.intro hi24 ?_)))))
    rw [ci, c24, ex1, ea]
    refine fz_read hY hz hx ha1 hga r1 ?_ ?_
    · intro yb1 tx1 fr1 sk1 a1 a2 a3 a4
      refine br_f (by decide) (And.intro hin (And.intro hi24 ?_))
      rw [ey1, eb]
      refine fz_read hY hz hy hb1 hgb a1 ?_ ?_
      · intro yb2 tx2 fr2 sk2 b1 b2 b3 b4
        refine br_f (by decide) (nm_r (nI_1 i) (ih (i + 1) yb2 tx2 fr2 sk2 (by omega) b1 (fun v hv => ?_) (fun θ hθ => ?_)))
        · rw [fz_col_s, ex1, ey1, nI_clamp (by omega), nI_clamp (by omega)] at hv
          rcases hv with hv | hv | hv
          · have h1 := r2 v hv
            have h2 : yb1 v ≠ -1 := by rw [a2 v h1]; exact h1
            rw [b2 v h2]; exact h2
          · rw [b2 v (a4 v hv)]; exact a4 v hv
          · exact b4 v hv
        · have hm := hmt θ (hθ i (by omega))
          exact b3 θ (a3 θ (r3 θ (fun g hg => hθ g (by omega))) hm.1) hm.2
      · intro yb2 tx2 fr2 sk2 b1
        refine br_t rfl (H0 (fun hs => ?_) _ _ _ _)
        obtain ⟨θ, t1, t2, t3⟩ := hs
        have hm := hmt θ (t2 i (by omega))
        exact b1 θ (a3 θ (r3 θ (fun g hg => t2 g (by omega))) hm.1) hm.2
    · intro yb1 tx1 fr1 sk1 a1
      refine br_t rfl (H0 (fun hs => ?_) _ _ _ _)
      obtain ⟨θ, t1, t2, t3⟩ := hs
      have hm := hmt θ (t2 i (by omega))
      exact a1 θ (r3 θ (fun g hg => t2 g (by omega))) hm.1
theorem fz_try {post : Int32 → SY → Prop} (hT : fz_YT n gc ec dc tm sg yi yj yr yl yq yt yx yy y1 y2 y3 y4) {ρ : Nat → Nat} (hρ : ∀ g, g < gc → ρ g < fz_rn yr yt g)
    (H1 : fz_sol tm gc ec dc yl yq yt yx yy y1 y2 y3 y4 ρ → ∀ yp yb tx fr sk : Nat → Int32, fz_RD n gc tm yl yq yt yx yy yb ρ → post 1 (yv, yc, nI gc, nI ec, nI dc, yo, yf, sg, yi, yj, yr, yl, yq, yt, yx, yy, yz, y1, y2, y3, y4, yh, yp, yb, tx, fr, sk)) (H0 : ¬ fz_sol tm gc ec dc yl yq yt yx yy y1 y2 y3 y4 ρ → ∀ yp yb tx fr sk : Nat → Int32, post 0 (yv, yc, nI gc, nI ec, nI dc, yo, yf, sg, yi, yj, yr, yl, yq, yt, yx, yy, yz, y1, y2, y3, y4, yh, yp, yb, tx, fr, sk)) :
    wpY_tryChoice post (yv, yc, nI gc, nI ec, nI dc, yo, yf, sg, yi, yj, yr, yl, yq, yt, yx, yy, yz, y1, y2, y3, y4, yh, yp, yb, tx, fr, sk) (nI (fz_hn (fz_rn yr yt) ρ gc)) := by
  have hT' := hT
  obtain ⟨hY, hz, hgc, hec, hdc, hG, hR, hE, hD⟩ := hT'
  unfold wpY_tryChoice
  refine fz_unb ?_
  intro yb' hb
  refine fz_picks (n := n) (tm := tm) hgc (fz_HG_w hG) hR hρ ?_
  intro yp' hp
  refine ⟨gc + 1, fz_t11 hT hρ hp (fun hs => H1 hs yp') (fun hs => H0 hs yp') gc 0 yb' tx fr sk (by omega) (fun v hv => Or.inl (hb v hv)) (fun v ⟨e, he, _⟩ => by omega) (fun θ _ v hv c hc e => ?_)⟩
  exact absurd (e.symm.trans (hb v hv)) (fz_m1 (by omega))
/-! the reference: solve -/
def fz_ys (tm : Nat → fz_T) (gc ec dc : Nat) (yr yl yq yt yx yy y1 y2 y3 y4 : Nat → Int32) (m : Nat) : Prop :=
  ∃ ρ, (∀ g, g < gc → ρ g < fz_rn yr yt g) ∧ fz_sol tm gc ec dc yl yq yt yx yy y1 y2 y3 y4 ρ ∧ fz_hn (fz_rn yr yt) ρ gc = m
noncomputable def fz_YL (tm : Nat → fz_T) (gc ec dc : Nat) (yr yl yq yt yx yy y1 y2 y3 y4 : Nat → Int32) : List Nat :=
  (List.range (fz_pr (fz_rn yr yt) gc)).filter (fun m => fz_pb (fz_ys tm gc ec dc yr yl yq yt yx yy y1 y2 y3 y4 m))
theorem fz_hn_u {b ρ ρ' : Nat → Nat} {i : Nat} (h1 : ∀ g, g < i → ρ g < b g) (h2 : ∀ g, g < i → ρ' g < b g) (e : fz_hn b ρ i = fz_hn b ρ' i) {gc ec dc : Nat} (hi : i = gc) {tm : Nat → fz_T} {yl yq yt yx yy y1 y2 y3 y4 : Nat → Int32} (hs : fz_sol tm gc ec dc yl yq yt yx yy y1 y2 y3 y4 ρ) : fz_sol tm gc ec dc yl yq yt yx yy y1 y2 y3 y4 ρ' := by
  obtain ⟨θ, t1, t2, t3⟩ := hs
  refine ⟨θ, t1, fun g hg => ?_, t3⟩
  have := t2 g hg
  rw [fz_hn_inj i h1 h2 e g (by omega)] at this
  exact this
theorem fz_y29 {post : Int32 → SY → Prop} (hT : fz_YT n gc ec dc tm sg yi yj yr yl yq yt yx yy y1 y2 y3 y4)
    (H : ∀ yh yp yb tx fr sk : Nat → Int32, (∀ k m, (fz_YL tm gc ec dc yr yl yq yt yx yy y1 y2 y3 y4)[k]? = some m → yh k = nI m) → post (nI (fz_YL tm gc ec dc yr yl yq yt yx yy y1 y2 y3 y4).length) (yv, yc, nI gc, nI ec, nI dc, 1, nI (fz_YL tm gc ec dc yr yl yq yt yx yy y1 y2 y3 y4).length, sg, yi, yj, yr, yl, yq, yt, yx, yy, yz, y1, y2, y3, y4, yh, yp, yb, tx, fr, sk)) :
    ∀ (j i : Nat) (yh yp yb tx fr sk : Nat → Int32), i + j = fz_pr (fz_rn yr yt) gc → (∀ k m, ((List.range i).filter (fun m => fz_pb (fz_ys tm gc ec dc yr yl yq yt yx yy y1 y2 y3 y4 m)))[k]? = some m → yh k = nI m) → wY_solve_29 post (j + 1) (nI i) yv yc (nI gc) (nI ec) (nI dc) yo (nI ((List.range i).filter (fun m => fz_pb (fz_ys tm gc ec dc yr yl yq yt yx yy y1 y2 y3 y4 m))).length) sg yi yj yr yl yq yt yx yy yz y1 y2 y3 y4 yh yp yb tx fr sk := by
  have hT' := hT
  obtain ⟨hY, hz, hgc, hec, hdc, hG, hR, hE, hD⟩ := hT'
  have h6 : ∀ g, g < gc → fz_rn yr yt g ≤ 6 := fun g hg => by
    obtain ⟨t, m, x, y, ht, hm, hx, hy, et, _, _, _, _, em, ern, _⟩ := fz_HGR hG hR hg
    omega
  have hN := fz_pr_1296 hgc h6
  intro j
  induction j with
  | zero =>
    intro i yh yp yb tx fr sk hij hh
    have e : i = fz_pr (fz_rn yr yt) gc := by omega
    subst e
    refine fz_ychoices (n := n) (tm := tm) hgc (fz_HG_w hG) hR ?_
    exact br_t (nI_le (by omega) (by omega)) (H yh yp yb tx fr sk hh)
  | succ j ih =>
    intro i yh yp yb tx fr sk hij hh
    have hle : ((List.range i).filter (fun m => fz_pb (fz_ys tm gc ec dc yr yl yq yt yx yy y1 y2 y3 y4 m))).length ≤ i := by
      have := List.length_filter_le (fun m => fz_pb (fz_ys tm gc ec dc yr yl yq yt yx yy y1 y2 y3 y4 m)) (List.range i)
      rw [List.length_range] at this; exact this
    refine fz_ychoices (n := n) (tm := tm) hgc (fz_HG_w hG) hR ?_
    refine br_f (nI_ge (by omega) (by omega)) ?_
    obtain ⟨d1, d2⟩ := fz_dg_ok (b := fz_rn yr yt) gc i (by omega)
    have key : wpY_tryChoice _ _ _ := fz_try (post := fun r_60 u => match u with | (yv, yc, yg, ye, yd, yo, yf, sg, yi, yj, yr, yl, yq, yt, yx, yy, yz, y1, y2, y3, y4, yh, yp, yb, tx, fr, sk) => ((r_60 = 0 → (∀ x1_89 : Int32, x1_89 = nI i + 1 → (wY_solve_29 post (j + 1) x1_89 yv yc yg ye yd yo yf sg yi yj yr yl yq yt yx yy yz y1 y2 y3 y4 yh yp yb tx fr sk))) ∧ (¬ r_60 = 0 → (vp_in yf 1296 ∧ ∀ yh' : Nat → Int32, yh' = upd yh yf.toNatClampNeg (nI i) → (∀ yf' : Int32, yf' = yf + 1 → (∀ x1_93 : Int32, x1_93 = nI i + 1 → (wY_solve_29 post (j + 1) x1_93 yv yc yg ye yd yo yf' sg yi yj yr yl yq yt yx yy yz y1 y2 y3 y4 yh' yp yb tx fr sk))))))) (yv := yv) (yc := yc) (yo := yo) (yf := nI ((List.range i).filter (fun m => fz_pb (fz_ys tm gc ec dc yr yl yq yt yx yy y1 y2 y3 y4 m))).length) (sg := sg) (yi := yi) (yj := yj) (yr := yr) (yl := yl) (yq := yq) (yt := yt) (yx := yx) (yy := yy) (yz := yz) (y1 := y1) (y2 := y2) (y3 := y3) (y4 := y4) (yh := yh) (yp := yp) (yb := yb) (tx := tx) (fr := fr) (sk := sk) hT d1 ?_ ?_
    · rw [d2] at key
      exact key
    · intro hs yp' yb' tx' fr' sk' hrd
      have q : fz_pb (fz_ys tm gc ec dc yr yl yq yt yx yy y1 y2 y3 y4 i) = true := fz_pb_iff.mpr ⟨_, d1, hs, d2⟩
      have e : (List.range (i + 1)).filter (fun m => fz_pb (fz_ys tm gc ec dc yr yl yq yt yx yy y1 y2 y3 y4 m)) = (List.range i).filter (fun m => fz_pb (fz_ys tm gc ec dc yr yl yq yt yx yy y1 y2 y3 y4 m)) ++ [i] := by
        rw [List.range_succ, List.filter_append]; simp [q]
      have kk := ih (i + 1) (upd yh ((List.range i).filter (fun m => fz_pb (fz_ys tm gc ec dc yr yl yq yt yx yy y1 y2 y3 y4 m))).length (nI i)) yp' yb' tx' fr' sk' (by omega) (by
        rw [e]
        intro k c hk
        rcases fz_gapp hk with w | ⟨w1, w2⟩
        · have := fz_glt w
          exact (if_neg (by omega)).trans (hh k c w)
        · rw [w1, w2]; exact if_pos rfl)
      rw [e, List.length_append] at kk
      exact br_f (by decide) (And.intro (vp_in_nI (by omega) (by omega)) (nm_r (by rw [nI_clamp (by omega)]) (nm_r (nI_1 _) (nm_r (nI_1 i) kk))))
    · intro hs yp' yb' tx' fr' sk'
      have q : fz_pb (fz_ys tm gc ec dc yr yl yq yt yx yy y1 y2 y3 y4 i) = false := by
        cases w : fz_pb (fz_ys tm gc ec dc yr yl yq yt yx yy y1 y2 y3 y4 i)
        · rfl
        · obtain ⟨ρ, r1, r2, r3⟩ := fz_pb_iff.mp w
          exact absurd (fz_hn_u r1 d1 (by rw [r3, d2]) rfl r2) hs
      have e : (List.range (i + 1)).filter (fun m => fz_pb (fz_ys tm gc ec dc yr yl yq yt yx yy y1 y2 y3 y4 m)) = (List.range i).filter (fun m => fz_pb (fz_ys tm gc ec dc yr yl yq yt yx yy y1 y2 y3 y4 m)) := by
        rw [List.range_succ, List.filter_append]; simp [q]
      have kk := ih (i + 1) yh yp' yb' tx' fr' sk' (by omega) (by rw [e]; exact hh)
      rw [e] at kk
      exact br_t rfl (nm_r (nI_1 i) kk)
end
end
section
/-! the two lists of solutions agree -/
theorem fz_mono6 {b ρ ρ' : Nat → Nat} : ∀ i, (∀ g, g < i → b g ≤ 6) → (∀ g, g < i → ρ g < b g) → (∀ g, g < i → ρ' g < b g) → fz_hn b ρ i < fz_hn b ρ' i → fz_hn fz_six ρ i < fz_hn fz_six ρ' i := by
  intro i
  induction i with
  | zero =>
    intro _ _ _ h
    have h' : (0 : Nat) < 0 := h
    omega
  | succ i ih =>
    intro h6 h1 h2 h
    have h' : b i * fz_hn b ρ i + ρ i < b i * fz_hn b ρ' i + ρ' i := h
    have l1 := h1 i (by omega)
    have l2 := h2 i (by omega)
    have l6 := h6 i (by omega)
    show 6 * fz_hn fz_six ρ i + ρ i < 6 * fz_hn fz_six ρ' i + ρ' i
    rcases Nat.lt_trichotomy (fz_hn b ρ i) (fz_hn b ρ' i) with q | q | q
    · have := ih (fun g hg => h6 g (by omega)) (fun g hg => h1 g (by omega)) (fun g hg => h2 g (by omega)) q
      omega
    · have e := fz_hn_inj i (fun g hg => h1 g (by omega)) (fun g hg => h2 g (by omega)) q
      rw [fz_hn_cg (b := fz_six) i e]
      rw [q] at h'
      omega
    · have h3 : b i * (fz_hn b ρ' i + 1) ≤ b i * fz_hn b ρ i := Nat.mul_le_mul_left _ q
      rw [Nat.mul_add, Nat.mul_one] at h3
      omega
theorem fz_sorted : ∀ L1 L2 : List Nat, L1.Pairwise (· < ·) → L2.Pairwise (· < ·) → (∀ x, x ∈ L1 ↔ x ∈ L2) → L1 = L2 := by
  intro L1
  induction L1 with
  | nil =>
    intro L2 _ _ h
    cases L2 with
    | nil => rfl
    | cons b L2 => exact absurd ((h b).mpr List.mem_cons_self) List.not_mem_nil
  | cons a L1 ih =>
    intro L2 p1 p2 h
    cases L2 with
    | nil => exact absurd ((h a).mp List.mem_cons_self) List.not_mem_nil
    | cons b L2 =>
      obtain ⟨a1, a2⟩ := List.pairwise_cons.mp p1
      obtain ⟨b1, b2⟩ := List.pairwise_cons.mp p2
      have e : a = b := by
        rcases List.mem_cons.mp ((h a).mp List.mem_cons_self) with q | q
        · exact q
        · rcases List.mem_cons.mp ((h b).mpr List.mem_cons_self) with q2 | q2
          · exact q2.symm
          · have := b1 a q
            have := a1 b q2
            omega
      subst e
      rw [ih L2 a2 b2 (fun x => ?_)]
      constructor
      · intro hx
        rcases List.mem_cons.mp ((h x).mp (List.mem_cons_of_mem _ hx)) with q | q
        · have := a1 x hx
          omega
        · exact q
      · intro hx
        rcases List.mem_cons.mp ((h x).mpr (List.mem_cons_of_mem _ hx)) with q | q
        · have := b1 x hx
          omega
        · exact q
theorem fz_lists {tm : Nat → fz_T} {gc ec dc : Nat} {rc rl rr gt gx gy ex ey dx dy : Nat → Int32} (hgc : gc ≤ 4) (h6 : ∀ g, g < gc → fz_rn rc gt g ≤ 6) : (fz_YL tm gc ec dc rc rl rr gt gx gy ex ey dx dy).map (fun m => fz_hn fz_six (fz_dg (fz_rn rc gt) gc m) gc) = fz_SL tm gc ec dc rc rl rr gt gx gy ex ey dx dy := by
  have my : ∀ m, m ∈ fz_YL tm gc ec dc rc rl rr gt gx gy ex ey dx dy → m < fz_pr (fz_rn rc gt) gc := fun m hm => List.mem_range.mp (List.mem_filter.mp hm).1
  refine fz_sorted _ _ ?_ ?_ ?_
  · refine List.pairwise_map.mpr ?_
    refine List.Pairwise.imp_of_mem ?_ (List.Pairwise.filter _ List.pairwise_lt_range)
    intro a b ha hb hab
    obtain ⟨a1, a2⟩ := fz_dg_ok (b := fz_rn rc gt) gc a (my a ha)
    obtain ⟨b1, b2⟩ := fz_dg_ok (b := fz_rn rc gt) gc b (my b hb)
    exact fz_mono6 gc h6 a1 b1 (by rw [a2, b2]; exact hab)
  · exact List.Pairwise.filter _ List.pairwise_lt_range
  · intro c
    constructor
    · intro hc
      obtain ⟨m, hm, e⟩ := List.mem_map.mp hc
      obtain ⟨ρ, r1, r2, r3⟩ := fz_pb_iff.mp (List.mem_filter.mp hm).2
      obtain ⟨a1, a2⟩ := fz_dg_ok (b := fz_rn rc gt) gc m (my m hm)
      have hs := fz_hn_u r1 a1 (by rw [r3, a2]) rfl r2
      refine List.mem_filter.mpr ⟨List.mem_range.mpr ?_, fz_pb_iff.mpr ⟨_, a1, hs, e⟩⟩
      rw [← e]
      exact fz_hn_1296 hgc (fun g hg => by have := a1 g hg; have := h6 g hg; omega)
    · intro hc
      obtain ⟨ρ, r1, r2, r3⟩ := fz_pb_iff.mp (List.mem_filter.mp hc).2
      have hl := fz_hn_pr gc r1
      obtain ⟨a1, a2⟩ := fz_dg_ok (b := fz_rn rc gt) gc _ hl
      refine List.mem_map.mpr ⟨fz_hn (fz_rn rc gt) ρ gc, List.mem_filter.mpr ⟨List.mem_range.mpr hl, fz_pb_iff.mpr ⟨ρ, r1, r2, rfl⟩⟩, ?_⟩
      rw [← r3]
      exact fz_hn_cg gc (fz_hn_inj gc a1 r1 a2)
theorem fz_lists_k {tm : Nat → fz_T} {gc ec dc : Nat} {rc rl rr gt gx gy ex ey dx dy : Nat → Int32} (hgc : gc ≤ 4) (h6 : ∀ g, g < gc → fz_rn rc gt g ≤ 6) {k : Nat} (hk : k < (fz_SL tm gc ec dc rc rl rr gt gx gy ex ey dx dy).length) : ∃ ρ, (∀ g, g < gc → ρ g < fz_rn rc gt g) ∧ fz_sol tm gc ec dc rl rr gt gx gy ex ey dx dy ρ ∧ (fz_SL tm gc ec dc rc rl rr gt gx gy ex ey dx dy)[k]? = some (fz_hn fz_six ρ gc) ∧ (fz_YL tm gc ec dc rc rl rr gt gx gy ex ey dx dy)[k]? = some (fz_hn (fz_rn rc gt) ρ gc) := by
  have e := fz_lists (tm := tm) (gc := gc) (ec := ec) (dc := dc) (rc := rc) (rl := rl) (rr := rr) (gt := gt) (gx := gx) (gy := gy) (ex := ex) (ey := ey) (dx := dx) (dy := dy) hgc h6
  rw [← e, List.length_map] at hk
  obtain ⟨m, hm, hmem⟩ := fz_getlt hk
  have ml : m < fz_pr (fz_rn rc gt) gc := List.mem_range.mp (List.mem_filter.mp hmem).1
  obtain ⟨ρ, r1, r2, r3⟩ := fz_pb_iff.mp (List.mem_filter.mp hmem).2
  obtain ⟨a1, a2⟩ := fz_dg_ok (b := fz_rn rc gt) gc m ml
  refine ⟨_, a1, fz_hn_u r1 a1 (by rw [r3, a2]) rfl r2, ?_, by rw [a2]; exact hm⟩
  rw [← e, List.getElem?_map, hm]
  rfl
theorem fz_lists_len {tm : Nat → fz_T} {gc ec dc : Nat} {rc rl rr gt gx gy ex ey dx dy : Nat → Int32} (hgc : gc ≤ 4) (h6 : ∀ g, g < gc → fz_rn rc gt g ≤ 6) : (fz_YL tm gc ec dc rc rl rr gt gx gy ex ey dx dy).length = (fz_SL tm gc ec dc rc rl rr gt gx gy ex ey dx dy).length := by
  rw [← fz_lists hgc h6, List.length_map]
theorem fz_SL_le {tm : Nat → fz_T} {gc ec dc : Nat} {rc rl rr gt gx gy ex ey dx dy : Nat → Int32} : (fz_SL tm gc ec dc rc rl rr gt gx gy ex ey dx dy).length ≤ 1296 := by
  have := List.length_filter_le (fun c => fz_pb (fz_cd tm gc ec dc rc rl rr gt gx gy ex ey dx dy c)) (List.range 1296)
  rw [List.length_range] at this
  exact this
/-! the number names the term -/
def fz_F (u : fz_T) (a : Nat) : Nat := 18 * a + fz_sg u
theorem fz_F_inj : ∀ l1 l2 : List fz_T, (∀ u, u ∈ l1 → 1 ≤ fz_sg u ∧ fz_sg u ≤ 17) → (∀ u, u ∈ l2 → 1 ≤ fz_sg u ∧ fz_sg u ≤ 17) → l1.foldr fz_F 0 = l2.foldr fz_F 0 → l1.map fz_sg = l2.map fz_sg := by
  intro l1
  induction l1 with
  | nil =>
    intro l2 _ h2 e
    cases l2 with
    | nil => rfl
    | cons b l2 =>
      have := h2 b List.mem_cons_self
      have e' : 0 = 18 * l2.foldr fz_F 0 + fz_sg b := e
      omega
  | cons a l1 ih =>
    intro l2 h1 h2 e
    have ha := h1 a List.mem_cons_self
    cases l2 with
    | nil =>
      have e' : 18 * l1.foldr fz_F 0 + fz_sg a = 0 := e
      omega
    | cons b l2 =>
      have hb := h2 b List.mem_cons_self
      have e' : 18 * l1.foldr fz_F 0 + fz_sg a = 18 * l2.foldr fz_F 0 + fz_sg b := e
      have e1 : fz_sg a = fz_sg b := by omega
      rw [List.map_cons, List.map_cons, e1, ih l2 (fun u hu => h1 u (List.mem_cons_of_mem _ hu)) (fun u hu => h2 u (List.mem_cons_of_mem _ hu)) (by omega)]
theorem fz_F_lt : ∀ l : List fz_T, (∀ u, u ∈ l → 1 ≤ fz_sg u ∧ fz_sg u ≤ 17) → l.foldr fz_F 0 < 18 ^ l.length := by
  intro l
  induction l with
  | nil => intro _; exact Nat.one_pos
  | cons a l ih =>
    intro h
    have ha := h a List.mem_cons_self
    have := ih (fun u hu => h u (List.mem_cons_of_mem _ hu))
    show 18 * l.foldr fz_F 0 + fz_sg a < 18 ^ (l.length + 1)
    rw [Nat.pow_succ]
    omega
theorem fz_num_nat : ∀ (L : List fz_T) (a : Nat), fz_num (lN a) L = lN (L.foldl (fun a u => fz_F u a) a) := by
  intro L
  induction L with
  | nil => intro a; rfl
  | cons u L ih =>
    intro a
    show fz_num (18 * lN a + lN (fz_sg u)) L = lN (L.foldl (fun a u => fz_F u a) (fz_F u a))
    rw [show (18 : Int64) * lN a = lN (18 * a) from lN_mul 18 a, lN_add]
    exact ih _
theorem fz_num_inj {t1 t2 : fz_T} (w1 : fz_wf t1) (w2 : fz_wf t2) (g1 : fz_gd t1) (g2 : fz_gd t2) (z1 : fz_sz t1 ≤ 13) (z2 : fz_sz t2 ≤ 13) : fz_num 0 (fz_ls t1) = fz_num 0 (fz_ls t2) ↔ t1 = t2 := by
  constructor
  · intro h
    have s1 : ∀ u, u ∈ (fz_ls t1).reverse → 1 ≤ fz_sg u ∧ fz_sg u ≤ 17 := fun u hu => fz_gd_sg w1 g1 (List.mem_reverse.mp hu)
    have s2 : ∀ u, u ∈ (fz_ls t2).reverse → 1 ≤ fz_sg u ∧ fz_sg u ≤ 17 := fun u hu => fz_gd_sg w2 g2 (List.mem_reverse.mp hu)
    have b1 := fz_F_lt _ s1
    have b2 := fz_F_lt _ s2
    rw [List.length_reverse, fz_ls_len] at b1 b2
    have p13 : (18 : Nat) ^ 13 < 2 ^ 63 := by decide
    have p1 : 18 ^ fz_sz t1 ≤ 18 ^ 13 := Nat.pow_le_pow_right (by omega) z1
    have p2 : 18 ^ fz_sz t2 ≤ 18 ^ 13 := Nat.pow_le_pow_right (by omega) z2
    have h' : fz_num (lN 0) (fz_ls t1) = fz_num (lN 0) (fz_ls t2) := h
    rw [fz_num_nat, fz_num_nat, List.foldl_eq_foldr_reverse, List.foldl_eq_foldr_reverse] at h'
    have h2 := (pk_lEQ (Nat.lt_trans (Nat.lt_of_lt_of_le b1 p1) p13) (Nat.lt_trans (Nat.lt_of_lt_of_le b2 p2) p13)).mp h'
    have h3 := fz_F_inj _ _ s1 s2 h2
    rw [List.map_reverse, List.map_reverse] at h3
    exact fz_ls_inj w1 w2 (List.reverse_inj.mp h3)
  · intro h; rw [h]
section
variable {n nv gc ec dc : Nat} {tm f : Nat → fz_T}
variable {yv yc yg ye yd yo yf : Int32} {sg yi yj yr yl yq yt yx yy yz y1 y2 y3 y4 yh yp yb tx fr sk : Nat → Int32}
theorem fz_ynum {post : Int64 → SY → Prop} (hY : fz_CY n sg yi yj tm) {c : Nat} (hc : c < n) (hz : fz_sz (tm c) ≤ 13) (H : ∀ tx fr sk : Nat → Int32, post (fz_num 0 (fz_ls (tm c))) (yv, yc, yg, ye, yd, yo, yf, sg, yi, yj, yr, yl, yq, yt, yx, yy, yz, y1, y2, y3, y4, yh, yp, yb, tx, fr, sk)) : wpY_number post (yv, yc, yg, ye, yd, yo, yf, sg, yi, yj, yr, yl, yq, yt, yx, yy, yz, y1, y2, y3, y4, yh, yp, yb, tx, fr, sk) (nI c) := by
  have hw := fz_CY_wf hY c hc
  have hl := fz_ls_len (tm c)
  unfold wpY_number
  refine fz_write0 (base := 0) hY (by omega) hc hz ?_
  intro tx1 fr1 sk1 p1 _
  refine ⟨fz_sz (tm c) + 1, ?_⟩
  have key : ∀ j i, i + j = fz_sz (tm c) → wY_number_13 post (nI (fz_sz (tm c))) yv yc yg ye yd yo yf sg yi yj yr yl yq yt yx yy yz y1 y2 y3 y4 yh yp yb tx1 fr1 sk1 (j + 1) (fz_num 0 ((fz_ls (tm c)).take i)) (nI i) := by
    intro j
    induction j with
    | zero =>
      intro i hij
      refine br_t (nI_le (by omega) (by omega)) ?_
      rw [List.take_of_length_le (by omega)]
      exact H _ _ _
    | succ j ih =>
      intro i hij
      obtain ⟨u, eu, mu⟩ := fz_getlt (L := fz_ls (tm c)) (i := i) (by omega)
      have s1 := fz_sg_100 (fz_ls_wf hw mu)
      have et := (p1 i u eu).1
      rw [Nat.zero_add] at et
      refine br_f (nI_ge (by omega) (by omega)) (And.intro (vp_in_nI (by omega) (by omega)) (nm_r (e' := fz_num 0 ((fz_ls (tm c)).take (i + 1))) ?_ (nm_r (nI_1 i) (ih (i + 1) (by omega)))))
      rw [nI_clamp (by omega), et, nI_l (by omega), List.take_add_one, eu]
      unfold fz_num
      rw [List.foldl_append]
      rfl
  exact key _ 0 (by omega)
end
end
section
/-! the relation -/
def fz_SV (nv gc ec dc : Nat) (tm : Nat → fz_T) (so sc yf : Int32) (rc rl rr gt gx gy gf ex ey dx dy sl yh : Nat → Int32) : Prop :=
  so = 0 ∨ (so = 1 ∧ ¬ fz_loose tm gx gy gf ex ey dx dy nv gc ec dc ∧ ∃ K, K ≤ 1296 ∧ sc = nI K ∧ yf = nI K ∧ ∀ k, k < K → ∃ ρ, (∀ g, g < gc → ρ g < fz_rn rc gt g) ∧ fz_sol tm gc ec dc rl rr gt gx gy ex ey dx dy ρ ∧ sl k = nI (fz_hn fz_six ρ gc) ∧ yh k = nI (fz_hn (fz_rn rc gt) ρ gc))
def fz_FA (nv n gc ec dc : Nat) (tm : Nat → fz_T) (so sc yf : Int32) (ki fi se si ins cn rc rl rr gt gx gy gf ex ey dx dy sl sg yi yj yh : Nat → Int32) : Prop :=
  1 ≤ nv ∧ fz_BT n nv gc ec dc tm ki fi se ins cn rc rl rr gt gx gy gf ex ey dx dy ∧ fz_CZ n si cn tm ∧ fz_CY n sg yi yj tm ∧ fz_SV nv gc ec dc tm so sc yf rc rl rr gt gx gy gf ex ey dx dy sl yh
def fz_R1 (fv fc fg fe fd so sc yf : Int32) (ki fi se si ins cn rc rl rr gt gx gy gf ex ey dx dy sl sg yi yj yh : Nat → Int32) : Prop :=
  ∃ nv n gc ec dc tm, fv = nI nv ∧ fc = nI n ∧ fg = nI gc ∧ fe = nI ec ∧ fd = nI dc ∧ fz_FA nv n gc ec dc tm so sc yf ki fi se si ins cn rc rl rr gt gx gy gf ex ey dx dy sl sg yi yj yh
def fz_R0 (fv fc fg fe fd so sc : Int32) (ki fi se si ins cn rc rl rr gt gx gy gf ex ey dx dy sl : Nat → Int32) (yv yc yg ye yd yo yf : Int32) (sg yi yj yr yl yq yt yx yy yz y1 y2 y3 y4 yh : Nat → Int32) : Prop :=
  yv = fv ∧ yc = fc ∧ yg = fg ∧ ye = fe ∧ yd = fd ∧ yo = so ∧ yr = rc ∧ yl = rl ∧ yq = rr ∧ yt = gt ∧ yx = gx ∧ yy = gy ∧ yz = gf ∧ y1 = ex ∧ y2 = ey ∧ y3 = dx ∧ y4 = dy ∧ fz_R1 fv fc fg fe fd so sc yf ki fi se si ins cn rc rl rr gt gx gy gf ex ey dx dy sl sg yi yj yh
def i_Rel (k : Nat) (u : SX) (v : SY) : Prop := match u with
  | (fv, fc, fg, fe, fd, ft, pl, aw, az, tc, pt, so, sc, ki, fi, se, si, ins, cn, rc, rl, rr, gt, gx, gy, gf, ex, ey, dx, dy, bi, go, df, tw, tl, st, ps, ws, mg, mr, mt, mp, ma, mz, ch, is, sl, re) => match v with
    | (yv, yc, yg, ye, yd, yo, yf, sg, yi, yj, yr, yl, yq, yt, yx, yy, yz, y1, y2, y3, y4, yh, yp, yb, tx, fr, sk) => fz_R0 fv fc fg fe fd so sc ki fi se si ins cn rc rl rr gt gx gy gf ex ey dx dy sl yv yc yg ye yd yo yf sg yi yj yr yl yq yt yx yy yz y1 y2 y3 y4 yh
theorem i_up {k : Nat} {u : SX} {v : SY} (h : i_Rel k u v) : i_Rel (k + 5) u v := h
section
variable {nv n gc ec dc : Nat} {tm : Nat → fz_T}
variable {fv fc fg fe fd ft pl aw az tc pt so sc : Int32} {ki fi se si ins cn rc rl rr gt gx gy gf ex ey dx dy bi go df tw tl st : Nat → Int32} {ps : Nat → Int64} {ws mg mr mt mp ma mz ch is sl re : Nat → Int32}
variable {yf : Int32} {sg yi yj yh yp yb tx fr sk : Nat → Int32}
theorem fz_mk {k : Nat} (h : fz_FA nv n gc ec dc tm so sc yf ki fi se si ins cn rc rl rr gt gx gy gf ex ey dx dy sl sg yi yj yh) : i_Rel k (nI nv, nI n, nI gc, nI ec, nI dc, ft, pl, aw, az, tc, pt, so, sc, ki, fi, se, si, ins, cn, rc, rl, rr, gt, gx, gy, gf, ex, ey, dx, dy, bi, go, df, tw, tl, st, ps, ws, mg, mr, mt, mp, ma, mz, ch, is, sl, re) (nI nv, nI n, nI gc, nI ec, nI dc, so, yf, sg, yi, yj, rc, rl, rr, gt, gx, gy, gf, ex, ey, dx, dy, yh, yp, yb, tx, fr, sk) :=
  ⟨rfl, rfl, rfl, rfl, rfl, rfl, rfl, rfl, rfl, rfl, rfl, rfl, rfl, rfl, rfl, rfl, rfl, nv, n, gc, ec, dc, tm, rfl, rfl, rfl, rfl, rfl, h⟩
end
theorem fz_el {P : SX → SY → Prop} (H : ∀ (nv n gc ec dc : Nat) (tm : Nat → fz_T) (ft pl aw az tc pt so sc : Int32) (ki fi se si ins cn rc rl rr gt gx gy gf ex ey dx dy bi go df tw tl st : Nat → Int32) (ps : Nat → Int64) (ws mg mr mt mp ma mz ch is sl re : Nat → Int32) (yf : Int32) (sg yi yj yh yp yb tx fr sk : Nat → Int32), fz_FA nv n gc ec dc tm so sc yf ki fi se si ins cn rc rl rr gt gx gy gf ex ey dx dy sl sg yi yj yh → P (nI nv, nI n, nI gc, nI ec, nI dc, ft, pl, aw, az, tc, pt, so, sc, ki, fi, se, si, ins, cn, rc, rl, rr, gt, gx, gy, gf, ex, ey, dx, dy, bi, go, df, tw, tl, st, ps, ws, mg, mr, mt, mp, ma, mz, ch, is, sl, re) (nI nv, nI n, nI gc, nI ec, nI dc, so, yf, sg, yi, yj, rc, rl, rr, gt, gx, gy, gf, ex, ey, dx, dy, yh, yp, yb, tx, fr, sk)) {k : Nat} {u : SX} {v : SY} (I : i_Rel k u v) : P u v := by
  obtain ⟨fv, fc, fg, fe, fd, ft, pl, aw, az, tc, pt, so, sc, ki, fi, se, si, ins, cn, rc, rl, rr, gt, gx, gy, gf, ex, ey, dx, dy, bi, go, df, tw, tl, st, ps, ws, mg, mr, mt, mp, ma, mz, ch, is, sl, re⟩ := u
  obtain ⟨yv, yc, yg, ye, yd, yo, yf, sg, yi, yj, yr, yl, yq, yt, yx, yy, yz, y1, y2, y3, y4, yh, yp, yb, tx, fr, sk⟩ := v
  have I' : fz_R0 fv fc fg fe fd so sc ki fi se si ins cn rc rl rr gt gx gy gf ex ey dx dy sl yv yc yg ye yd yo yf sg yi yj yr yl yq yt yx yy yz y1 y2 y3 y4 yh := I
  obtain ⟨e1, e2, e3, e4, e5, e6, e7, e8, e9, e10, e11, e12, e13, e14, e15, e16, e17, nv, n, gc, ec, dc, tm, q1, q2, q3, q4, q5, hF⟩ := I'
  subst q1 q2 q3 q4 q5
  subst e1 e2 e3 e4 e5 e6 e7 e8 e9 e10 e11 e12 e13 e14 e15 e16 e17
  exact H nv n gc ec dc tm ft pl aw az tc pt _ sc ki fi se si ins cn _ _ _ _ _ _ _ _ _ _ _ bi go df tw tl st ps ws mg mr mt mp ma mz ch is sl re yf sg yi yj yh yp yb tx fr sk hF
/-! the constructors -/
theorem fz_FA0 {nv : Nat} (h1 : 1 ≤ nv) (h6 : nv ≤ 6) : fz_FA nv 0 0 0 0 (fun _ => .var 0) 0 0 0 (fun _ => 0) (fun _ => 0) (fun _ => 0) (fun _ => 0) (fun _ => 0) (fun _ => 0) (fun _ => 0) (fun _ => 0) (fun _ => 0) (fun _ => 0) (fun _ => 0) (fun _ => 0) (fun _ => 0) (fun _ => 0) (fun _ => 0) (fun _ => 0) (fun _ => 0) (fun _ => 0) (fun _ => 0) (fun _ => 0) (fun _ => 0) (fun _ => 0) := by
  refine ⟨h1, ⟨⟨by omega, h6, fun c hc => by omega, fun c hc => by omega, fun c d hc => by omega⟩, by omega, by omega, by omega, fun g hg => by omega, fun t ht => ⟨0, by omega, rfl, fun r hr => by omega⟩, fun e he => by omega, fun d hd => by omega, fun g hg => by omega⟩, fun c hc => by omega, ⟨by omega, fun c hc => by omega⟩, Or.inl rfl⟩
theorem fz_init {k : Nat} {nv : Nat} (h1 : 1 ≤ nv) (h6 : nv ≤ 6) : i_Rel k (nI nv, 0, 0, 0, 0, 0, 0, 0, 0, 0, 0, 0, 0, (fun _ => 0), (fun _ => 0), (fun _ => 0), (fun _ => 0), (fun _ => 0), (fun _ => 0), (fun _ => 0), (fun _ => 0), (fun _ => 0), (fun _ => 0), (fun _ => 0), (fun _ => 0), (fun _ => 0), (fun _ => 0), (fun _ => 0), (fun _ => 0), (fun _ => 0), (fun _ => 0), (fun _ => 0), (fun _ => 0), (fun _ => 0), (fun _ => 0), (fun _ => 0), (fun _ => 0), (fun _ => 0), (fun _ => 0), (fun _ => 0), (fun _ => 0), (fun _ => 0), (fun _ => 0), (fun _ => 0), (fun _ => 0), (fun _ => 0), (fun _ => 0), (fun _ => 0)) (nI nv, 0, 0, 0, 0, 0, 0, (fun _ => 0), (fun _ => 0), (fun _ => 0), (fun _ => 0), (fun _ => 0), (fun _ => 0), (fun _ => 0), (fun _ => 0), (fun _ => 0), (fun _ => 0), (fun _ => 0), (fun _ => 0), (fun _ => 0), (fun _ => 0), (fun _ => 0), (fun _ => 0), (fun _ => 0), (fun _ => 0), (fun _ => 0), (fun _ => 0)) :=
  fz_mk (n := 0) (gc := 0) (ec := 0) (dc := 0) (fz_FA0 h1 h6)
theorem i_vc0 (k0 : Int32) : wpX_init (fun u => wpY_init (fun v => i_Rel 1 u v) k0) k0 := by
  by_cases h1 : 1 ≤ k0
  · refine br_t h1 ?_
    by_cases h6 : k0 ≤ 6
    · obtain ⟨j, hj, e⟩ := nI_of2 (x := k0) (M := 6) (n := 6) (by decide) (fun q => by
        have q1 := Int32.lt_iff_toInt_lt.mp q
        have q2 := Int32.le_iff_toInt_le.mp h1
        have z0 : (0 : Int32).toInt = 0 := by decide
        have z1 : (1 : Int32).toInt = 1 := by decide
        omega) h6
      subst e
      have h1' : 1 ≤ j := (nI_leI (a := 1) (b := j) (by omega) (by omega)).mp h1
      exact br_t h6 (br_t h1 (br_t h6 (fz_init h1' hj)))
    · exact br_f h6 (br_t h1 (br_f h6 (fz_init (nv := 6) (by omega) (by omega))))
  · exact br_f h1 (br_f h1 (fz_init (nv := 1) (by omega) (by omega)))
section
variable {nv n gc ec dc : Nat} {tm : Nat → fz_T}
variable {fv fc fg fe fd ft pl aw az tc pt so sc : Int32} {ki fi se si ins cn rc rl rr gt gx gy gf ex ey dx dy bi go df tw tl st : Nat → Int32} {ps : Nat → Int64} {ws mg mr mt mp ma mz ch is sl re : Nat → Int32}
/-! isCell -/
theorem fz_isX1 {post : Int32 → Prop} {j : Nat} (hn : n ≤ 48) (hj : j < n) (H : post 1) : wpX_isCell post (fv, nI n, fg, fe, fd, ft, pl, aw, az, tc, pt, so, sc, ki, fi, se, si, ins, cn, rc, rl, rr, gt, gx, gy, gf, ex, ey, dx, dy, bi, go, df, tw, tl, st, ps, ws, mg, mr, mt, mp, ma, mz, ch, is, sl, re) (nI j) := br_f (nI_pos (by omega)) (br_f (nI_ge hj (by omega)) H)
theorem fz_isX0 {post : Int32 → Prop} {p : Int32} (h : p < 0 ∨ nI n ≤ p) (H : post 0) : wpX_isCell post (fv, nI n, fg, fe, fd, ft, pl, aw, az, tc, pt, so, sc, ki, fi, se, si, ins, cn, rc, rl, rr, gt, gx, gy, gf, ex, ey, dx, dy, bi, go, df, tw, tl, st, ps, ws, mg, mr, mt, mp, ma, mz, ch, is, sl, re) p := by
  by_cases q : p < 0
  · exact br_t q H
  · exact br_f q (br_t (h.elim (fun w => absurd w q) id) H)
end
section
variable {nv n gc ec dc : Nat} {tm : Nat → fz_T}
variable {yv yc yg ye yd yo yf : Int32} {sg yi yj yr yl yq yt yx yy yz y1 y2 y3 y4 yh yp yb tx fr sk : Nat → Int32}
theorem fz_isY1 {post : Int32 → Prop} {j : Nat} (hn : n ≤ 48) (hj : j < n) (H : post 1) : wpY_isCell post (yv, nI n, yg, ye, yd, yo, yf, sg, yi, yj, yr, yl, yq, yt, yx, yy, yz, y1, y2, y3, y4, yh, yp, yb, tx, fr, sk) (nI j) := br_f (nI_pos (by omega)) (br_f (nI_ge hj (by omega)) H)
theorem fz_isY0 {post : Int32 → Prop} {p : Int32} (h : p < 0 ∨ nI n ≤ p) (H : post 0) : wpY_isCell post (yv, nI n, yg, ye, yd, yo, yf, sg, yi, yj, yr, yl, yq, yt, yx, yy, yz, y1, y2, y3, y4, yh, yp, yb, tx, fr, sk) p := by
  by_cases q : p < 0
  · exact br_t q H
  · exact br_f q (br_t (h.elim (fun w => absurd w q) id) H)
theorem fz_make {post : Int32 → SY → Prop} {s a b : Int32} (hn : n < 48) (H : post (nI n) (yv, nI (n + 1), yg, ye, yd, yo, yf, upd sg n s, upd yi n a, upd yj n b, yr, yl, yq, yt, yx, yy, yz, y1, y2, y3, y4, yh, yp, yb, tx, fr, sk)) : wpY_make post (yv, nI n, yg, ye, yd, yo, yf, sg, yi, yj, yr, yl, yq, yt, yx, yy, yz, y1, y2, y3, y4, yh, yp, yb, tx, fr, sk) s a b := by
  have hin : vp_in (nI n) 48 := vp_in_nI hn (by omega)
  have c : (nI n).toNatClampNeg = n := nI_clamp (by omega)
  refine And.intro hin (nm_r (e' := upd sg n s) (by rw [c]) (And.intro hin (nm_r (e' := upd yi n a) (by rw [c]) (And.intro hin (nm_r (e' := upd yj n b) (by rw [c]) (nm_r (nI_1 n) ?_))))))
  rw [nI_pred]
  exact H
end
/-! what stays when a cell is added -/
theorem fz_q_tu {tm : Nat → fz_T} {n : Nat} {t : fz_T} {θ : Nat → fz_T} {p q : Int32} (hn : n ≤ 48) (hp : ∃ x, x < n ∧ p = nI x) (hq : ∃ x, x < n ∧ q = nI x) : fz_q (fz_tu tm n t) p q θ ↔ fz_q tm p q θ := by
  obtain ⟨x, hx, e1⟩ := hp
  obtain ⟨y, hy, e2⟩ := hq
  rw [e1, e2]
  unfold fz_q
  rw [nI_clamp (by omega), nI_clamp (by omega), fz_tu_n hx, fz_tu_n hy]
theorem fz_oc_tu {tm : Nat → fz_T} {n v : Nat} {t : fz_T} {p : Int32} (hn : n ≤ 48) (hp : ∃ x, x < n ∧ p = nI x) : fz_oc v (fz_tu tm n t p.toNatClampNeg) ↔ fz_oc v (tm p.toNatClampNeg) := by
  obtain ⟨x, hx, e1⟩ := hp
  rw [e1, nI_clamp (by omega), fz_tu_n hx]
theorem fz_col_tu {tm : Nat → fz_T} {n v i : Nat} {t : fz_T} {p q : Nat → Int32} (hn : n ≤ 48) (h : ∀ e, e < i → (∃ x, x < n ∧ p e = nI x) ∧ (∃ x, x < n ∧ q e = nI x)) : fz_col (fz_tu tm n t) p q i v ↔ fz_col tm p q i v := by
  constructor
  · rintro ⟨e, he, o⟩
    exact ⟨e, he, o.elim (fun o => Or.inl ((fz_oc_tu hn (h e he).1).mp o)) (fun o => Or.inr ((fz_oc_tu hn (h e he).2).mp o))⟩
  · rintro ⟨e, he, o⟩
    exact ⟨e, he, o.elim (fun o => Or.inl ((fz_oc_tu hn (h e he).1).mpr o)) (fun o => Or.inr ((fz_oc_tu hn (h e he).2).mpr o))⟩
theorem fz_grow {nv n gc ec dc : Nat} {tm : Nat → fz_T} {t : fz_T} {so sc yf : Int32} {ki fi se si ins cn rc rl rr gt gx gy gf ex ey dx dy sl sg yi yj yh ki' fi' se' si' ins' cn' sg' yi' yj' : Nat → Int32} (h : fz_FA nv n gc ec dc tm so sc yf ki fi se si ins cn rc rl rr gt gx gy gf ex ey dx dy sl sg yi yj yh) (hX : fz_CX (n + 1) nv ki' fi' se' ins' cn' (fz_tu tm n t)) (hZ : fz_CZ (n + 1) si' cn' (fz_tu tm n t)) (hY : fz_CY (n + 1) sg' yi' yj' (fz_tu tm n t)) : fz_FA nv (n + 1) gc ec dc (fz_tu tm n t) so sc yf ki' fi' se' si' ins' cn' rc rl rr gt gx gy gf ex ey dx dy sl sg' yi' yj' yh := by
  obtain ⟨f1, ⟨hC, h1, h2, h3, hG, hR, hE, hD, hF⟩, f3, f4, f5⟩ := h
  have hn := hC.1
  have cG : ∀ e, e < gc → (∃ x, x < n ∧ gx e = nI x) ∧ (∃ x, x < n ∧ gy e = nI x) := fun g hg => by
    obtain ⟨t, x, y, ht, hx, hy, et, ex1, ey1, _, _⟩ := hG g hg
    exact ⟨⟨x, hx, ex1⟩, ⟨y, hy, ey1⟩⟩
  have cE : ∀ e, e < ec → (∃ x, x < n ∧ ex e = nI x) ∧ (∃ x, x < n ∧ ey e = nI x) := fun g hg => by
    obtain ⟨x, y, hx, hy, ex1, ey1, _, _⟩ := hE g hg
    exact ⟨⟨x, hx, ex1⟩, ⟨y, hy, ey1⟩⟩
  have cD : ∀ e, e < dc → (∃ x, x < n ∧ dx e = nI x) ∧ (∃ x, x < n ∧ dy e = nI x) := fun g hg => by
    obtain ⟨x, y, hx, hy, ex1, ey1, _, _⟩ := hD g hg
    exact ⟨⟨x, hx, ex1⟩, ⟨y, hy, ey1⟩⟩
  refine ⟨f1, ⟨hX, h1, h2, h3, fun g hg => ?_, fun t' ht => ?_, fun e he => ?_, fun d hd => ?_, hF⟩, hZ, hY, ?_⟩
  · obtain ⟨t', x, y, ht, hx, hy, et, ex1, ey1, _, _⟩ := hG g hg
    exact ⟨t', x, y, ht, by omega, by omega, et, ex1, ey1, trivial, trivial⟩
  · obtain ⟨m, m1, m2, m3⟩ := hR t' ht
    refine ⟨m, m1, m2, fun r hr => ?_⟩
    obtain ⟨x, y, hx, hy, e1, e2, g1, g2⟩ := m3 r hr
    exact ⟨x, y, by omega, by omega, e1, e2, by rw [fz_tu_n hx]; exact g1, by rw [fz_tu_n hy]; exact g2⟩
  · obtain ⟨x, y, hx, hy, ex1, ey1, _, _⟩ := hE e he
    exact ⟨x, y, by omega, by omega, ex1, ey1, trivial, trivial⟩
  · obtain ⟨x, y, hx, hy, ex1, ey1, _, _⟩ := hD d hd
    exact ⟨x, y, by omega, by omega, ex1, ey1, trivial, trivial⟩
  · rcases f5 with q | ⟨q1, q2, K, k1, k2, k3, k4⟩
    · exact Or.inl q
    · refine Or.inr ⟨q1, fun hl => q2 ?_, K, k1, k2, k3, fun k hk => ?_⟩
      · obtain ⟨v, v1, v2, v3⟩ := hl
        refine ⟨v, v1, ?_, fun w => v3 ((fz_col_tu hn cG).mpr w)⟩
        rcases v2 with w | w | w
        · exact Or.inl w
        · exact Or.inr (Or.inl ((fz_col_tu hn cE).mp w))
        · exact Or.inr (Or.inr ((fz_col_tu hn cD).mp w))
      · obtain ⟨ρ, r1, ⟨θ, t1, t2, t3⟩, r3, r4⟩ := k4 k hk
        refine ⟨ρ, r1, ⟨θ, fun e he => (fz_q_tu hn (cE e he).1 (cE e he).2).mpr (t1 e he), fun g hg => ?_, fun d hd w => t3 d hd ((fz_q_tu hn (cD d hd).1 (cD d hd).2).mp w)⟩, r3, r4⟩
        obtain ⟨t', m, x, y, ht, hm6, hx, hy, et, ex1, ey1, _, _, em, ern, hrow⟩ := fz_HGR hG hR hg
        have hrg := r1 g hg
        obtain ⟨a, b, ha1, hb1, ea, eb, _, _⟩ := hrow (ρ g) (by omega)
        have w := t2 g hg
        unfold fz_mt at w ⊢
        rw [et, nI_clamp (by omega)] at w ⊢
        exact ⟨(fz_q_tu hn ⟨x, hx, ex1⟩ ⟨a, ha1, ea⟩).mpr w.1, (fz_q_tu hn ⟨y, hy, ey1⟩ ⟨b, hb1, eb⟩).mpr w.2⟩
theorem fz_CY_leaf {n : Nat} {tm : Nat → fz_T} {sg yi yj : Nat → Int32} (h : fz_CY n sg yi yj tm) (hn : n < 48) {s : Nat} (hs : (1 ≤ s ∧ s ≤ 16) ∨ (100 ≤ s ∧ s < 106)) {a b : Int32} : fz_CY (n + 1) (upd sg n (nI s)) (upd yi n a) (upd yj n b) (fz_tu tm n (.var s)) := by
  refine ⟨by omega, fun c hc => ?_⟩
  by_cases z : c = n
  · rw [z, fz_tu_s, fz_us]; exact Or.inl ⟨s, hs, rfl, rfl⟩
  · rw [fz_tu_n (by omega), fz_uo (by omega), fz_uo (by omega), fz_uo (by omega)]
    rcases h.2 c (by omega) with q | ⟨x, y, h1, h2, h3, h4, h5, h6⟩
    · exact Or.inl q
    · exact Or.inr ⟨x, y, h1, h2, h3, h4, h5, by rw [fz_tu_n (by omega), fz_tu_n (by omega)]; exact h6⟩
theorem fz_CY_op {n : Nat} {tm : Nat → fz_T} {sg yi yj : Nat → Int32} (h : fz_CY n sg yi yj tm) (hn : n < 48) {a b : Nat} (ha : a < n) (hb : b < n) : fz_CY (n + 1) (upd sg n 17) (upd yi n (nI a)) (upd yj n (nI b)) (fz_tu tm n (.op (tm a) (tm b))) := by
  refine ⟨by omega, fun c hc => ?_⟩
  by_cases z : c = n
  · rw [z, fz_tu_s, fz_us, fz_us, fz_us]; exact Or.inr ⟨a, b, ha, hb, rfl, rfl, rfl, by rw [fz_tu_n ha, fz_tu_n hb]⟩
  · rw [fz_tu_n (by omega), fz_uo (by omega), fz_uo (by omega), fz_uo (by omega)]
    rcases h.2 c (by omega) with q | ⟨x, y, h1, h2, h3, h4, h5, h6⟩
    · exact Or.inl q
    · exact Or.inr ⟨x, y, h1, h2, h3, h4, h5, by rw [fz_tu_n (by omega), fz_tu_n (by omega)]; exact h6⟩
end
section
/-! atom, variable, pair -/
theorem fz_n48 {n : Nat} (h : n < 48) : ¬ nI n = 48 := fun q => by
  have := (nI_eq (a := n) (b := 48) (by omega) (by omega)).mp q
  omega
theorem i_vc_atom {k : Nat} {u : SX} {v : SY} (I : i_Rel k u v) (hk : k + 5 ≤ 2561) (v1 : Int32) : wpX_atom (fun r u' => wpY_atom (fun r' v' => r' = r ∧ i_Rel (k + 5) u' v') v v1) u v1 := by
  refine fz_el (P := fun u v => wpX_atom (fun r u' => wpY_atom (fun r' v' => r' = r ∧ i_Rel (k + 5) u' v') v v1) u v1) ?_ I
  intro nv n gc ec dc tm ft pl aw az tc pt so sc ki fi se si ins cn rc rl rr gt gx gy gf ex ey dx dy bi go df tw tl st ps ws mg mr mt mp ma mz ch is sl re yf sg yi yj yh yp yb tx fr sk hF
  have hF' := hF
  obtain ⟨f1, ⟨hC, h1, h2, h3, hG, hR, hE, hD, hFr⟩, hZ, hY, hSV⟩ := hF'
  have hn := hC.1
  by_cases h48 : n < 48
  · refine br_t (nI_lt (b := 48) h48 (by decide)) ?_
    by_cases h0 : v1 < 0
    · exact br_t h0 (br_f (fz_n48 h48) (br_t h0 ⟨rfl, fz_mk hF⟩))
    · refine br_f h0 ?_
      by_cases h15 : v1 ≤ 15
      · obtain ⟨j, hj, e⟩ := nI_of2 (x := v1) (M := 15) (n := 15) (by decide) h0 h15
        subst e
        refine br_t h15 ?_
        refine fz_newcell (kd := 0) (a := j) (b := 0) (s := 1) (m := 0) (t := .var (j + 1)) hC hZ h48 (by omega) (by omega) (by omega) (by omega) rfl (by omega) (Or.inl ⟨rfl, hj, rfl⟩) (fun i => ?_) ?_
        · constructor
          · intro q
            have q' : bt 0 i = true := q
            rw [b_0] at q'; exact Bool.noConfusion q'
          · intro q
            have q' : j + 1 = 100 + i := q
            omega
        · intro cn' c1 c2
          refine br_f (fz_n48 h48) (br_f h0 (br_t h15 ?_))
          rw [nI_1 j]
          refine fz_make h48 ⟨rfl, ?_⟩
          exact fz_mk (fz_grow hF c1 c2 (fz_CY_leaf hY h48 (Or.inl ⟨by omega, by omega⟩)))
      · exact br_f h15 (br_f (fz_n48 h48) (br_f h0 (br_f h15 ⟨rfl, fz_mk hF⟩)))
  · have e : n = 48 := by omega
    subst e
    exact br_f (by decide) (br_t rfl ⟨rfl, fz_mk hF⟩)
theorem i_vc_variable {k : Nat} {u : SX} {v : SY} (I : i_Rel k u v) (hk : k + 5 ≤ 2561) (v1 : Int32) : wpX_variable (fun r u' => wpY_variable (fun r' v' => r' = r ∧ i_Rel (k + 5) u' v') v v1) u v1 := by
  refine fz_el (P := fun u v => wpX_variable (fun r u' => wpY_variable (fun r' v' => r' = r ∧ i_Rel (k + 5) u' v') v v1) u v1) ?_ I
  intro nv n gc ec dc tm ft pl aw az tc pt so sc ki fi se si ins cn rc rl rr gt gx gy gf ex ey dx dy bi go df tw tl st ps ws mg mr mt mp ma mz ch is sl re yf sg yi yj yh yp yb tx fr sk hF
  have hF' := hF
  obtain ⟨f1, ⟨hC, h1, h2, h3, hG, hR, hE, hD, hFr⟩, hZ, hY, hSV⟩ := hF'
  have hn := hC.1
  have hnv := hC.2.1
  by_cases h48 : n < 48
  · refine br_t (nI_lt (b := 48) h48 (by decide)) ?_
    by_cases h0 : v1 < 0
    · exact br_t h0 (br_f (fz_n48 h48) (br_t h0 ⟨rfl, fz_mk hF⟩))
    · refine br_f h0 ?_
      obtain ⟨j, hj, e⟩ := nI_of (x := v1) h0
      subst e
      by_cases hv : j < nv
      · have hlt : nI j < nI nv := nI_lt hv (by omega)
        have hbits : ∀ i, bt ((1 : Int32) <<< (nI j &&& 31)) i = true ↔ i = j := fun i => by rw [fz_one (by omega), decide_eq_true_iff]
        obtain ⟨m, hm, em⟩ := fz_small (x := (1 : Int32) <<< (nI j &&& 31)) (fun i q => by have := (hbits i).mp q; omega)
        refine br_t hlt ?_
        rw [em]
        refine fz_newcell (kd := 1) (a := j) (b := 0) (s := 1) (m := m) (t := .var (100 + j)) hC hZ h48 (by omega) (by omega) (by omega) hm rfl (by omega) (Or.inr (Or.inl ⟨rfl, hv, rfl⟩)) (fun i => ?_) ?_
        · rw [← em, hbits i]
          constructor
          · intro q; show 100 + j = 100 + i; omega
          · intro q
            have q' : 100 + j = 100 + i := q
            omega
        · intro cn' c1 c2
          refine br_f (fz_n48 h48) (br_f h0 (br_t hlt ?_))
          rw [show (100 : Int32) + nI j = nI (100 + j) from nI_add 100 j]
          refine fz_make h48 ⟨rfl, ?_⟩
          exact fz_mk (fz_grow hF c1 c2 (fz_CY_leaf hY h48 (Or.inr ⟨by omega, by omega⟩)))
      · have hlt : ¬ nI j < nI nv := nI_nlt (by omega) (by omega)
        exact br_f hlt (br_f (fz_n48 h48) (br_f h0 (br_f hlt ⟨rfl, fz_mk hF⟩)))
  · have e : n = 48 := by omega
    subst e
    exact br_f (by decide) (br_t rfl ⟨rfl, fz_mk hF⟩)
theorem i_vc_pair {k : Nat} {u : SX} {v : SY} (I : i_Rel k u v) (hk : k + 5 ≤ 2561) (v1 : Int32) (v2 : Int32) : wpX_pair (fun r u' => wpY_pair (fun r' v' => r' = r ∧ i_Rel (k + 5) u' v') v v1 v2) u v1 v2 := by
  refine fz_el (P := fun u v => wpX_pair (fun r u' => wpY_pair (fun r' v' => r' = r ∧ i_Rel (k + 5) u' v') v v1 v2) u v1 v2) ?_ I
  intro nv n gc ec dc tm ft pl aw az tc pt so sc ki fi se si ins cn rc rl rr gt gx gy gf ex ey dx dy bi go df tw tl st ps ws mg mr mt mp ma mz ch is sl re yf sg yi yj yh yp yb tx fr sk hF
  have hF' := hF
  obtain ⟨f1, ⟨hC, h1, h2, h3, hG, hR, hE, hD, hFr⟩, hZ, hY, hSV⟩ := hF'
  have hn := hC.1
  have hnv := hC.2.1
  by_cases h48 : n < 48
  · refine br_t (nI_lt (b := 48) h48 (by decide)) ?_
    have bad1 : (v1 < 0 ∨ nI n ≤ v1) ∨ ∃ a, a < n ∧ v1 = nI a := by
      rcases pk_ix v1 (n := n) (by omega) with q | q | q
      · exact Or.inl (Or.inl q)
      · exact Or.inl (Or.inr q)
      · exact Or.inr q
    have bad2 : (v2 < 0 ∨ nI n ≤ v2) ∨ ∃ a, a < n ∧ v2 = nI a := by
      rcases pk_ix v2 (n := n) (by omega) with q | q | q
      · exact Or.inl (Or.inl q)
      · exact Or.inl (Or.inr q)
      · exact Or.inr q
    rcases bad1 with q1 | ⟨a, ha, e1⟩
    · refine fz_isX0 q1 (br_t rfl ?_)
      refine br_f (fz_n48 h48) ?_
      exact fz_isY0 q1 (br_t rfl ⟨rfl, fz_mk hF⟩)
    · subst e1
      refine fz_isX1 hn ha (br_f (by decide) ?_)
      rcases bad2 with q2 | ⟨b, hb, e2⟩
      · refine fz_isX0 q2 (br_t rfl ?_)
        refine br_f (fz_n48 h48) ?_
        refine fz_isY1 hn ha (br_f (by decide) ?_)
        exact fz_isY0 q2 (br_t rfl ⟨rfl, fz_mk hF⟩)
      · subst e2
        refine fz_isX1 hn hb (br_f (by decide) ?_)
        have ia : vp_in (nI a) 48 := vp_in_nI (by omega) (by omega)
        have ib : vp_in (nI b) 48 := vp_in_nI (by omega) (by omega)
        have ca : (nI a).toNatClampNeg = a := nI_clamp (by omega)
        have cb : (nI b).toNatClampNeg = b := nI_clamp (by omega)
        obtain ⟨za1, za2, _⟩ := hZ a ha
        obtain ⟨zb1, zb2, _⟩ := hZ b hb
        have hbits : ∀ i, bt (ins a ||| ins b) i = true ↔ (fz_oc i (tm a) ∨ fz_oc i (tm b)) := fun i => by
          rw [b_or, Bool.or_eq_true, hC.2.2.2.1 a ha i, hC.2.2.2.1 b hb i]
        obtain ⟨m, hm, em⟩ := fz_small (x := ins a ||| ins b) (fun i q => ((hbits i).mp q).elim (fz_CX_oc hC ha) (fz_CX_oc hC hb))
        have hY13 : ∀ c, c < n → fz_sz (tm c) ≤ 13 := fun c hc => (hZ c hc).2.1
        have e13 : (1 : Int32) + nI (fz_sz (tm a)) + nI (fz_sz (tm b)) = nI (1 + fz_sz (tm a) + fz_sz (tm b)) := by
          rw [show (1 : Int32) + nI (fz_sz (tm a)) = nI (1 + fz_sz (tm a)) from nI_add 1 _, nI_add]
        refine And.intro ia (And.intro ib (nm_r (e' := nI (1 + fz_sz (tm a) + fz_sz (tm b))) (by rw [ca, cb, za1, zb1]; exact e13) ?_))
        rw [ca, cb, em]
        by_cases h13 : 1 + fz_sz (tm a) + fz_sz (tm b) ≤ 13
        · refine br_t (nI_le (b := 13) h13 (by decide)) (And.intro ia (And.intro ib ?_))
          refine fz_newcell (kd := 2) (a := a) (b := b) (s := 1 + fz_sz (tm a) + fz_sz (tm b)) (m := m) (t := .op (tm a) (tm b)) hC hZ h48 (by omega) (by omega) (by omega) hm rfl h13 (Or.inr (Or.inr ⟨rfl, ha, hb, rfl⟩)) (fun i => by rw [← em]; exact hbits i) ?_
          intro cn' c1 c2
          refine br_f (fz_n48 h48) ?_
          refine fz_isY1 hn ha (br_f (by decide) ?_)
          refine fz_isY1 hn hb (br_f (by decide) ?_)
          refine fz_write0 (base := 0) hY (by omega) ha za2 ?_
          intro tx1 fr1 sk1 _ _
          refine fz_write0 (base := 0) hY (by omega) hb zb2 ?_
          intro tx2 fr2 sk2 _ _
          rw [e13]
          refine br_t (nI_le (b := 13) h13 (by decide)) ?_
          refine fz_make h48 ⟨rfl, ?_⟩
          exact fz_mk (fz_grow hF c1 c2 (fz_CY_op hY h48 ha hb))
        · refine br_f (nI_ge (a := 13) (by omega) (by omega)) ?_
          refine br_f (fz_n48 h48) ?_
          refine fz_isY1 hn ha (br_f (by decide) ?_)
          refine fz_isY1 hn hb (br_f (by decide) ?_)
          refine fz_write0 (base := 0) hY (by omega) ha za2 ?_
          intro tx1 fr1 sk1 _ _
          refine fz_write0 (base := 0) hY (by omega) hb zb2 ?_
          intro tx2 fr2 sk2 _ _
          rw [e13]
          exact br_f (nI_ge (a := 13) (by omega) (by omega)) ⟨rfl, fz_mk hF⟩
  · have e : n = 48 := by omega
    subst e
    exact br_f (by decide) (br_t rfl ⟨rfl, fz_mk hF⟩)
end
section
/-! rows and the query -/
theorem fz_ixn (x : Int32) {n : Nat} (hn : n ≤ 48) : (x < 0 ∨ nI n ≤ x) ∨ ∃ a, a < n ∧ x = nI a := by
  rcases pk_ix x (n := n) (by omega) with q | q | q
  · exact Or.inl (Or.inl q)
  · exact Or.inl (Or.inr q)
  · exact Or.inr q
def fz_dup (tm : Nat → fz_T) (rl rr : Nat → Int32) (t m a b : Nat) : Prop := ∃ r, r < m ∧ tm (rl (6 * t + r)).toNatClampNeg = tm a ∧ tm (rr (6 * t + r)).toNatClampNeg = tm b
section
variable {nv n gc ec dc : Nat} {tm : Nat → fz_T}
variable {fv fc fg fe fd ft pl aw az tc pt so sc : Int32} {ki fi se si ins cn rc rl rr gt gx gy gf ex ey dx dy bi go df tw tl st : Nat → Int32} {ps : Nat → Int64} {ws mg mr mt mp ma mz ch is sl re : Nat → Int32}
theorem fz_xrow {post : Int32 → SX → Prop} (hC : fz_CX n nv ki fi se ins cn tm) {t m a b : Nat} (ht : t < 4) (hm : m < 6) (hrow : ∀ r, r < m → ∃ x y, x < n ∧ y < n ∧ rl (6 * t + r) = nI x ∧ rr (6 * t + r) = nI y ∧ fz_gd (tm x) ∧ fz_gd (tm y)) (ha : a < n) (hb : b < n)
    (H1 : fz_dup tm rl rr t m a b → post (-1) (fv, fc, fg, fe, fd, ft, pl, aw, az, tc, pt, so, sc, ki, fi, se, si, ins, cn, rc, rl, rr, gt, gx, gy, gf, ex, ey, dx, dy, bi, go, df, tw, tl, st, ps, ws, mg, mr, mt, mp, ma, mz, ch, is, sl, re)) (H0 : ¬ fz_dup tm rl rr t m a b → post (nI m) (fv, fc, fg, fe, fd, ft, pl, aw, az, tc, pt, 0, sc, ki, fi, se, si, ins, cn, upd rc t (nI (m + 1)), upd rl (6 * t + m) (nI a), upd rr (6 * t + m) (nI b), gt, gx, gy, gf, ex, ey, dx, dy, bi, go, df, tw, tl, st, ps, ws, mg, mr, mt, mp, ma, mz, ch, is, sl, re)) :
    ∀ j i, i + j = m → (∀ r, r < i → ¬ (tm (rl (6 * t + r)).toNatClampNeg = tm a ∧ tm (rr (6 * t + r)).toNatClampNeg = tm b)) → wX_addRow_70 post (nI t) (nI a) (nI b) (nI m) fv fc fg fe fd ft pl aw az tc pt so sc ki fi se si ins cn rc rl rr gt gx gy gf ex ey dx dy bi go df tw tl st ps ws mg mr mt mp ma mz ch is sl re (j + 1) (nI i) := by
  have hn := hC.1
  have e6 : ∀ r, (6 : Int32) * nI t + nI r = nI (6 * t + r) := fun r => by
    rw [show (6 : Int32) * nI t = nI (6 * t) from pk_mul 6 t, nI_add]
  have ca : (nI a).toNatClampNeg = a := nI_clamp (by omega)
  have cb : (nI b).toNatClampNeg = b := nI_clamp (by omega)
  intro j
  induction j with
  | zero =>
    intro i hij hd
    have e : i = m := by omega
    subst e
    have h24 : vp_in (nI (6 * t + i)) 24 := vp_in_nI (by omega) (by omega)
    refine br_t (nI_le (by omega) (by omega)) ?_
    rw [e6, nI_clamp (n := 6 * t + i) (by omega)]
    refine And.intro h24 (nm_r (e' := upd rl (6 * t + i) (nI a)) (by rw [fz_byte (by omega)]) (And.intro h24 (nm_r (e' := upd rr (6 * t + i) (nI b)) (by rw [fz_byte (by omega)]) (And.intro (vp_in_nI (by omega) (by omega)) (nm_r (e' := upd rc t (nI (i + 1))) (by rw [nI_clamp (by omega), nI_1]) ?_)))))
    exact H0 (fun ⟨r, hr, q⟩ => hd r hr q)
  | succ j ih =>
    intro i hij hd
    obtain ⟨x, y, hx, hy, ex1, ey1, _, _⟩ := hrow i (by omega)
    have h24 : vp_in (nI (6 * t + i)) 24 := vp_in_nI (by omega) (by omega)
    refine br_f (nI_ge (by omega) (by omega)) (nm_r (e6 i) ?_)
    rw [nI_clamp (n := 6 * t + i) (by omega), ex1, ey1]
    refine And.intro h24 (And.intro (vp_in_nI (by omega) (by omega)) (And.intro (vp_in_nI (by omega) (by omega)) ?_))
    rw [nI_clamp (n := x) (by omega), nI_clamp (n := y) (by omega), ca, cb]
    have nx : ¬ (tm x = tm a ∧ tm y = tm b) → ∀ r, r < i + 1 → ¬ (tm (rl (6 * t + r)).toNatClampNeg = tm a ∧ tm (rr (6 * t + r)).toNatClampNeg = tm b) := fun h r hr => by
      by_cases z : r = i
      · rw [z, ex1, ey1, nI_clamp (by omega), nI_clamp (by omega)]; exact h
      · exact hd r (by omega)
    by_cases z1 : tm x = tm a
    · refine br_t ((hC.2.2.2.2 x a hx ha).mpr z1) (And.intro h24 (And.intro (vp_in_nI (by omega) (by omega)) (And.intro (vp_in_nI (by omega) (by omega)) ?_)))
      by_cases z2 : tm y = tm b
      · refine br_t ((hC.2.2.2.2 y b hy hb).mpr z2) (H1 ⟨i, by omega, ?_⟩)
        rw [ex1, ey1, nI_clamp (by omega), nI_clamp (by omega)]; exact ⟨z1, z2⟩
      · exact br_f (fun q => z2 ((hC.2.2.2.2 y b hy hb).mp q)) (nm_r (nI_1 i) (ih (i + 1) (by omega) (nx (fun q => z2 q.2))))
    · exact br_f (fun q => z1 ((hC.2.2.2.2 x a hx ha).mp q)) (nm_r (nI_1 i) (ih (i + 1) (by omega) (nx (fun q => z1 q.1))))
end
section
variable {nv n gc ec dc : Nat} {tm : Nat → fz_T}
variable {yv yc yg ye yd yo yf : Int32} {sg yi yj yr yl yq yt yx yy yz y1 y2 y3 y4 yh yp yb tx fr sk : Nat → Int32}
theorem fz_yrow {post : Int32 → SY → Prop} (hY : fz_CY n sg yi yj tm) (hz : ∀ c, c < n → fz_sz (tm c) ≤ 13) (hby : fz_by n tm yb) {t m a b : Nat} (ht : t < 4) (hm : m < 6) (em : yr t = nI m) (hrow : ∀ r, r < m → ∃ x y, x < n ∧ y < n ∧ yl (6 * t + r) = nI x ∧ yq (6 * t + r) = nI y ∧ fz_gd (tm x) ∧ fz_gd (tm y)) (ha : a < n) (hb : b < n) (ga : fz_gd (tm a)) (gb : fz_gd (tm b))
    (H1 : fz_dup tm yl yq t m a b → ∀ tx fr sk : Nat → Int32, post (-1) (yv, yc, yg, ye, yd, yo, yf, sg, yi, yj, yr, yl, yq, yt, yx, yy, yz, y1, y2, y3, y4, yh, yp, yb, tx, fr, sk)) (H0 : ¬ fz_dup tm yl yq t m a b → ∀ tx fr sk : Nat → Int32, post (nI m) (yv, yc, yg, ye, yd, 0, yf, sg, yi, yj, upd yr t (nI (m + 1)), upd yl (6 * t + m) (nI a), upd yq (6 * t + m) (nI b), yt, yx, yy, yz, y1, y2, y3, y4, yh, yp, yb, tx, fr, sk)) :
    ∀ (j i : Nat) (tx fr sk : Nat → Int32), i + j = m → (∀ r, r < i → ¬ (tm (yl (6 * t + r)).toNatClampNeg = tm a ∧ tm (yq (6 * t + r)).toNatClampNeg = tm b)) → wY_addRow_66 post (nI t) (nI a) (nI b) (j + 1) (nI i) yv yc yg ye yd yo yf sg yi yj yr yl yq yt yx yy yz y1 y2 y3 y4 yh yp yb tx fr sk := by
  have hn := hY.1
  have e6 : ∀ r, (6 : Int32) * nI t + nI r = nI (6 * t + r) := fun r => by
    rw [show (6 : Int32) * nI t = nI (6 * t) from pk_mul 6 t, nI_add]
  have it : vp_in (nI t) 4 := vp_in_nI (by omega) (by omega)
  have ct : (nI t).toNatClampNeg = t := nI_clamp (by omega)
  intro j
  induction j with
  | zero =>
    intro i tx fr sk hij hd
    have e : i = m := by omega
    subst e
    have h24 : vp_in (nI (6 * t + i)) 24 := vp_in_nI (by omega) (by omega)
    refine And.intro it ?_
    rw [ct, em, e6, nI_clamp (n := 6 * t + i) (by omega), nI_1]
    refine br_t (nI_le (by omega) (by omega)) (And.intro it (And.intro h24 (nm_e (And.intro it (And.intro h24 (nm_e (And.intro it (And.intro it (nm_e (And.intro it ?_))))))))))
    rw [fz_us, nI_pred]
    exact H0 (fun ⟨r, hr, q⟩ => hd r hr q) tx fr sk
  | succ j ih =>
    intro i tx fr sk hij hd
    obtain ⟨x, y, hx, hy, ex1, ey1, gx1, gy1⟩ := hrow i (by omega)
    have h24 : vp_in (nI (6 * t + i)) 24 := vp_in_nI (by omega) (by omega)
    refine And.intro it ?_
    rw [ct, em]
    refine br_f (nI_ge (by omega) (by omega)) ?_
    rw [e6, nI_clamp (n := 6 * t + i) (by omega), ex1]
    refine And.intro h24 ?_
    have nx : ¬ (tm x = tm a ∧ tm y = tm b) → ∀ r, r < i + 1 → ¬ (tm (yl (6 * t + r)).toNatClampNeg = tm a ∧ tm (yq (6 * t + r)).toNatClampNeg = tm b) := fun h r hr => by
      by_cases z : r = i
      · rw [z, ex1, ey1, nI_clamp (by omega), nI_clamp (by omega)]; exact h
      · exact hd r (by omega)
    refine fz_ysame hY hz hby hx ha (fun q tx1 fr1 sk1 => ?_) (fun q tx1 fr1 sk1 => ?_)
    · rw [fz_sb_gd _ _ gx1, fz_sb_gd _ _ ga] at q
      refine br_f (by decide) (And.intro h24 ?_)
      rw [ey1]
      refine fz_ysame hY hz hby hy hb (fun q2 tx2 fr2 sk2 => ?_) (fun q2 tx2 fr2 sk2 => ?_)
      · rw [fz_sb_gd _ _ gy1, fz_sb_gd _ _ gb] at q2
        refine br_f (by decide) (H1 ⟨i, by omega, ?_⟩ tx2 fr2 sk2)
        rw [ex1, ey1, nI_clamp (by omega), nI_clamp (by omega)]; exact ⟨q, q2⟩
      · rw [fz_sb_gd _ _ gy1, fz_sb_gd _ _ gb] at q2
        exact br_t rfl (nm_r (nI_1 i) (ih (i + 1) tx2 fr2 sk2 (by omega) (nx (fun w => q2 w.2))))
    · rw [fz_sb_gd _ _ gx1, fz_sb_gd _ _ ga] at q
      exact br_t rfl (nm_r (nI_1 i) (ih (i + 1) tx1 fr1 sk1 (by omega) (nx (fun w => q w.1))))
end
theorem fz_gd_ins {n nv : Nat} {ki fi se ins cn : Nat → Int32} {tm : Nat → fz_T} (hC : fz_CX n nv ki fi se ins cn tm) {c : Nat} (hc : c < n) : ins c = 0 ↔ fz_gd (tm c) := by
  constructor
  · intro h v q
    have := (hC.2.2.2.1 c hc v).mpr q
    rw [h, b_0] at this
    exact Bool.noConfusion this
  · intro h
    refine b_ext (fun i _ => ?_)
    rw [b_0]
    cases q : bt (ins c) i
    · rfl
    · exact absurd ((hC.2.2.2.1 c hc i).mp q) (h i)
theorem i_vc_addRow {k : Nat} {u : SX} {v : SY} (I : i_Rel k u v) (hk : k + 5 ≤ 2561) (v1 : Int32) (v2 : Int32) (v3 : Int32) : wpX_addRow (fun r u' => wpY_addRow (fun r' v' => r' = r ∧ i_Rel (k + 5) u' v') v v1 v2 v3) u v1 v2 v3 := by
  refine fz_el (P := fun u v => wpX_addRow (fun r u' => wpY_addRow (fun r' v' => r' = r ∧ i_Rel (k + 5) u' v') v v1 v2 v3) u v1 v2 v3) ?_ I
  intro nv n gc ec dc tm ft pl aw az tc pt so sc ki fi se si ins cn rc rl rr gt gx gy gf ex ey dx dy bi go df tw tl st ps ws mg mr mt mp ma mz ch is sl re yf sg yi yj yh yp yb tx fr sk hF
  have hF' := hF
  obtain ⟨f1, ⟨hC, h1, h2, h3, hG, hR, hE, hD, hFr⟩, hZ, hY, hSV⟩ := hF'
  have hn := hC.1
  have hz : ∀ c, c < n → fz_sz (tm c) ≤ 13 := fun c hc => (hZ c hc).2.1
  by_cases t0 : v1 < 0
  · exact br_t t0 (br_t t0 ⟨rfl, fz_mk hF⟩)
  · refine br_f t0 ?_
    by_cases t3 : v1 ≤ 3
    · have t3' : ¬ 3 < v1 := fun q => by
        have q1 := Int32.lt_iff_toInt_lt.mp q
        have q2 := Int32.le_iff_toInt_le.mp t3
        omega
      obtain ⟨t, ht, et⟩ := nI_of2 (x := v1) (M := 3) (n := 3) (by decide) t0 t3
      subst et
      refine br_t t3 ?_
      rcases fz_ixn v2 hn with q1 | ⟨a, ha, e1⟩
      · exact fz_isX0 q1 (br_t rfl (br_f t0 (br_f t3' (fz_isY0 q1 (br_t rfl ⟨rfl, fz_mk hF⟩)))))
      · subst e1
        refine fz_isX1 hn ha (br_f (by decide) ?_)
        rcases fz_ixn v3 hn with q2 | ⟨b, hb, e2⟩
        · exact fz_isX0 q2 (br_t rfl (br_f t0 (br_f t3' (fz_isY1 hn ha (br_f (by decide) (fz_isY0 q2 (br_t rfl ⟨rfl, fz_mk hF⟩)))))))
        · subst e2
          refine fz_isX1 hn hb (br_f (by decide) ?_)
          have ca : (nI a).toNatClampNeg = a := nI_clamp (by omega)
          have cb : (nI b).toNatClampNeg = b := nI_clamp (by omega)
          have ct : (nI t).toNatClampNeg = t := nI_clamp (by omega)
          have it : vp_in (nI t) 4 := vp_in_nI (by omega) (by omega)
          obtain ⟨m, hm, em, hrow⟩ := hR t (by omega)
          refine And.intro (vp_in_nI (by omega) (by omega)) ?_
          rw [ca, cb, ct]
          by_cases ga : ins a = 0
          · have gA := (fz_gd_ins hC ha).mp ga
            refine br_t ga (And.intro (vp_in_nI (by omega) (by omega)) ?_)
            by_cases gb : ins b = 0
            · have gB := (fz_gd_ins hC hb).mp gb
              refine br_t gb (And.intro it (nm_r (e' := nI m) em ?_))
              by_cases h6 : m < 6
              · refine br_t (nI_lt (b := 6) h6 (by decide)) ⟨m + 1, ?_⟩
                have ypre : ∀ Q : Int32 → SY → Prop, (∀ yb tx fr sk : Nat → Int32, (∀ v, v < 6 → yb v = -1) → ∃ n66, wY_addRow_66 Q (nI t) (nI a) (nI b) n66 0 (nI nv) (nI n) (nI gc) (nI ec) (nI dc) so yf sg yi yj rc rl rr gt gx gy gf ex ey dx dy yh yp yb tx fr sk) → wpY_addRow Q (nI nv, nI n, nI gc, nI ec, nI dc, so, yf, sg, yi, yj, rc, rl, rr, gt, gx, gy, gf, ex, ey, dx, dy, yh, yp, yb, tx, fr, sk) (nI t) (nI a) (nI b) := by
                  intro Q HQ
                  refine br_f t0 (br_f t3' (fz_isY1 hn ha (br_f (by decide) (fz_isY1 hn hb (br_f (by decide) ?_)))))
                  refine fz_yground hY hz ha (fun _ tx1 fr1 sk1 => br_f (by decide) ?_) (fun q => absurd gA q)
                  refine fz_yground hY hz hb (fun _ tx2 fr2 sk2 => br_f (by decide) (And.intro it ?_)) (fun q => absurd gB q)
                  rw [ct, em]
                  refine br_f (fun q => by have := (nI_eq (a := m) (b := 6) (by omega) (by omega)).mp q; omega) ?_
                  refine fz_unb ?_
                  intro yb' hb'
                  exact HQ yb' tx2 fr2 sk2 hb'
                refine fz_xrow hC (by omega) h6 hrow ha hb (fun hd => ?_) (fun hd => ?_) m 0 (by omega) (fun r hr => by omega)
                · refine ypre _ (fun yb' tx' fr' sk' hb' => ⟨m + 1, ?_⟩)
                  exact fz_yrow hY hz (fun v hv => Or.inl (hb' v hv)) (by omega) h6 em hrow ha hb gA gB (fun _ tx'' fr'' sk'' => ⟨rfl, fz_mk hF⟩) (fun q => absurd hd q) m 0 tx' fr' sk' (by omega) (fun r hr => by omega)
                · refine ypre _ (fun yb' tx' fr' sk' hb' => ⟨m + 1, ?_⟩)
                  refine fz_yrow hY hz (fun v hv => Or.inl (hb' v hv)) (by omega) h6 em hrow ha hb gA gB (fun q => absurd q hd) (fun _ tx'' fr'' sk'' => ⟨rfl, ?_⟩) m 0 tx' fr' sk' (by omega) (fun r hr => by omega)
                  refine fz_mk (tm := tm) ⟨f1, ⟨hC, h1, h2, h3, hG, fun t' ht' => ?_, hE, hD, hFr⟩, hZ, hY, Or.inl rfl⟩
                  by_cases z : t' = t
                  · subst z
                    refine ⟨m + 1, by omega, fz_us, fun r hr => ?_⟩
                    by_cases zr : r = m
                    · subst zr
                      exact ⟨a, b, ha, hb, fz_us, fz_us, gA, gB⟩
                    · obtain ⟨x, y, hx, hy, ex1, ey1, gx1, gy1⟩ := hrow r (by omega)
                      exact ⟨x, y, hx, hy, (if_neg (by omega)).trans ex1, (if_neg (by omega)).trans ey1, gx1, gy1⟩
                  · obtain ⟨m', k1, k2, k3⟩ := hR t' ht'
                    refine ⟨m', k1, (if_neg z).trans k2, fun r hr => ?_⟩
                    obtain ⟨x, y, hx, hy, ex1, ey1, gx1, gy1⟩ := k3 r hr
                    exact ⟨x, y, hx, hy, (if_neg (by omega)).trans ex1, (if_neg (by omega)).trans ey1, gx1, gy1⟩
              · have e6 : m = 6 := by omega
                subst e6
                refine br_f (by decide) ?_
                refine br_f t0 (br_f t3' (fz_isY1 hn ha (br_f (by decide) (fz_isY1 hn hb (br_f (by decide) ?_)))))
                refine fz_yground hY hz ha (fun _ tx1 fr1 sk1 => br_f (by decide) ?_) (fun q => absurd gA q)
                refine fz_yground hY hz hb (fun _ tx2 fr2 sk2 => br_f (by decide) (And.intro it ?_)) (fun q => absurd gB q)
                rw [ct, em]
                exact br_t rfl ⟨rfl, fz_mk hF⟩
            · refine br_f gb (br_f t0 (br_f t3' (fz_isY1 hn ha (br_f (by decide) (fz_isY1 hn hb (br_f (by decide) ?_))))))
              refine fz_yground hY hz ha (fun _ tx1 fr1 sk1 => br_f (by decide) ?_) (fun q => absurd gA q)
              exact fz_yground hY hz hb (fun q => absurd ((fz_gd_ins hC hb).mpr q) gb) (fun _ tx2 fr2 sk2 => br_t rfl ⟨rfl, fz_mk hF⟩)
          · refine br_f ga (br_f t0 (br_f t3' (fz_isY1 hn ha (br_f (by decide) (fz_isY1 hn hb (br_f (by decide) ?_))))))
            exact fz_yground hY hz ha (fun q => absurd ((fz_gd_ins hC ha).mpr q) ga) (fun _ tx2 fr2 sk2 => br_t rfl ⟨rfl, fz_mk hF⟩)
    · have t3' : 3 < v1 := by
        apply Int32.lt_iff_toInt_lt.mpr
        have q2 : ¬ v1.toInt ≤ (3 : Int32).toInt := fun w => t3 (Int32.le_iff_toInt_le.mpr w)
        omega
      exact br_f t3 (br_f t0 (br_t t3' ⟨rfl, fz_mk hF⟩))
/-! goal, freeze -/
theorem fz_goalF {nv n gc ec dc : Nat} {tm : Nat → fz_T} {so sc yf : Int32} {ki fi se si ins cn rc rl rr gt gx gy gf ex ey dx dy sl sg yi yj yh : Nat → Int32} (h : fz_FA nv n gc ec dc tm so sc yf ki fi se si ins cn rc rl rr gt gx gy gf ex ey dx dy sl sg yi yj yh) (hg : gc < 4) {t a b : Nat} {w : Int32} (ht : t < 4) (ha : a < n) (hb : b < n) (hw : w = -1 ∨ ∃ v, v < nv ∧ w = nI v) : fz_FA nv n (gc + 1) ec dc tm 0 sc yf ki fi se si ins cn rc rl rr (upd gt gc (nI t)) (upd gx gc (nI a)) (upd gy gc (nI b)) (upd gf gc w) ex ey dx dy sl sg yi yj yh := by
  obtain ⟨f1, ⟨hC, h1, h2, h3, hG, hR, hE, hD, hFr⟩, hZ, hY, hSV⟩ := h
  refine ⟨f1, ⟨hC, by omega, h2, h3, fun g hg' => ?_, hR, hE, hD, fun g hg' => ?_⟩, hZ, hY, Or.inl rfl⟩
  · by_cases z : g = gc
    · rw [z]; exact ⟨t, a, b, ht, ha, hb, fz_us, fz_us, fz_us, trivial, trivial⟩
    · rw [fz_uo (by omega), fz_uo (by omega), fz_uo (by omega)]; exact hG g (by omega)
  · by_cases z : g = gc
    · rw [z, fz_us]; exact hw
    · rw [fz_uo (by omega)]; exact hFr g (by omega)
theorem fz_m1b : vp_nar .byte (-1 : Int32).toInt8.toInt32 = -1 := by rw [vp_nar_byte]; decide
theorem fz_n4 {g : Nat} (h : g < 4) : ¬ nI g = 4 := fun q => by
  have := (nI_eq (a := g) (b := 4) (by omega) (by omega)).mp q
  omega
theorem i_vc_goal {k : Nat} {u : SX} {v : SY} (I : i_Rel k u v) (hk : k + 5 ≤ 2561) (v1 : Int32) (v2 : Int32) (v3 : Int32) : wpX_goal (fun r u' => wpY_goal (fun r' v' => r' = r ∧ i_Rel (k + 5) u' v') v v1 v2 v3) u v1 v2 v3 := by
  refine fz_el (P := fun u v => wpX_goal (fun r u' => wpY_goal (fun r' v' => r' = r ∧ i_Rel (k + 5) u' v') v v1 v2 v3) u v1 v2 v3) ?_ I
  intro nv n gc ec dc tm ft pl aw az tc pt so sc ki fi se si ins cn rc rl rr gt gx gy gf ex ey dx dy bi go df tw tl st ps ws mg mr mt mp ma mz ch is sl re yf sg yi yj yh yp yb tx fr sk hF
  have hF' := hF
  obtain ⟨f1, ⟨hC, h1, h2, h3, hG, hR, hE, hD, hFr⟩, hZ, hY, hSV⟩ := hF'
  have hn := hC.1
  have hnv := hC.2.1
  by_cases t0 : v1 < 0
  · exact br_t t0 (br_t t0 ⟨rfl, fz_mk hF⟩)
  · refine br_f t0 ?_
    by_cases t3 : 3 < v1
    · exact br_t t3 (br_f t0 (br_t t3 ⟨rfl, fz_mk hF⟩))
    · refine br_f t3 ?_
      obtain ⟨t, ht, et⟩ := nI_of2 (x := v1) (M := 3) (n := 3) (by decide) t0 (Int32.not_lt.mp t3)
      subst et
      rcases fz_ixn v2 hn with q1 | ⟨a, ha, e1⟩
      · exact fz_isX0 q1 (br_t rfl (br_f t0 (br_f t3 (fz_isY0 q1 (br_t rfl ⟨rfl, fz_mk hF⟩)))))
      · subst e1
        refine fz_isX1 hn ha (br_f (by decide) ?_)
        rcases fz_ixn v3 hn with q2 | ⟨b, hb, e2⟩
        · exact fz_isX0 q2 (br_t rfl (br_f t0 (br_f t3 (fz_isY1 hn ha (br_f (by decide) (fz_isY0 q2 (br_t rfl ⟨rfl, fz_mk hF⟩)))))))
        · subst e2
          refine fz_isX1 hn hb (br_f (by decide) ?_)
          have hm1 : (-1 : Int32) < nI nv := Int32.lt_of_lt_of_le (b := 0) (by decide) (nI_pos' (by omega))
          by_cases hg : gc < 4
          · have ig : vp_in (nI gc) 4 := vp_in_nI (by omega) (by omega)
            have cg : (nI gc).toNatClampNeg = gc := nI_clamp (by omega)
            refine br_t (nI_lt (b := 4) hg (by decide)) ?_
            rw [cg]
            refine And.intro ig (nm_r (e' := upd gt gc (nI t)) (by rw [fz_byte (by omega)]) (And.intro ig (nm_r (e' := upd gx gc (nI a)) (by rw [fz_byte (by omega)]) (And.intro ig (nm_r (e' := upd gy gc (nI b)) (by rw [fz_byte (by omega)]) (And.intro ig (nm_r (e' := upd gf gc (-1)) (by rw [fz_m1b]) (nm_r (nI_1 gc) ?_))))))))
            refine br_f t0 (br_f t3 (fz_isY1 hn ha (br_f (by decide) (fz_isY1 hn hb (br_f (by decide) (br_t hm1 (br_f (fz_n4 hg) ?_)))))))
            rw [cg]
            refine And.intro ig (nm_e (And.intro ig (nm_e (And.intro ig (nm_e (And.intro ig (nm_e (nm_r (nI_1 gc) ?_))))))))
            exact ⟨nI_pred gc, fz_mk (fz_goalF hF hg (by omega) ha hb (Or.inl rfl))⟩
          · have e4 : gc = 4 := by omega
            subst e4
            refine br_f (by decide) ?_
            exact br_f t0 (br_f t3 (fz_isY1 hn ha (br_f (by decide) (fz_isY1 hn hb (br_f (by decide) (br_t hm1 (br_t rfl ⟨rfl, fz_mk hF⟩)))))))
theorem i_vc_freeze {k : Nat} {u : SX} {v : SY} (I : i_Rel k u v) (hk : k + 5 ≤ 2561) (v1 : Int32) (v2 : Int32) (v3 : Int32) (v4 : Int32) : wpX_freeze (fun r u' => wpY_freeze (fun r' v' => r' = r ∧ i_Rel (k + 5) u' v') v v1 v2 v3 v4) u v1 v2 v3 v4 := by
  refine fz_el (P := fun u v => wpX_freeze (fun r u' => wpY_freeze (fun r' v' => r' = r ∧ i_Rel (k + 5) u' v') v v1 v2 v3 v4) u v1 v2 v3 v4) ?_ I
  intro nv n gc ec dc tm ft pl aw az tc pt so sc ki fi se si ins cn rc rl rr gt gx gy gf ex ey dx dy bi go df tw tl st ps ws mg mr mt mp ma mz ch is sl re yf sg yi yj yh yp yb tx fr sk hF
  have hF' := hF
  obtain ⟨f1, ⟨hC, h1, h2, h3, hG, hR, hE, hD, hFr⟩, hZ, hY, hSV⟩ := hF'
  have hn := hC.1
  have hnv := hC.2.1
  have wr : ∀ (Q : Int32 → SY → Prop), (∀ r' v', Q r' v' → Q r' v') := fun _ _ _ h => h
  by_cases w0 : 0 ≤ v1
  · have w0' : ¬ v1 < 0 := Int32.not_lt.mpr w0
    by_cases t0 : v2 < 0
    · exact br_t t0 (br_t w0 (br_t t0 ⟨rfl, fz_mk hF⟩))
    · refine br_f t0 ?_
      by_cases t3 : 3 < v2
      · exact br_t t3 (br_t w0 (br_f t0 (br_t t3 ⟨rfl, fz_mk hF⟩)))
      · refine br_f t3 ?_
        obtain ⟨t, ht, et⟩ := nI_of2 (x := v2) (M := 3) (n := 3) (by decide) t0 (Int32.not_lt.mp t3)
        subst et
        rcases fz_ixn v3 hn with q1 | ⟨a, ha, e1⟩
        · exact fz_isX0 q1 (br_t rfl (br_t w0 (br_f t0 (br_f t3 (fz_isY0 q1 (br_t rfl ⟨rfl, fz_mk hF⟩))))))
        · subst e1
          refine fz_isX1 hn ha (br_f (by decide) ?_)
          rcases fz_ixn v4 hn with q2 | ⟨b, hb, e2⟩
          · exact fz_isX0 q2 (br_t rfl (br_t w0 (br_f t0 (br_f t3 (fz_isY1 hn ha (br_f (by decide) (fz_isY0 q2 (br_t rfl ⟨rfl, fz_mk hF⟩))))))))
          · subst e2
            refine fz_isX1 hn hb (br_f (by decide) (br_f w0' ?_))
            obtain ⟨w, hw, ew⟩ := nI_of (x := v1) w0'
            subst ew
            by_cases hwv : w < nv
            · have hlt : nI w < nI nv := nI_lt hwv (by omega)
              refine br_t hlt ?_
              by_cases hg : gc < 4
              · have ig : vp_in (nI gc) 4 := vp_in_nI (by omega) (by omega)
                have cg : (nI gc).toNatClampNeg = gc := nI_clamp (by omega)
                refine br_t (nI_lt (b := 4) hg (by decide)) ?_
                rw [cg]
                refine And.intro ig (nm_r (e' := upd gt gc (nI t)) (by rw [fz_byte (by omega)]) (And.intro ig (nm_r (e' := upd gx gc (nI a)) (by rw [fz_byte (by omega)]) (And.intro ig (nm_r (e' := upd gy gc (nI b)) (by rw [fz_byte (by omega)]) (And.intro ig (nm_r (e' := upd gf gc (nI w)) (by rw [fz_byte (by omega)]) (nm_r (nI_1 gc) ?_))))))))
                refine br_t w0 (br_f t0 (br_f t3 (fz_isY1 hn ha (br_f (by decide) (fz_isY1 hn hb (br_f (by decide) (br_t hlt (br_f (fz_n4 hg) ?_))))))))
                rw [cg]
                refine And.intro ig (nm_e (And.intro ig (nm_e (And.intro ig (nm_e (And.intro ig (nm_e (nm_r (nI_1 gc) ?_))))))))
                exact ⟨nI_pred gc, fz_mk (fz_goalF hF hg (by omega) ha hb (Or.inr ⟨w, hwv, rfl⟩))⟩
              · have e4 : gc = 4 := by omega
                subst e4
                refine br_f (by decide) ?_
                exact br_t w0 (br_f t0 (br_f t3 (fz_isY1 hn ha (br_f (by decide) (fz_isY1 hn hb (br_f (by decide) (br_t hlt (br_t rfl ⟨rfl, fz_mk hF⟩))))))))
            · have hlt : ¬ nI w < nI nv := nI_nlt (by omega) (by omega)
              exact br_f hlt (br_t w0 (br_f t0 (br_f t3 (fz_isY1 hn ha (br_f (by decide) (fz_isY1 hn hb (br_f (by decide) (br_f hlt ⟨rfl, fz_mk hF⟩))))))))
  · have w0' : v1 < 0 := Int32.not_le.mp w0
    have fin : wpY_freeze (fun r' v' => r' = -1 ∧ i_Rel (k + 5) (nI nv, nI n, nI gc, nI ec, nI dc, ft, pl, aw, az, tc, pt, so, sc, ki, fi, se, si, ins, cn, rc, rl, rr, gt, gx, gy, gf, ex, ey, dx, dy, bi, go, df, tw, tl, st, ps, ws, mg, mr, mt, mp, ma, mz, ch, is, sl, re) v') (nI nv, nI n, nI gc, nI ec, nI dc, so, yf, sg, yi, yj, rc, rl, rr, gt, gx, gy, gf, ex, ey, dx, dy, yh, yp, yb, tx, fr, sk) v1 v2 v3 v4 := br_f w0 ⟨rfl, fz_mk hF⟩
    by_cases t0 : v2 < 0
    · exact br_t t0 fin
    · refine br_f t0 ?_
      by_cases t3 : 3 < v2
      · exact br_t t3 fin
      · refine br_f t3 ?_
        rcases fz_ixn v3 hn with q1 | ⟨a, ha, e1⟩
        · exact fz_isX0 q1 (br_t rfl fin)
        · subst e1
          refine fz_isX1 hn ha (br_f (by decide) ?_)
          rcases fz_ixn v4 hn with q2 | ⟨b, hb, e2⟩
          · exact fz_isX0 q2 (br_t rfl fin)
          · subst e2
            exact fz_isX1 hn hb (br_f (by decide) (br_t w0' fin))
/-! equal, differ -/
theorem i_vc_equal {k : Nat} {u : SX} {v : SY} (I : i_Rel k u v) (hk : k + 5 ≤ 2561) (v1 : Int32) (v2 : Int32) : wpX_equal (fun r u' => wpY_equal (fun r' v' => r' = r ∧ i_Rel (k + 5) u' v') v v1 v2) u v1 v2 := by
  refine fz_el (P := fun u v => wpX_equal (fun r u' => wpY_equal (fun r' v' => r' = r ∧ i_Rel (k + 5) u' v') v v1 v2) u v1 v2) ?_ I
  intro nv n gc ec dc tm ft pl aw az tc pt so sc ki fi se si ins cn rc rl rr gt gx gy gf ex ey dx dy bi go df tw tl st ps ws mg mr mt mp ma mz ch is sl re yf sg yi yj yh yp yb tx fr sk hF
  have hF' := hF
  obtain ⟨f1, ⟨hC, h1, h2, h3, hG, hR, hE, hD, hFr⟩, hZ, hY, hSV⟩ := hF'
  have hn := hC.1
  unfold wpX_equal wpY_equal
  rcases fz_ixn v1 hn with q1 | ⟨a, ha, e1⟩
  · exact fz_isX0 q1 (br_t rfl (fz_isY0 q1 (br_t rfl ⟨rfl, fz_mk hF⟩)))
  · subst e1
    refine fz_isX1 hn ha (br_f (by decide) ?_)
    rcases fz_ixn v2 hn with q2 | ⟨b, hb, e2⟩
    · exact fz_isX0 q2 (br_t rfl (fz_isY1 hn ha (br_f (by decide) (fz_isY0 q2 (br_t rfl ⟨rfl, fz_mk hF⟩)))))
    · subst e2
      refine fz_isX1 hn hb (br_f (by decide) ?_)
      by_cases hg : ec < 4
      · have ig : vp_in (nI ec) 4 := vp_in_nI (by omega) (by omega)
        have cg : (nI ec).toNatClampNeg = ec := nI_clamp (by omega)
        refine br_t (nI_lt (b := 4) hg (by decide)) ?_
        rw [cg]
        refine And.intro ig (nm_r (e' := upd ex ec (nI a)) (by rw [fz_byte (by omega)]) (And.intro ig (nm_r (e' := upd ey ec (nI b)) (by rw [fz_byte (by omega)]) (nm_r (nI_1 ec) ?_))))
        refine fz_isY1 hn ha (br_f (by decide) (fz_isY1 hn hb (br_f (by decide) (br_f (fz_n4 hg) ?_))))
        rw [cg]
        refine And.intro ig (nm_e (And.intro ig (nm_e (nm_r (nI_1 ec) ⟨rfl, ?_⟩))))
        refine fz_mk (tm := tm) ⟨f1, ⟨hC, h1, by omega, h3, hG, hR, fun e he => ?_, hD, hFr⟩, hZ, hY, Or.inl rfl⟩
        by_cases z : e = ec
        · rw [z]; exact ⟨a, b, ha, hb, fz_us, fz_us, trivial, trivial⟩
        · rw [fz_uo (by omega), fz_uo (by omega)]; exact hE e (by omega)
      · have e4 : ec = 4 := by omega
        subst e4
        refine br_f (by decide) ?_
        exact fz_isY1 hn ha (br_f (by decide) (fz_isY1 hn hb (br_f (by decide) (br_t rfl ⟨rfl, fz_mk hF⟩))))
theorem i_vc_differ {k : Nat} {u : SX} {v : SY} (I : i_Rel k u v) (hk : k + 5 ≤ 2561) (v1 : Int32) (v2 : Int32) : wpX_differ (fun r u' => wpY_differ (fun r' v' => r' = r ∧ i_Rel (k + 5) u' v') v v1 v2) u v1 v2 := by
  refine fz_el (P := fun u v => wpX_differ (fun r u' => wpY_differ (fun r' v' => r' = r ∧ i_Rel (k + 5) u' v') v v1 v2) u v1 v2) ?_ I
  intro nv n gc ec dc tm ft pl aw az tc pt so sc ki fi se si ins cn rc rl rr gt gx gy gf ex ey dx dy bi go df tw tl st ps ws mg mr mt mp ma mz ch is sl re yf sg yi yj yh yp yb tx fr sk hF
  have hF' := hF
  obtain ⟨f1, ⟨hC, h1, h2, h3, hG, hR, hE, hD, hFr⟩, hZ, hY, hSV⟩ := hF'
  have hn := hC.1
  unfold wpX_differ wpY_differ
  rcases fz_ixn v1 hn with q1 | ⟨a, ha, e1⟩
  · exact fz_isX0 q1 (br_t rfl (fz_isY0 q1 (br_t rfl ⟨rfl, fz_mk hF⟩)))
  · subst e1
    refine fz_isX1 hn ha (br_f (by decide) ?_)
    rcases fz_ixn v2 hn with q2 | ⟨b, hb, e2⟩
    · exact fz_isX0 q2 (br_t rfl (fz_isY1 hn ha (br_f (by decide) (fz_isY0 q2 (br_t rfl ⟨rfl, fz_mk hF⟩)))))
    · subst e2
      refine fz_isX1 hn hb (br_f (by decide) ?_)
      by_cases hg : dc < 6
      · have ig : vp_in (nI dc) 6 := vp_in_nI (by omega) (by omega)
        have cg : (nI dc).toNatClampNeg = dc := nI_clamp (by omega)
        refine br_t (nI_lt (b := 6) hg (by decide)) ?_
        rw [cg]
        refine And.intro ig (nm_r (e' := upd dx dc (nI a)) (by rw [fz_byte (by omega)]) (And.intro ig (nm_r (e' := upd dy dc (nI b)) (by rw [fz_byte (by omega)]) (nm_r (nI_1 dc) ?_))))
        refine fz_isY1 hn ha (br_f (by decide) (fz_isY1 hn hb (br_f (by decide) (br_f (fun q => by have := (nI_eq (a := dc) (b := 6) (by omega) (by omega)).mp q; omega) ?_))))
        rw [cg]
        refine And.intro ig (nm_e (And.intro ig (nm_e (nm_r (nI_1 dc) ⟨rfl, ?_⟩))))
        refine fz_mk (tm := tm) ⟨f1, ⟨hC, h1, h2, by omega, hG, hR, hE, fun e he => ?_, hFr⟩, hZ, hY, Or.inl rfl⟩
        by_cases z : e = dc
        · rw [z]; exact ⟨a, b, ha, hb, fz_us, fz_us, trivial, trivial⟩
        · rw [fz_uo (by omega), fz_uo (by omega)]; exact hD e (by omega)
      · have e4 : dc = 6 := by omega
        subst e4
        refine br_f (by decide) ?_
        exact fz_isY1 hn ha (br_f (by decide) (fz_isY1 hn hb (br_f (by decide) (br_t rfl ⟨rfl, fz_mk hF⟩))))
/-! forget, clear, solutions -/
theorem i_vc_forget {k : Nat} {u : SX} {v : SY} (I : i_Rel k u v) (hk : k + 5 ≤ 2561) : wpX_forget (fun r u' => wpY_forget (fun r' v' => r' = r ∧ i_Rel (k + 5) u' v') v) u := by
  refine fz_el (P := fun u v => wpX_forget (fun r u' => wpY_forget (fun r' v' => r' = r ∧ i_Rel (k + 5) u' v') v) u) ?_ I
  intro nv n gc ec dc tm ft pl aw az tc pt so sc ki fi se si ins cn rc rl rr gt gx gy gf ex ey dx dy bi go df tw tl st ps ws mg mr mt mp ma mz ch is sl re yf sg yi yj yh yp yb tx fr sk hF
  obtain ⟨f1, ⟨hC, h1, h2, h3, hG, hR, hE, hD, hFr⟩, hZ, hY, hSV⟩ := hF
  exact ⟨rfl, fz_mk (gc := 0) (ec := 0) (dc := 0) (tm := tm) ⟨f1, ⟨hC, by omega, by omega, by omega, fun g hg => by omega, hR, fun e he => by omega, fun e he => by omega, fun e he => by omega⟩, hZ, hY, Or.inl rfl⟩⟩
def fz_clr (rc : Nat → Int32) (i : Nat) : Nat → Int32 := fun j => if j < i then 0 else rc j
theorem fz_clr_s {rc : Nat → Int32} {i : Nat} : upd (fz_clr rc i) i 0 = fz_clr rc (i + 1) := by
  funext j
  unfold upd fz_clr
  by_cases z : j = i
  · rw [if_pos z, if_pos (by omega)]
  · rw [if_neg z]
    by_cases y : j < i
    · rw [if_pos y, if_pos (by omega)]
    · rw [if_neg y, if_neg (by omega)]
theorem fz_clr_0 {rc : Nat → Int32} : fz_clr rc 0 = rc := by
  funext j
  exact if_neg (by omega)
section
variable {fv fc fg fe fd ft pl aw az tc pt so sc : Int32} {ki fi se si ins cn rc rl rr gt gx gy gf ex ey dx dy bi go df tw tl st : Nat → Int32} {ps : Nat → Int64} {ws mg mr mt mp ma mz ch is sl re : Nat → Int32}
theorem fz_xclr {post : Int32 → SX → Prop} {x1 : Int32} (H : post x1 (fv, fc, fg, fe, fd, ft, pl, aw, az, tc, pt, so, sc, ki, fi, se, si, ins, cn, fz_clr rc 4, rl, rr, gt, gx, gy, gf, ex, ey, dx, dy, bi, go, df, tw, tl, st, ps, ws, mg, mr, mt, mp, ma, mz, ch, is, sl, re)) : ∀ j i, i + j = 4 → wX_clear_17 post x1 fv fc fg fe fd ft pl aw az tc pt so sc (j + 1) (nI i) ki fi se si ins cn (fz_clr rc i) rl rr gt gx gy gf ex ey dx dy bi go df tw tl st ps ws mg mr mt mp ma mz ch is sl re := by
  intro j
  induction j with
  | zero =>
    intro i hij
    have e : i = 4 := by omega
    subst e
    exact br_t (by decide) H
  | succ j ih =>
    intro i hij
    exact br_f (nI_ge (b := 4) (by omega) (by decide)) (And.intro (vp_in_nI (by omega) (by omega)) (nm_r (e' := fz_clr rc (i + 1)) (by rw [nI_clamp (by omega), fz_clr_s]) (nm_r (nI_1 i) (ih (i + 1) (by omega)))))
end
section
variable {yv yc yg ye yd yo yf : Int32} {sg yi yj yr yl yq yt yx yy yz y1 y2 y3 y4 yh yp yb tx fr sk : Nat → Int32}
theorem fz_yclr {post : Int32 → SY → Prop} {x1 : Int32} (H : post x1 (yv, yc, yg, ye, yd, yo, yf, sg, yi, yj, fz_clr yr 4, yl, yq, yt, yx, yy, yz, y1, y2, y3, y4, yh, yp, yb, tx, fr, sk)) : ∀ j i, i + j = 4 → wY_clear_17 post x1 yv yc yg ye yd yo yf (j + 1) (nI i) sg yi yj (fz_clr yr i) yl yq yt yx yy yz y1 y2 y3 y4 yh yp yb tx fr sk := by
  intro j
  induction j with
  | zero =>
    intro i hij
    have e : i = 4 := by omega
    subst e
    exact br_t (by decide) H
  | succ j ih =>
    intro i hij
    exact br_f (nI_ge (b := 4) (by omega) (by decide)) (And.intro (vp_in_nI (by omega) (by omega)) (nm_r (e' := fz_clr yr (i + 1)) (by rw [nI_clamp (by omega), fz_clr_s]) (nm_r (nI_1 i) (ih (i + 1) (by omega)))))
end
theorem i_vc_clear {k : Nat} {u : SX} {v : SY} (I : i_Rel k u v) (hk : k + 5 ≤ 2561) : wpX_clear (fun r u' => wpY_clear (fun r' v' => r' = r ∧ i_Rel (k + 5) u' v') v) u := by
  refine fz_el (P := fun u v => wpX_clear (fun r u' => wpY_clear (fun r' v' => r' = r ∧ i_Rel (k + 5) u' v') v) u) ?_ I
  intro nv n gc ec dc tm ft pl aw az tc pt so sc ki fi se si ins cn rc rl rr gt gx gy gf ex ey dx dy bi go df tw tl st ps ws mg mr mt mp ma mz ch is sl re yf sg yi yj yh yp yb tx fr sk hF
  obtain ⟨f1, ⟨hC, h1, h2, h3, hG, hR, hE, hD, hFr⟩, hZ, hY, hSV⟩ := hF
  unfold wpX_clear wpX_forget
  refine ⟨5, ?_⟩
  have kx := fz_xclr (post := fun r u' => wpY_clear (fun r' v' => r' = r ∧ i_Rel (k + 5) u' v') (nI nv, nI n, nI gc, nI ec, nI dc, so, yf, sg, yi, yj, rc, rl, rr, gt, gx, gy, gf, ex, ey, dx, dy, yh, yp, yb, tx, fr, sk)) (x1 := nI n) (fv := nI nv) (fc := 0) (fg := 0) (fe := 0) (fd := 0) (ft := ft) (pl := pl) (aw := aw) (az := az) (tc := tc) (pt := pt) (so := 0) (sc := sc) (ki := ki) (fi := fi) (se := se) (si := si) (ins := ins) (cn := cn) (rc := rc) (rl := rl) (rr := rr) (gt := gt) (gx := gx) (gy := gy) (gf := gf) (ex := ex) (ey := ey) (dx := dx) (dy := dy) (bi := bi) (go := go) (df := df) (tw := tw) (tl := tl) (st := st) (ps := ps) (ws := ws) (mg := mg) (mr := mr) (mt := mt) (mp := mp) (ma := ma) (mz := mz) (ch := ch) (is := is) (sl := sl) (re := re) ?_ 4 0 (by omega)
  · rw [fz_clr_0] at kx
    exact kx
  · unfold wpY_clear wpY_forget
    refine ⟨5, ?_⟩
    have ky := fz_yclr (post := fun r' v' => r' = nI n ∧ i_Rel (k + 5) (nI nv, 0, 0, 0, 0, ft, pl, aw, az, tc, pt, 0, sc, ki, fi, se, si, ins, cn, fz_clr rc 4, rl, rr, gt, gx, gy, gf, ex, ey, dx, dy, bi, go, df, tw, tl, st, ps, ws, mg, mr, mt, mp, ma, mz, ch, is, sl, re) v') (x1 := nI n) (yv := nI nv) (yc := 0) (yg := 0) (ye := 0) (yd := 0) (yo := 0) (yf := yf) (sg := sg) (yi := yi) (yj := yj) (yr := rc) (yl := rl) (yq := rr) (yt := gt) (yx := gx) (yy := gy) (yz := gf) (y1 := ex) (y2 := ey) (y3 := dx) (y4 := dy) (yh := yh) (yp := yp) (yb := yb) (tx := tx) (fr := fr) (sk := sk) ?_ 4 0 (by omega)
    · rw [fz_clr_0] at ky
      exact ky
    · refine ⟨rfl, fz_mk (n := 0) (gc := 0) (ec := 0) (dc := 0) (tm := tm) ⟨f1, ⟨⟨by omega, hC.2.1, fun c hc => by omega, fun c hc => by omega, fun c d hc => by omega⟩, by omega, by omega, by omega, fun g hg => by omega, fun t ht => ⟨0, by omega, if_pos ht, fun r hr => by omega⟩, fun e he => by omega, fun e he => by omega, fun e he => by omega⟩, fun c hc => by omega, ⟨by omega, fun c hc => by omega⟩, Or.inl rfl⟩⟩
theorem i_vc_solutions {k : Nat} {u : SX} {v : SY} (I : i_Rel k u v) (hk : k + 5 ≤ 2561) : wpX_solutions (fun r => wpY_solutions (fun r' => r' = r ∧ i_Rel (k + 5) u v) v) u := by
  refine fz_el (P := fun u v => wpX_solutions (fun r => wpY_solutions (fun r' => r' = r ∧ i_Rel (k + 5) u v) v) u) ?_ I
  intro nv n gc ec dc tm ft pl aw az tc pt so sc ki fi se si ins cn rc rl rr gt gx gy gf ex ey dx dy bi go df tw tl st ps ws mg mr mt mp ma mz ch is sl re yf sg yi yj yh yp yb tx fr sk hF
  have hSV := hF.2.2.2.2
  rcases hSV with q | ⟨q, _, K, k1, k2, k3, _⟩
  · exact br_t q (br_t q ⟨rfl, fz_mk hF⟩)
  · have q' : ¬ so = 0 := by rw [q]; decide
    exact br_f q' (br_f q' ⟨by rw [k2, k3], fz_mk hF⟩)
end
section
/-! solve -/
theorem fz_YT_of {n nv gc ec dc : Nat} {tm : Nat → fz_T} {ki fi se si ins cn rc rl rr gt gx gy gf ex ey dx dy sg yi yj : Nat → Int32} (hB : fz_BT n nv gc ec dc tm ki fi se ins cn rc rl rr gt gx gy gf ex ey dx dy) (hZ : fz_CZ n si cn tm) (hY : fz_CY n sg yi yj tm) (hL : ¬ fz_loose tm gx gy gf ex ey dx dy nv gc ec dc) : fz_YT n gc ec dc tm sg yi yj rc rl rr gt gx gy ex ey dx dy := by
  obtain ⟨hC, h1, h2, h3, hG, hR, hE, hD, _⟩ := fz_ST_of hB hL
  exact ⟨hY, fun c hc => (hZ c hc).2.1, h1, h2, h3, hG, hR, hE, hD⟩
theorem i_vc_solve {k : Nat} {u : SX} {v : SY} (I : i_Rel k u v) (hk : k + 5 ≤ 2561) : wpX_solve (fun r u' => wpY_solve (fun r' v' => r' = r ∧ i_Rel (k + 5) u' v') v) u := by
  refine fz_el (P := fun u v => wpX_solve (fun r u' => wpY_solve (fun r' v' => r' = r ∧ i_Rel (k + 5) u' v') v) u) ?_ I
  intro nv n gc ec dc tm ft pl aw az tc pt so sc ki fi se si ins cn rc rl rr gt gx gy gf ex ey dx dy bi go df tw tl st ps ws mg mr mt mp ma mz ch is sl re yf sg yi yj yh yp yb tx fr sk hF
  have hF' := hF
  obtain ⟨f1, hB, hZ, hY, hSV⟩ := hF'
  have hB' := hB
  obtain ⟨hC, h1, h2, h3, hG, hR, hE, hD, hFr⟩ := hB'
  have hnv := hC.2.1
  have hz : ∀ c, c < n → fz_sz (tm c) ≤ 13 := fun c hc => (hZ c hc).2.1
  by_cases q : so = 0
  · subst q
    refine fz_Xsolve hB (fun hl => ?_) (fun hl => ?_)
    · refine br_t rfl ?_
      exact fz_ylo hY hz hnv h1 h2 h3 hG hE hD (fun _ tx' fr' sk' => br_f (by decide) ⟨rfl, fz_mk hF⟩) (fun q => absurd hl q)
    · intro ft' pl' aw' az' tc' pt' bi' go' df' tw' tl' st' ps' mg' mr' mt' mp' ma' mz' ch' is' sl' hsl
      refine br_t rfl ?_
      refine fz_ylo hY hz hnv h1 h2 h3 hG hE hD (fun q => absurd q hl) (fun _ tx' fr' sk' => br_t rfl ?_)
      have hT := fz_YT_of hB hZ hY hl
      have h6 : ∀ g, g < gc → fz_rn rc gt g ≤ 6 := fun g hg => by
        obtain ⟨t, m, x, y, ht, hm, hx, hy, et, _, _, _, _, em, ern, _⟩ := fz_HGR hG hR hg
        omega
      have hlen := fz_lists_len (tm := tm) (gc := gc) (ec := ec) (dc := dc) (rc := rc) (rl := rl) (rr := rr) (gt := gt) (gx := gx) (gy := gy) (ex := ex) (ey := ey) (dx := dx) (dy := dy) h1 h6
      refine ⟨fz_pr (fz_rn rc gt) gc + 1, ?_⟩
      refine fz_y29 hT ?_ (fz_pr (fz_rn rc gt) gc) 0 yh yp yb tx' fr' sk' (by omega) (fun k m h => by simp at h)
      intro yh' yp' yb' tx'' fr'' sk'' hyh
      refine ⟨by rw [hlen], ?_⟩
      refine fz_mk (tm := tm) ⟨f1, hB, hZ, hY, Or.inr ⟨rfl, hl, (fz_SL tm gc ec dc rc rl rr gt gx gy ex ey dx dy).length, fz_SL_le, rfl, by rw [hlen], fun k hk => ?_⟩⟩
      obtain ⟨ρ, r1, r2, r3, r4⟩ := fz_lists_k h1 h6 hk
      exact ⟨ρ, r1, r2, hsl k _ r3, hyh k _ r4⟩
  · rcases hSV with w | ⟨_, _, K, k1, k2, k3, _⟩
    · exact absurd w q
    · exact br_f q (br_f q ⟨by rw [k2, k3], fz_mk hF⟩)
theorem fz_ixk (x : Int32) {K : Nat} (hK : K ≤ 1296) : x < 0 ∨ (¬ x < 0 ∧ nI K ≤ x) ∨ ∃ j, j < K ∧ x = nI j := by
  rcases pk_ix x (n := K) (by omega) with q | q | q
  · exact Or.inl q
  · by_cases z : x < 0
    · exact Or.inl z
    · exact Or.inr (Or.inl ⟨z, q⟩)
  · exact Or.inr (Or.inr q)
theorem i_vc_rowOf {k : Nat} {u : SX} {v : SY} (I : i_Rel k u v) (hk : k + 5 ≤ 2561) (v1 : Int32) (v2 : Int32) : wpX_rowOf (fun r => wpY_rowOf (fun r' v' => r' = r ∧ i_Rel (k + 5) u v') v v1 v2) u v1 v2 := by
  refine fz_el (P := fun u v => wpX_rowOf (fun r => wpY_rowOf (fun r' v' => r' = r ∧ i_Rel (k + 5) u v') v v1 v2) u v1 v2) ?_ I
  intro nv n gc ec dc tm ft pl aw az tc pt so sc ki fi se si ins cn rc rl rr gt gx gy gf ex ey dx dy bi go df tw tl st ps ws mg mr mt mp ma mz ch is sl re yf sg yi yj yh yp yb tx fr sk hF
  have hF' := hF
  obtain ⟨f1, hB, hZ, hY, hSV⟩ := hF'
  obtain ⟨hC, h1, h2, h3, hG, hR, hE, hD, hFr⟩ := hB
  rcases hSV with q | ⟨q, hl, K, k1, k2, k3, k4⟩
  · exact br_t q (br_t q ⟨rfl, fz_mk hF⟩)
  · have q' : ¬ so = 0 := by rw [q]; decide
    subst k2 k3
    refine br_f q' ?_
    rcases fz_ixk v1 k1 with w | ⟨w0, w⟩ | ⟨j, hj, e⟩
    · exact br_t w (br_f q' (br_t w ⟨rfl, fz_mk hF⟩))
    · exact br_f w0 (br_f (Int32.not_lt.mpr w) (br_f q' (br_f w0 (br_t w ⟨rfl, fz_mk hF⟩))))
    · subst e
      have p0 := nI_pos (n := j) (by omega)
      have pk := nI_lt (a := j) (b := K) hj (by omega)
      have pk' := nI_ge (a := j) (b := K) hj (by omega)
      refine br_f p0 (br_t pk ?_)
      rcases fz_ixk v2 (K := gc) (by omega) with w | ⟨w0, w⟩ | ⟨g, hg, e⟩
      · exact br_t w (br_f q' (br_f p0 (br_f pk' (br_t w ⟨rfl, fz_mk hF⟩))))
      · exact br_f w0 (br_f (Int32.not_lt.mpr w) (br_f q' (br_f p0 (br_f pk' (br_f w0 (br_f (Int32.not_lt.mpr w) ⟨rfl, fz_mk hF⟩))))))
      · subst e
        obtain ⟨ρ, r1, r2, r3, r4⟩ := k4 j hj
        have hρ6 : ∀ g, g < gc → ρ g < 6 := fun g hg => by
          obtain ⟨t, m, x, y, ht, hm, hx, hy, et, _, _, _, _, em, ern, _⟩ := fz_HGR hG hR hg
          have := r1 g hg
          omega
        have g0 := nI_pos (n := g) (by omega)
        have gl := nI_lt (a := g) (b := gc) hg (by omega)
        have cj : (nI j).toNatClampNeg = j := nI_clamp (by omega)
        refine br_f g0 (br_t gl (And.intro (vp_in_nI (by omega) (by omega)) ?_))
        rw [cj, r3]
        refine fz_ric h1 hρ6 hg ?_
        refine br_f q' (br_f p0 (br_f pk' (br_f g0 (br_t gl (And.intro (vp_in_nI (by omega) (by omega)) ?_)))))
        rw [cj, r4]
        refine fz_picks (n := n) (tm := tm) h1 hG hR r1 ?_
        intro yp' hp
        refine And.intro (vp_in_nI (by omega) (by omega)) ⟨?_, fz_mk hF⟩
        rw [nI_clamp (by omega)]
        exact hp g hg
/-! valueOf -/
section
variable {n nv gc ec dc : Nat} {tm : Nat → fz_T}
variable {yv yc yg ye yd yo yf : Int32} {sg yi yj yr yl yq yt yx yy yz y1 y2 y3 y4 yh yp yb tx fr sk : Nat → Int32}
theorem fz_yval {post : Int64 → SY → Prop} (hT : fz_YT n gc ec dc tm sg yi yj yr yl yq yt yx yy y1 y2 y3 y4) (hnv : nv ≤ 6) {K j v : Nat} (hK : K ≤ 1296) (hj : j < K) (hv : v < nv) {ρ : Nat → Nat} (hρ : ∀ g, g < gc → ρ g < fz_rn yr yt g) (hs : fz_sol tm gc ec dc yl yq yt yx yy y1 y2 y3 y4 ρ) (hh : yh j = nI (fz_hn (fz_rn yr yt) ρ gc)) {θ : Nat → fz_T} (hθ : ∀ g, g < gc → fz_mt tm yl yq yt yx yy g (ρ g) θ)
    (H1 : fz_col tm yx yy gc v → (∃ c, c < n ∧ fz_gd (tm c) ∧ θ v = tm c) → ∀ yp yb tx fr sk : Nat → Int32, post (fz_num 0 (fz_ls (θ v))) (nI nv, yc, nI gc, nI ec, nI dc, 1, nI K, sg, yi, yj, yr, yl, yq, yt, yx, yy, yz, y1, y2, y3, y4, yh, yp, yb, tx, fr, sk))
    (H0 : ¬ fz_col tm yx yy gc v → ∀ tx fr sk : Nat → Int32, post (-1) (nI nv, yc, nI gc, nI ec, nI dc, 1, nI K, sg, yi, yj, yr, yl, yq, yt, yx, yy, yz, y1, y2, y3, y4, yh, yp, yb, tx, fr, sk)) :
    wpY_valueOf post (nI nv, yc, nI gc, nI ec, nI dc, 1, nI K, sg, yi, yj, yr, yl, yq, yt, yx, yy, yz, y1, y2, y3, y4, yh, yp, yb, tx, fr, sk) (nI j) (nI v) := by
  have hn := hT.1.1
  refine br_f (by decide) (br_f (nI_pos (by omega)) (br_f (nI_ge hj (by omega)) (br_f (nI_pos (by omega)) (br_t (nI_lt hv (by omega)) ?_))))
  refine fz_ing hT.1 hT.2.1 hT.2.2.1 (fz_HG_w hT.2.2.2.2.2.1) (by omega) (fun q tx' fr' sk' => br_f (by decide) (And.intro (vp_in_nI (by omega) (by omega)) ?_)) (fun q tx' fr' sk' => br_t rfl (H0 q tx' fr' sk'))
  rw [nI_clamp (n := j) (by omega), hh]
  refine fz_try hT hρ (fun _ yp' yb' tx2 fr2 sk2 hrd => ?_) (fun w => absurd hs w)
  refine And.intro (vp_in_nI (by omega) (by omega)) ?_
  rcases hrd.1 v (by omega) with w | ⟨c, hc, e, hg⟩
  · exact absurd w (hrd.2.1 v q)
  · have et := hrd.2.2 θ hθ v (by omega) c (by omega) e
    rw [nI_clamp (n := v) (by omega), e]
    refine fz_ynum hT.1 hc (hT.2.1 c hc) (fun tx3 fr3 sk3 => ?_)
    rw [← et]
    exact H1 q ⟨c, hc, hg, et⟩ yp' yb' tx3 fr3 sk3
end
theorem fz_bit1 {x : Int32} {w : Nat} (hw : w < 32) : ((x >>> (nI w &&& 31)) &&& 1) = 1 ↔ bt x w = true := by
  constructor
  · intro h
    cases q : bt x w
    · have := (fz_bit (x := x) hw).mpr q
      rw [this] at h
      exact absurd h (by decide)
    · rfl
  · intro h
    refine b_ext (fun i hi => ?_)
    rw [b_and, fz_b1 i hi]
    by_cases z : i = 0
    · rw [z, b_sshr w hw x (by omega), if_pos (by omega), Nat.add_zero, h]; rfl
    · simp [z]
section
variable {n nv gc ec dc : Nat} {tm : Nat → fz_T}
variable {fv fc fg fe fd ft pl aw az tc pt so sc : Int32} {ki fi se si ins cn rc rl rr gt gx gy gf ex ey dx dy bi go df tw tl st : Nat → Int32} {ps : Nat → Int64} {ws mg mr mt mp ma mz ch is sl re : Nat → Int32}
theorem fz_xval {post : Int64 → SX → Prop} (hC : fz_CX n nv ki fi se ins cn tm) (hZ : fz_CZ n si cn tm) (hgc : gc ≤ 4) (hG : fz_HG tm n fz_tt gt gx gy gc) (hR : fz_HR tm n rc rl rr) {K j v : Nat} (hK : K ≤ 1296) (hj : j < K) (hv : v < nv) {ρ : Nat → Nat} (hρ : ∀ g, g < gc → ρ g < fz_rn rc gt g) (hsl : sl j = nI (fz_hn fz_six ρ gc)) {θ : Nat → fz_T} (hθ : ∀ g, g < gc → fz_mt tm rl rr gt gx gy g (ρ g) θ)
    (H1 : fz_col tm gx gy gc v → ∀ (ft pl aw az tc pt : Int32) (bi go df tw tl st : Nat → Int32) (ps : Nat → Int64) (ws : Nat → Int32), post (fz_num 0 (fz_ls (θ v))) (nI nv, fc, nI gc, fe, fd, ft, pl, aw, az, tc, pt, 1, nI K, ki, fi, se, si, ins, cn, rc, rl, rr, gt, gx, gy, gf, ex, ey, dx, dy, bi, go, df, tw, tl, st, ps, ws, mg, mr, mt, mp, ma, mz, ch, is, sl, re))
    (H0 : ¬ fz_col tm gx gy gc v → post (-1) (nI nv, fc, nI gc, fe, fd, ft, pl, aw, az, tc, pt, 1, nI K, ki, fi, se, si, ins, cn, rc, rl, rr, gt, gx, gy, gf, ex, ey, dx, dy, bi, go, df, tw, tl, st, ps, ws, mg, mr, mt, mp, ma, mz, ch, is, sl, re)) :
    wpX_valueOf post (nI nv, fc, nI gc, fe, fd, ft, pl, aw, az, tc, pt, 1, nI K, ki, fi, se, si, ins, cn, rc, rl, rr, gt, gx, gy, gf, ex, ey, dx, dy, bi, go, df, tw, tl, st, ps, ws, mg, mr, mt, mp, ma, mz, ch, is, sl, re) (nI j) (nI v) := by
  have hn := hC.1
  have hnv := hC.2.1
  refine br_f (by decide) (br_f (nI_pos (by omega)) (br_t (nI_lt hj (by omega)) (br_f (nI_pos (by omega)) (br_t (nI_lt hv (by omega)) ?_))))
  obtain ⟨M, hM, hV⟩ := fz_vog (fv := nI nv) (fc := fc) (fe := fe) (fd := fd) (ft := ft) (pl := pl) (aw := aw) (az := az) (tc := tc) (pt := pt) (so := 1) (sc := nI K) (ki := ki) (fi := fi) (se := se) (si := si) (ins := ins) (cn := cn) (rc := rc) (rl := rl) (rr := rr) (gt := gt) (gx := gx) (gy := gy) (gf := gf) (ex := ex) (ey := ey) (dx := dx) (dy := dy) (bi := bi) (go := go) (df := df) (tw := tw) (tl := tl) (st := st) (ps := ps) (ws := ws) (mg := mg) (mr := mr) (mt := mt) (mp := mp) (ma := ma) (mz := mz) (ch := ch) (is := is) (sl := sl) (re := re) hC hgc hG
  refine hV _ ?_
  by_cases q : fz_col tm gx gy gc v
  · refine br_f ((fz_bitT (by omega)).mpr ((hM v).mpr q)) ?_
    refine fz_replay hC hgc hG hR (k := j) (by omega) hρ hsl hθ ?_
    intro ft' pl' aw' az' tc' pt' bi' go' df' tw' tl' st' ps' hb
    obtain ⟨c, hc, e, hg, et⟩ := hb v q
    refine And.intro (vp_in_nI (by omega) (by omega)) ?_
    rw [nI_clamp (n := v) (by omega), e]
    refine fz_written hC hc hg (hZ c hc).2.1 (fun ws' => ?_)
    rw [et]
    exact H1 q ft' pl' aw' az' tc' pt' bi' go' df' tw' tl' st' ps' ws'
  · refine br_t ((fz_bit (by omega)).mpr ?_) (H0 q)
    cases w : bt M v
    · rfl
    · exact absurd ((hM v).mp w) q
/-! alike -/
def fz_AL (tm : Nat → fz_T) (gx gy : Nat → Int32) (gc nv : Nat) (M : Int32) (θ θ' : Nat → fz_T) : Prop := ∀ v, v < nv → bt M v = true → fz_col tm gx gy gc v → θ v = θ' v
theorem fz_xalike {post : Int32 → SX → Prop} (hC : fz_CX n nv ki fi se ins cn tm) (hgc : gc ≤ 4) (hG : fz_HG tm n fz_tt gt gx gy gc) (hR : fz_HR tm n rc rl rr) {K i j : Nat} {p2 : Int32} (hK : K ≤ 1296) (hi : i < K) (hj : j < K) {ρ ρ' : Nat → Nat} (hρ : ∀ g, g < gc → ρ g < fz_rn rc gt g) (hρ' : ∀ g, g < gc → ρ' g < fz_rn rc gt g) (hsl : sl i = nI (fz_hn fz_six ρ gc)) (hsl' : sl j = nI (fz_hn fz_six ρ' gc)) {θ θ' : Nat → fz_T} (hθ : ∀ g, g < gc → fz_mt tm rl rr gt gx gy g (ρ g) θ) (hθ' : ∀ g, g < gc → fz_mt tm rl rr gt gx gy g (ρ' g) θ')
    (H1 : fz_AL tm gx gy gc nv p2 θ θ' → ∀ (ft pl aw az tc pt : Int32) (bi go df tw tl st : Nat → Int32) (ps : Nat → Int64) (re : Nat → Int32), post 1 (nI nv, fc, nI gc, fe, fd, ft, pl, aw, az, tc, pt, 1, nI K, ki, fi, se, si, ins, cn, rc, rl, rr, gt, gx, gy, gf, ex, ey, dx, dy, bi, go, df, tw, tl, st, ps, ws, mg, mr, mt, mp, ma, mz, ch, is, sl, re))
    (H0 : ¬ fz_AL tm gx gy gc nv p2 θ θ' → ∀ (ft pl aw az tc pt : Int32) (bi go df tw tl st : Nat → Int32) (ps : Nat → Int64) (re : Nat → Int32), post 0 (nI nv, fc, nI gc, fe, fd, ft, pl, aw, az, tc, pt, 1, nI K, ki, fi, se, si, ins, cn, rc, rl, rr, gt, gx, gy, gf, ex, ey, dx, dy, bi, go, df, tw, tl, st, ps, ws, mg, mr, mt, mp, ma, mz, ch, is, sl, re)) :
    wpX_alike post (nI nv, fc, nI gc, fe, fd, ft, pl, aw, az, tc, pt, 1, nI K, ki, fi, se, si, ins, cn, rc, rl, rr, gt, gx, gy, gf, ex, ey, dx, dy, bi, go, df, tw, tl, st, ps, ws, mg, mr, mt, mp, ma, mz, ch, is, sl, re) (nI i) (nI j) p2 := by
  have hn := hC.1
  have hnv := hC.2.1
  refine br_f (by decide) (br_f (nI_pos (by omega)) (br_f (nI_ge hi (by omega)) (br_f (nI_pos (by omega)) (br_t (nI_lt hj (by omega)) ?_))))
  obtain ⟨M, hM, hV⟩ := fz_vog (fv := nI nv) (fc := fc) (fe := fe) (fd := fd) (ft := ft) (pl := pl) (aw := aw) (az := az) (tc := tc) (pt := pt) (so := 1) (sc := nI K) (ki := ki) (fi := fi) (se := se) (si := si) (ins := ins) (cn := cn) (rc := rc) (rl := rl) (rr := rr) (gt := gt) (gx := gx) (gy := gy) (gf := gf) (ex := ex) (ey := ey) (dx := dx) (dy := dy) (bi := bi) (go := go) (df := df) (tw := tw) (tl := tl) (st := st) (ps := ps) (ws := ws) (mg := mg) (mr := mr) (mt := mt) (mp := mp) (ma := ma) (mz := mz) (ch := ch) (is := is) (sl := sl) (re := re) hC hgc hG
  refine hV _ (nm_e ?_)
  refine fz_replay hC hgc hG hR (k := i) (by omega) hρ hsl hθ ?_
  intro ft1 pl1 aw1 az1 tc1 pt1 bi1 go1 df1 tw1 tl1 st1 ps1 hb1
  refine ⟨nv + 1, ?_⟩
  have copy : ∀ (m l : Nat) (re : Nat → Int32), l + m = nv → (∀ v, v < l → re v = bi1 v) → wX_alike_51 post (nI j) (p2 &&& M) (nI nv) fc (nI gc) fe fd ft1 pl1 aw1 az1 tc1 pt1 1 (nI K) (m + 1) (nI l) ki fi se si ins cn rc rl rr gt gx gy gf ex ey dx dy bi1 go1 df1 tw1 tl1 st1 ps1 ws mg mr mt mp ma mz ch is sl re := by
    intro m
    induction m with
    | zero =>
      intro l re hl hre
      have e : l = nv := by omega
      subst e
      refine br_t (nI_le (by omega) (by omega)) ?_
      refine fz_replay hC hgc hG hR (k := j) (by omega) hρ' hsl' hθ' ?_
      intro ft2 pl2 aw2 az2 tc2 pt2 bi2 go2 df2 tw2 tl2 st2 ps2 hb2
      refine ⟨l + 1, ?_⟩
      have cmp : ∀ (m' l' : Nat), l' + m' = l → (∀ v, v < l' → bt p2 v = true → fz_col tm gx gy gc v → θ v = θ' v) → wX_alike_88 post (p2 &&& M) (nI l) fc (nI gc) fe fd ft2 pl2 aw2 az2 tc2 pt2 1 (nI K) ki fi se si ins cn rc rl rr gt gx gy gf ex ey dx dy bi2 go2 df2 tw2 tl2 st2 ps2 ws mg mr mt mp ma mz ch is sl re (m' + 1) (nI l') := by
        intro m'
        induction m' with
        | zero =>
          intro l' hl' hal
          have e : l' = l := by omega
          subst e
          exact br_t (nI_le (by omega) (by omega)) (H1 hal _ _ _ _ _ _ _ _ _ _ _ _ _ _)
        | succ m' ih' =>
          intro l' hl' hal
          refine br_f (nI_ge (by omega) (by omega)) ?_
          by_cases w : bt p2 l' = true ∧ fz_col tm gx gy gc l'
          · have wb : bt (p2 &&& M) l' = true := by rw [b_and, w.1, (hM l').mpr w.2]; rfl
            obtain ⟨c1, hc1, e1, g1, t1⟩ := hb1 l' w.2
            obtain ⟨c2, hc2, e2, g2, t2⟩ := hb2 l' w.2
            have il : vp_in (nI l') 6 := vp_in_nI (by omega) (by omega)
            refine br_f ((fz_bitT (by omega)).mpr wb) (And.intro il ?_)
            rw [nI_clamp (n := l') (by omega), hre l' (by omega), e1, e2]
            refine And.intro (vp_in_nI (by omega) (by omega)) (And.intro il (And.intro (vp_in_nI (by omega) (by omega)) ?_))
            rw [nI_clamp (n := c1) (by omega), nI_clamp (n := c2) (by omega)]
            by_cases z : tm c1 = tm c2
            · refine br_t ((hC.2.2.2.2 c1 c2 hc1 hc2).mpr z) (nm_r (nI_1 l') (ih' (l' + 1) (by omega) (fun v hv b1 b2 => ?_)))
              by_cases y : v = l'
              · rw [y, ← t1, ← t2]; exact z
              · exact hal v (by omega) b1 b2
            · refine br_f (fun y => z ((hC.2.2.2.2 c1 c2 hc1 hc2).mp y)) (H0 (fun h => z ?_) _ _ _ _ _ _ _ _ _ _ _ _ _ _)
              rw [t1, t2]; exact h l' (by omega) w.1 w.2
          · have wb : bt (p2 &&& M) l' = false := by
              rw [b_and]
              cases b1 : bt p2 l'
              · rfl
              · cases b2 : bt M l'
                · rfl
                · exact absurd ⟨b1, (hM l').mp b2⟩ w
            refine br_t ((fz_bit (by omega)).mpr wb) (nm_r (nI_1 l') (ih' (l' + 1) (by omega) (fun v hv b1 b2 => ?_)))
            by_cases y : v = l'
            · rw [y] at b1 b2; exact absurd ⟨b1, b2⟩ w
            · exact hal v (by omega) b1 b2
      exact cmp l 0 (by omega) (fun v hv => by omega)
    | succ m ih =>
      intro l re hl hre
      have il : vp_in (nI l) 6 := vp_in_nI (by omega) (by omega)
      refine br_f (nI_ge (by omega) (by omega)) (And.intro il (And.intro il (nm_r (e' := upd re l (bi1 l)) (by rw [nI_clamp (by omega)]) (nm_r (nI_1 l) (ih (l + 1) _ (by omega) (fun v hv => ?_))))))
      by_cases y : v = l
      · rw [y]; exact fz_us
      · rw [fz_uo (by omega)]; exact hre v (by omega)
  exact copy nv 0 re (by omega) (fun v hv => by omega)
end
section
variable {n nv gc ec dc : Nat} {tm : Nat → fz_T}
variable {yv yc yg ye yd yo yf : Int32} {sg yi yj yr yl yq yt yx yy yz y1 y2 y3 y4 yh yp yb tx fr sk : Nat → Int32}
theorem fz_yalike {post : Int32 → SY → Prop} (hT : fz_YT n gc ec dc tm sg yi yj yr yl yq yt yx yy y1 y2 y3 y4) (hnv : nv ≤ 6) {K i j : Nat} {p2 : Int32} (hK : K ≤ 1296) (hi : i < K) (hj : j < K) {ρ ρ' : Nat → Nat} (hρ : ∀ g, g < gc → ρ g < fz_rn yr yt g) (hρ' : ∀ g, g < gc → ρ' g < fz_rn yr yt g) (hs : fz_sol tm gc ec dc yl yq yt yx yy y1 y2 y3 y4 ρ) (hs' : fz_sol tm gc ec dc yl yq yt yx yy y1 y2 y3 y4 ρ') (hh : yh i = nI (fz_hn (fz_rn yr yt) ρ gc)) (hh' : yh j = nI (fz_hn (fz_rn yr yt) ρ' gc)) {θ θ' : Nat → fz_T} (hθ : ∀ g, g < gc → fz_mt tm yl yq yt yx yy g (ρ g) θ) (hθ' : ∀ g, g < gc → fz_mt tm yl yq yt yx yy g (ρ' g) θ')
    (H1 : fz_AL tm yx yy gc nv p2 θ θ' → ∀ yp yb tx fr sk : Nat → Int32, post 1 (nI nv, yc, nI gc, nI ec, nI dc, 1, nI K, sg, yi, yj, yr, yl, yq, yt, yx, yy, yz, y1, y2, y3, y4, yh, yp, yb, tx, fr, sk))
    (H0 : ¬ fz_AL tm yx yy gc nv p2 θ θ' → ∀ yp yb tx fr sk : Nat → Int32, post 0 (nI nv, yc, nI gc, nI ec, nI dc, 1, nI K, sg, yi, yj, yr, yl, yq, yt, yx, yy, yz, y1, y2, y3, y4, yh, yp, yb, tx, fr, sk)) :
    wpY_alike post (nI nv, yc, nI gc, nI ec, nI dc, 1, nI K, sg, yi, yj, yr, yl, yq, yt, yx, yy, yz, y1, y2, y3, y4, yh, yp, yb, tx, fr, sk) (nI i) (nI j) p2 := by
  have hn := hT.1.1
  refine br_f (by decide) (br_f (nI_pos (by omega)) (br_f (nI_ge hi (by omega)) (br_f (nI_pos (by omega)) (br_t (nI_lt hj (by omega)) ⟨nv + 1, ?_⟩))))
  have loop : ∀ (m l : Nat) (yp yb tx fr sk : Nat → Int32), l + m = nv → (∀ v, v < l → bt p2 v = true → fz_col tm yx yy gc v → θ v = θ' v) → wY_alike_36 post (nI i) (nI j) p2 (m + 1) (nI l) (nI nv) yc (nI gc) (nI ec) (nI dc) 1 (nI K) sg yi yj yr yl yq yt yx yy yz y1 y2 y3 y4 yh yp yb tx fr sk := by
    intro m
    induction m with
    | zero =>
      intro l yp yb tx fr sk hl hal
      have e : l = nv := by omega
      subst e
      exact br_t (nI_le (by omega) (by omega)) (H1 hal yp yb tx fr sk)
    | succ m ih =>
      intro l yp yb tx fr sk hl hal
      refine br_f (nI_ge (by omega) (by omega)) ?_
      by_cases w : bt p2 l = true
      · refine br_t ((fz_bit1 (by omega)).mpr w) ?_
        refine fz_yval hT hnv hK hi (by omega) hρ hs hh hθ ?_ ?_
        · intro q ⟨c1, hc1, g1, t1⟩ yp1 yb1 tx1 fr1 sk1
          refine fz_yval hT hnv hK hj (by omega) hρ' hs' hh' hθ' ?_ (fun q' => absurd q q')
          intro _ ⟨c2, hc2, g2, t2⟩ yp2 yb2 tx2 fr2 sk2
          have inj := fz_num_inj (fz_CY_wf hT.1 c1 hc1) (fz_CY_wf hT.1 c2 hc2) g1 g2 (hT.2.1 c1 hc1) (hT.2.1 c2 hc2)
          rw [← t1, ← t2] at inj
          by_cases z : θ l = θ' l
          · refine br_t (inj.mpr z) (nm_r (nI_1 l) (ih (l + 1) yp2 yb2 tx2 fr2 sk2 (by omega) (fun v hv b1 b2 => ?_)))
            by_cases y : v = l
            · rw [y]; exact z
            · exact hal v (by omega) b1 b2
          · exact br_f (fun y => z (inj.mp y)) (H0 (fun h => z (h l (by omega) w q)) yp2 yb2 tx2 fr2 sk2)
        · intro q tx1 fr1 sk1
          refine fz_yval hT hnv hK hj (by omega) hρ' hs' hh' hθ' (fun q' => absurd q' q) ?_
          intro _ tx2 fr2 sk2
          refine br_t rfl (nm_r (nI_1 l) (ih (l + 1) yp yb tx2 fr2 sk2 (by omega) (fun v hv b1 b2 => ?_)))
          by_cases y : v = l
          · rw [y] at b2; exact absurd b2 q
          · exact hal v (by omega) b1 b2
      · refine br_f (fun y => w ((fz_bit1 (by omega)).mp y)) (nm_r (nI_1 l) (ih (l + 1) yp yb tx fr sk (by omega) (fun v hv b1 b2 => ?_)))
        by_cases y : v = l
        · rw [y] at b1; exact absurd b1 w
        · exact hal v (by omega) b1 b2
  exact loop nv 0 yp yb tx fr sk (by omega) (fun v hv => by omega)
end
end
section
/-! valueOf, alike -/
theorem i_vc_valueOf {k : Nat} {u : SX} {v : SY} (I : i_Rel k u v) (hk : k + 5 ≤ 2561) (v1 : Int32) (v2 : Int32) : wpX_valueOf (fun r u' => wpY_valueOf (fun r' v' => r' = r ∧ i_Rel (k + 5) u' v') v v1 v2) u v1 v2 := by
  refine fz_el (P := fun u v => wpX_valueOf (fun r u' => wpY_valueOf (fun r' v' => r' = r ∧ i_Rel (k + 5) u' v') v v1 v2) u v1 v2) ?_ I
  intro nv n gc ec dc tm ft pl aw az tc pt so sc ki fi se si ins cn rc rl rr gt gx gy gf ex ey dx dy bi go df tw tl st ps ws mg mr mt mp ma mz ch is sl re yf sg yi yj yh yp yb tx fr sk hF
  have hF' := hF
  obtain ⟨f1, hB, hZ, hY, hSV⟩ := hF'
  have hB' := hB
  obtain ⟨hC, h1, h2, h3, hG, hR, hE, hD, hFr⟩ := hB'
  have hnv := hC.2.1
  rcases hSV with q | ⟨q, hl, K, k1, k2, k3, k4⟩
  · exact br_t q (br_t q ⟨rfl, fz_mk hF⟩)
  · have q' : ¬ so = 0 := by rw [q]; decide
    subst q k2 k3
    rcases fz_ixk v1 k1 with w | ⟨w0, w⟩ | ⟨j, hj, e⟩
    · exact br_f q' (br_t w (br_f q' (br_t w ⟨rfl, fz_mk hF⟩)))
    · exact br_f q' (br_f w0 (br_f (Int32.not_lt.mpr w) (br_f q' (br_f w0 (br_t w ⟨rfl, fz_mk hF⟩)))))
    · subst e
      have p0 := nI_pos (n := j) (by omega)
      have pk := nI_lt (a := j) (b := K) hj (by omega)
      have pk' := nI_ge (a := j) (b := K) hj (by omega)
      rcases fz_ixk v2 (K := nv) (by omega) with w | ⟨w0, w⟩ | ⟨x, hx, e⟩
      · exact br_f q' (br_f p0 (br_t pk (br_t w (br_f q' (br_f p0 (br_f pk' (br_t w ⟨rfl, fz_mk hF⟩)))))))
      · exact br_f q' (br_f p0 (br_t pk (br_f w0 (br_f (Int32.not_lt.mpr w) (br_f q' (br_f p0 (br_f pk' (br_f w0 (br_f (Int32.not_lt.mpr w) ⟨rfl, fz_mk hF⟩)))))))))
      · subst e
        have hT := fz_YT_of hB hZ hY hl
        obtain ⟨ρ, r1, r2, r3, r4⟩ := k4 j hj
        obtain ⟨θ, t1, t2, t3⟩ := r2
        refine fz_xval hC hZ h1 hG hR k1 hj hx r1 r3 t2 ?_ ?_
        · intro hc ft' pl' aw' az' tc' pt' bi' go' df' tw' tl' st' ps' ws'
          exact fz_yval hT hnv k1 hj hx r1 ⟨θ, t1, t2, t3⟩ r4 t2 (fun _ _ yp' yb' tx' fr' sk' => ⟨rfl, fz_mk hF⟩) (fun z => absurd hc z)
        · intro hc
          exact fz_yval hT hnv k1 hj hx r1 ⟨θ, t1, t2, t3⟩ r4 t2 (fun z => absurd z hc) (fun _ tx' fr' sk' => ⟨rfl, fz_mk hF⟩)
theorem i_vc_alike {k : Nat} {u : SX} {v : SY} (I : i_Rel k u v) (hk : k + 5 ≤ 2561) (v1 : Int32) (v2 : Int32) (v3 : Int32) : wpX_alike (fun r u' => wpY_alike (fun r' v' => r' = r ∧ i_Rel (k + 5) u' v') v v1 v2 v3) u v1 v2 v3 := by
  refine fz_el (P := fun u v => wpX_alike (fun r u' => wpY_alike (fun r' v' => r' = r ∧ i_Rel (k + 5) u' v') v v1 v2 v3) u v1 v2 v3) ?_ I
  intro nv n gc ec dc tm ft pl aw az tc pt so sc ki fi se si ins cn rc rl rr gt gx gy gf ex ey dx dy bi go df tw tl st ps ws mg mr mt mp ma mz ch is sl re yf sg yi yj yh yp yb tx fr sk hF
  have hF' := hF
  obtain ⟨f1, hB, hZ, hY, hSV⟩ := hF'
  have hB' := hB
  obtain ⟨hC, h1, h2, h3, hG, hR, hE, hD, hFr⟩ := hB'
  have hnv := hC.2.1
  rcases hSV with q | ⟨q, hl, K, k1, k2, k3, k4⟩
  · exact br_t q (br_t q ⟨rfl, fz_mk hF⟩)
  · have q' : ¬ so = 0 := by rw [q]; decide
    subst q k2 k3
    rcases fz_ixk v1 k1 with w | ⟨w0, w⟩ | ⟨i, hi, e⟩
    · exact br_f q' (br_t w (br_f q' (br_t w ⟨rfl, fz_mk hF⟩)))
    · exact br_f q' (br_f w0 (br_t w (br_f q' (br_f w0 (br_t w ⟨rfl, fz_mk hF⟩)))))
    · subst e
      have p0 := nI_pos (n := i) (by omega)
      have pk' := nI_ge (a := i) (b := K) hi (by omega)
      rcases fz_ixk v2 k1 with w | ⟨w0, w⟩ | ⟨j, hj, e⟩
      · exact br_f q' (br_f p0 (br_f pk' (br_t w (br_f q' (br_f p0 (br_f pk' (br_t w ⟨rfl, fz_mk hF⟩)))))))
      · exact br_f q' (br_f p0 (br_f pk' (br_f w0 (br_f (Int32.not_lt.mpr w) (br_f q' (br_f p0 (br_f pk' (br_f w0 (br_f (Int32.not_lt.mpr w) ⟨rfl, fz_mk hF⟩)))))))))
      · subst e
        have hT := fz_YT_of hB hZ hY hl
        obtain ⟨ρ, r1, ⟨θ, t1, t2, t3⟩, r3, r4⟩ := k4 i hi
        obtain ⟨ρ', r1', ⟨θ', t1', t2', t3'⟩, r3', r4'⟩ := k4 j hj
        refine fz_xalike hC h1 hG hR k1 hi hj r1 r1' r3 r3' t2 t2' ?_ ?_
        · intro hal ft' pl' aw' az' tc' pt' bi' go' df' tw' tl' st' ps' re'
          exact fz_yalike hT hnv k1 hi hj r1 r1' ⟨θ, t1, t2, t3⟩ ⟨θ', t1', t2', t3'⟩ r4 r4' t2 t2' (fun _ yp' yb' tx' fr' sk' => ⟨rfl, fz_mk hF⟩) (fun z => absurd hal z)
        · intro hal ft' pl' aw' az' tc' pt' bi' go' df' tw' tl' st' ps' re'
          exact fz_yalike hT hnv k1 hi hj r1 r1' ⟨θ, t1, t2, t3⟩ ⟨θ', t1', t2', t3'⟩ r4 r4' t2 t2' (fun z => absurd z hal) (fun _ yp' yb' tx' fr' sk' => ⟨rfl, fz_mk hF⟩)
end

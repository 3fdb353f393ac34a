section
/-! pure rows to paste: stores, nI and lN arithmetic, masks, shifts, narrowing, branches by naturals (pk_le, pk_lt, pk_eq), loops (lp1 .. lp16: the measure of the state; rp1 ..: recursion), negatives. Take what you need -/
theorem pk_us {f : Nat → Int32} {k : Nat} {x : Int32} : upd f k x k = x := if_pos rfl
theorem pk_un {f : Nat → Int32} {k j : Nat} {x : Int32} (h : j ≠ k) : upd f k x j = f j := if_neg h
theorem pk_uLs {f : Nat → Int64} {k : Nat} {x : Int64} : vp_updL f k x k = x := if_pos rfl
theorem pk_uLn {f : Nat → Int64} {k j : Nat} {x : Int64} (h : j ≠ k) : vp_updL f k x j = f j := if_neg h
theorem pk_sub {a b : Nat} (h : b ≤ a) : nI a - nI b = nI (a - b) := by
  obtain ⟨c, rfl⟩ : ∃ c, a = c + b := ⟨a - b, by omega⟩
  rw [← nI_add, Int32.add_sub_cancel, Nat.add_sub_cancel]
theorem pk_m1 (n : Nat) : nI (n + 1) + (-1) = nI n := by
  rw [← nI_1, Int32.add_assoc, show (1 : Int32) + (-1) = 0 from rfl, Int32.add_zero]
theorem pk_mul (a b : Nat) : nI a * nI b = nI (a * b) := (Int32.ofNat_mul a b).symm
theorem pk_div {a d : Nat} (ha : a < 2 ^ 31) (h0 : 0 < d) (hd : d < 2 ^ 31) : nI a / nI d = nI (a / d) := by
  apply Int32.toInt_inj.mp
  rw [lg_idiv_nonneg (by rw [nI_toInt ha]; omega) (by rw [nI_toInt hd]; omega), nI_toInt ha, nI_toInt hd, nI_toInt (Nat.lt_of_le_of_lt (Nat.div_le_self a d) ha)]
  first | rfl | exact (Int.natCast_ediv _ _).symm
theorem pk_rem {a d : Nat} (ha : a < 2 ^ 31) (h0 : 0 < d) (hd : d < 2 ^ 31) : nI a - nI a / nI d * nI d = nI (a % d) := by
  rw [pk_div ha h0 hd, pk_mul, pk_sub (Nat.div_mul_le_self a d)]
  exact congrArg nI (by have := Nat.div_add_mod' a d; omega)
theorem pk_sub_toInt {a b : Nat} (ha : a < 2 ^ 30) (hb : b < 2 ^ 30) : (nI a - nI b).toInt = (a : Int) - b := by
  rw [Int32.toInt_sub, nI_toInt (by omega), nI_toInt (by omega)]
  exact Int.bmod_eq_of_le (by omega) (by omega)
theorem pk_sneg {a b : Nat} (hb : b < 2 ^ 30) (h : a < b) : nI a - nI b < 0 := by
  rw [Int32.lt_iff_toInt_lt, pk_sub_toInt (by omega) hb, show (0 : Int32).toInt = 0 from by decide]
  omega
theorem pk_ix (x : Int32) {n : Nat} (hn : n < 2 ^ 31) : x < 0 ∨ nI n ≤ x ∨ ∃ j : Nat, j < n ∧ x = nI j := by
  by_cases h : x < 0
  · exact Or.inl h
  · obtain ⟨j, hj, rfl⟩ := nI_of h
    by_cases h2 : j < n
    · exact Or.inr (Or.inr ⟨j, h2, rfl⟩)
    · exact Or.inr (Or.inl (nI_le (by omega) hj))
theorem pk_le {x y : Int32} {A B : Prop} (a b : Nat) (f : a ≤ b → A) (g : b < a → B) (hx : x = nI a := by rfl) (hy : y = nI b := by rfl) (ha : a < 2 ^ 31 := by omega) (hb : b < 2 ^ 31 := by omega) : (x ≤ y → A) ∧ (¬ x ≤ y → B) := by
  subst hx hy
  rw [nI_leI ha hb]
  exact ⟨f, fun z => g (by omega)⟩
theorem pk_lt {x y : Int32} {A B : Prop} (a b : Nat) (f : a < b → A) (g : b ≤ a → B) (hx : x = nI a := by rfl) (hy : y = nI b := by rfl) (ha : a < 2 ^ 31 := by omega) (hb : b < 2 ^ 31 := by omega) : (x < y → A) ∧ (¬ x < y → B) := by
  subst hx hy
  rw [nI_ltI ha hb]
  exact ⟨f, fun z => g (by omega)⟩
theorem pk_eq {x y : Int32} {A B : Prop} (a b : Nat) (f : a = b → A) (g : a ≠ b → B) (hx : x = nI a := by rfl) (hy : y = nI b := by rfl) (ha : a < 2 ^ 31 := by omega) (hb : b < 2 ^ 31 := by omega) : (x = y → A) ∧ (¬ x = y → B) := by
  subst hx hy
  rw [nI_eq ha hb]
  exact ⟨f, g⟩
theorem pk_in {x : Int32} (n N : Nat) (h : n < N) (hx : x = nI n := by rfl) (hN : N < 2 ^ 31 := by omega) : vp_in x N := by
  subst hx
  exact vp_in_nI h hN
theorem pk_cl {x : Int32} (n : Nat) (hx : x = nI n := by rfl) (h : n < 2 ^ 31 := by omega) : x.toNatClampNeg = n := by
  subst hx
  exact nI_clamp h
theorem pk_tn {n : Nat} (h : n < 2 ^ 32) : (nI n).toBitVec.toNat = n := Nat.mod_eq_of_lt h
theorem pk_and (x : Int32) {m : Int32} (k : Nat) (hm : m.toBitVec.toNat = 2 ^ k - 1) : x &&& m = nI (x.toBitVec.toNat % 2 ^ k) := by
  apply Int32.toBitVec_inj.mp
  apply BitVec.eq_of_toNat_eq
  rw [Int32.toBitVec_and, BitVec.toNat_and, hm, Nat.and_two_pow_sub_one_eq_mod]
  show _ = (BitVec.ofNat 32 _).toNat
  rw [BitVec.toNat_ofNat]
  exact (Nat.mod_eq_of_lt (Nat.lt_of_le_of_lt (Nat.mod_le _ _) x.toBitVec.isLt)).symm
theorem pk_andN {n : Nat} (h : n < 2 ^ 32) {m : Int32} (k : Nat) (hm : m.toBitVec.toNat = 2 ^ k - 1) : nI n &&& m = nI (n % 2 ^ k) := by
  rw [pk_and _ k hm, pk_tn h]
theorem pk_andE (x : Int32) {m : Int32} (k : Nat) (hm : m.toBitVec.toNat = 2 ^ k - 1) : ∃ j : Nat, j < 2 ^ k ∧ x &&& m = nI j := ⟨_, Nat.mod_lt _ (Nat.two_pow_pos k), pk_and x k hm⟩
theorem pk_andIn (x : Int32) {m : Int32} (k : Nat) (hm : m.toBitVec.toNat = 2 ^ k - 1) (hk : k ≤ 30) : vp_in (x &&& m) (2 ^ k) := by
  obtain ⟨j, hj, e⟩ := pk_andE x k hm
  rw [e]
  exact vp_in_nI hj (Nat.lt_of_le_of_lt (Nat.pow_le_pow_right (by decide) hk) (by decide))
theorem pk_shl (a s : Int32) (k : Nat) (hs : (s.toBitVec.smod 32).toNat = k) : (a <<< s).toBitVec.toNat = a.toBitVec.toNat * 2 ^ k % 2 ^ 32 := by
  show (a.toBitVec <<< (s.toBitVec.smod 32).toNat).toNat = _
  rw [hs, BitVec.toNat_shiftLeft, Nat.shiftLeft_eq]
theorem pk_shlN {n : Nat} (s : Int32) (k : Nat) (hs : (s.toBitVec.smod 32).toNat = k) (h : n * 2 ^ k < 2 ^ 32) : nI n <<< s = nI (n * 2 ^ k) := by
  apply Int32.toBitVec_inj.mp
  apply BitVec.eq_of_toNat_eq
  have hn : n < 2 ^ 32 := Nat.lt_of_le_of_lt (Nat.le_mul_of_pos_right n (Nat.two_pow_pos k)) h
  rw [pk_shl _ _ k hs, pk_tn hn, pk_tn h, Nat.mod_eq_of_lt h]
theorem pk_shr (a s : Int32) (k : Nat) (hs : (s.toBitVec.smod 32).toNat = k) : (a >>> s).toInt = a.toInt >>> k := by
  show (a.toBitVec.sshiftRight (s.toBitVec.smod 32).toNat).toInt = _
  rw [hs, BitVec.toInt_sshiftRight]
  rfl
theorem pk_shrN {n : Nat} (h : n < 2 ^ 31) (s : Int32) (k : Nat) (hs : (s.toBitVec.smod 32).toNat = k) : nI n >>> s = nI (n / 2 ^ k) := by
  apply Int32.toInt_inj.mp
  have h2 : n / 2 ^ k ≤ n := Nat.div_le_self _ _
  rw [pk_shr _ _ k hs, nI_toInt h, nI_toInt (by omega), Int.shiftRight_eq_div_pow]
  rfl
theorem pk_ushr (x s : Int32) (k : Nat) (hs : ((s.toUInt32 &&& Int32.toUInt32 31).toBitVec % 32).toNat = k) : (x.toUInt32 >>> (s.toUInt32 &&& Int32.toUInt32 31)).toInt32.toBitVec.toNat = x.toBitVec.toNat / 2 ^ k := by
  have e : (x.toUInt32 >>> (s.toUInt32 &&& Int32.toUInt32 31)).toInt32.toBitVec = x.toBitVec >>> k := by
    rw [← hs]
    exact UInt32.toBitVec_shiftRight _ _
  rw [e, BitVec.toNat_ushiftRight, Nat.shiftRight_eq_div_pow]
theorem pk_ushrN {n : Nat} (hn : n < 2 ^ 32) (s : Int32) (k : Nat) (hs : ((s.toUInt32 &&& Int32.toUInt32 31).toBitVec % 32).toNat = k) : ((nI n).toUInt32 >>> (s.toUInt32 &&& Int32.toUInt32 31)).toInt32 = nI (n / 2 ^ k) := by
  apply Int32.toBitVec_inj.mp
  apply BitVec.eq_of_toNat_eq
  rw [pk_ushr _ s k hs, pk_tn hn, pk_tn (Nat.lt_of_le_of_lt (Nat.div_le_self _ _) hn)]
theorem pk_nb (z : Int32) : narrow .byte (.int z.toInt8.toInt32) = .int z.toInt8.toInt32 := congrArg Value.int (by simp)
theorem pk_ns (z : Int32) : narrow .short (.int z.toInt16.toInt32) = .int z.toInt16.toInt32 := congrArg Value.int (by simp)
theorem pk_fb (r : Int32) : fits .byte (.int r.toInt8.toInt32) = true := by
  have ⟨a, b⟩ := lg_i2b_range r
  have h1 : (-128 : Int32).toInt = -128 := by decide
  have h2 : (127 : Int32).toInt = 127 := by decide
  simp only [fits, Bool.and_eq_true, decide_eq_true_eq, Int32.le_iff_toInt_le, h1, h2]
  omega
theorem pk_fs (r : Int32) : fits .short (.int r.toInt16.toInt32) = true := by
  have ⟨a, b⟩ := lg_i2s_range r
  have h1 : (-32768 : Int32).toInt = -32768 := by decide
  have h2 : (32767 : Int32).toInt = 32767 := by decide
  simp only [fits, Bool.and_eq_true, decide_eq_true_eq, Int32.le_iff_toInt_le, h1, h2]
  omega
theorem pk_charN {q : Nat} (hq : q < 65536) : narrow .char (.int (nI q)) = .int (nI q) ∧ fits .char (.int (nI q)) = true := by
  constructor
  · have e : (nI q).toUInt32.toUInt16.toUInt32.toInt32 = nI q := by
      apply Int32.toBitVec_inj.mp
      apply BitVec.eq_of_toNat_eq
      show (nI q).toUInt32.toUInt16.toUInt32.toNat = q % 2 ^ 32
      rw [UInt16.toNat_toUInt32, UInt32.toNat_toUInt16, show (nI q).toUInt32.toNat = q % 2 ^ 32 from rfl]
      omega
    exact congrArg Value.int e
  · have a : (0 : Int32) ≤ nI q := nI_pos' (by omega)
    have b : nI q ≤ 65535 := nI_le (b := 65535) (by omega) (by decide)
    show (decide ((0 : Int32) ≤ nI q) && decide (nI q ≤ 65535)) = true
    rw [decide_eq_true a, decide_eq_true b]
    rfl
theorem pk_char (x : Int32) : (x.toUInt32 % 65536).toInt32 = nI (x.toBitVec.toNat % 65536) := by
  apply Int32.toBitVec_inj.mp
  apply BitVec.eq_of_toNat_eq
  rw [pk_tn (by omega)]
  show (x.toUInt32 % 65536).toNat = _
  rw [UInt32.toNat_mod]
  rfl
theorem pk_nc (x : Int32) : narrow .char (.int (x.toUInt32 % 65536).toInt32) = .int (x.toUInt32 % 65536).toInt32 := by
  rw [pk_char]
  exact (pk_charN (Nat.mod_lt _ (by decide))).1
theorem pk_fc (x : Int32) : fits .char (.int (x.toUInt32 % 65536).toInt32) = true := by
  rw [pk_char]
  exact (pk_charN (Nat.mod_lt _ (by decide))).2
theorem pk_vb (z : Int32) : vp_nar .byte z.toInt8.toInt32 = z.toInt8.toInt32 := by rw [vp_nar_byte]; simp
theorem pk_vs (z : Int32) : vp_nar .short z.toInt16.toInt32 = z.toInt16.toInt32 := by rw [vp_nar_short]; simp
theorem pk_vc (z : Int32) : vp_nar .char (z.toUInt32 % 65536).toInt32 = (z.toUInt32 % 65536).toInt32 := Value.int.inj (pk_nc z)
theorem pk_lT {n : Nat} (h : n < 2 ^ 63) : (lN n).toInt = (n : Int) := lg_ofNat_toInt h
theorem pk_lLT {a b : Nat} (ha : a < 2 ^ 63) (hb : b < 2 ^ 63) : lN a < lN b ↔ a < b := by
  rw [Int64.lt_iff_toInt_lt, pk_lT ha, pk_lT hb]; omega
theorem pk_lLE {a b : Nat} (ha : a < 2 ^ 63) (hb : b < 2 ^ 63) : lN a ≤ lN b ↔ a ≤ b := by
  rw [Int64.le_iff_toInt_le, pk_lT ha, pk_lT hb]; omega
theorem pk_lEQ {a b : Nat} (ha : a < 2 ^ 63) (hb : b < 2 ^ 63) : lN a = lN b ↔ a = b := by
  rw [← Int64.toInt_inj, pk_lT ha, pk_lT hb]; omega
theorem pk_lOf {x : Int64} (h : ¬ x < 0) : ∃ k : Nat, k < 2 ^ 63 ∧ x = lN k := by
  rw [Int64.lt_iff_toInt_lt] at h
  have h0 : (0 : Int64).toInt = 0 := by decide
  have hx := Int64.toInt_lt x
  refine ⟨x.toInt.toNat, by omega, Int64.toInt_inj.mp ?_⟩
  rw [pk_lT (by omega)]
  omega
theorem pk_lDiv {a b : Nat} (ha : a < 2 ^ 63) (h0 : 0 < b) (hb : b < 2 ^ 63) : lN a / lN b = lN (a / b) := by
  apply Int64.toInt_inj.mp
  rw [lg_ldiv_nonneg (by rw [pk_lT ha]; omega) (by rw [pk_lT hb]; omega), pk_lT ha, pk_lT hb, pk_lT (Nat.lt_of_le_of_lt (Nat.div_le_self a b) ha)]
  rfl
theorem pk_lRem {a b : Nat} (ha : a < 2 ^ 63) (h0 : 0 < b) (hb : b < 2 ^ 63) : lN a - lN a / lN b * lN b = lN (a % b) := by
  rw [pk_lDiv ha h0 hb, lN_mul, lN_sub (Nat.div_mul_le_self a b)]
  exact congrArg lN (by have := Nat.div_add_mod' a b; omega)
theorem pk_loop {σ : Type} (W : Nat → Nat → σ → Prop) (I : Nat → σ → Prop) (e i0 : Nat) (s : σ) (hi : i0 ≤ e) (h0 : I i0 s) (hx : ∀ n s, I e s → W (n + 1) e s)
    (hs : ∀ n i s, i < e → I i s → (∀ s', I (i + 1) s' → W n (i + 1) s') → W (n + 1) i s) : ∃ n, W n i0 s :=
  ⟨e + 1, loop_i W I e hx hs (e + 1) i0 s hi (by omega) h0⟩
theorem pk_loopD {σ : Type} (W : Nat → Nat → σ → Prop) (I : Nat → σ → Prop) (hx : ∀ n s, I 0 s → W (n + 1) 0 s)
    (hs : ∀ n i s, I (i + 1) s → (∀ s', I i s' → W n i s') → W (n + 1) (i + 1) s) : ∀ (e : Nat) (s : σ), I e s → W (e + 1) e s := by
  intro e
  induction e with
  | zero => exact fun s h => hx 0 s h
  | succ e ih => exact fun s h => hs (e + 1) e s h (fun s' h' => ih s' h')
theorem lp1 {A1 : Type} (W : Nat → A1 → Prop) (I : A1 → Prop) (μ : A1 → Nat) (hs : ∀ (n : Nat) (a1 : A1), I a1 → (∀ (b1 : A1), I b1 → μ b1 < μ a1 → W n b1) → W (n + 1) a1) (a1 : A1) (h : I a1) : ∃ n, W n a1 :=
  loop_m (σ := A1) (fun n s => W n s) (fun s => I s) (fun s => μ s) (fun n s hI hk => hs n s hI (fun b1 h9 hm => hk b1 h9 hm)) a1 h
theorem lp2 {A1 A2 : Type} (W : Nat → A1 → A2 → Prop) (I : A1 → A2 → Prop) (μ : A1 → A2 → Nat) (hs : ∀ (n : Nat) (a1 : A1) (a2 : A2), I a1 a2 → (∀ (b1 : A1) (b2 : A2), I b1 b2 → μ b1 b2 < μ a1 a2 → W n b1 b2) → W (n + 1) a1 a2) (a1 : A1) (a2 : A2) (h : I a1 a2) : ∃ n, W n a1 a2 :=
  loop_m (σ := A1 × A2) (fun n s => W n s.1 s.2) (fun s => I s.1 s.2) (fun s => μ s.1 s.2) (fun n s hI hk => hs n s.1 s.2 hI (fun b1 b2 h9 hm => hk (b1, b2) h9 hm)) (a1, a2) h
theorem lp3 {A1 A2 A3 : Type} (W : Nat → A1 → A2 → A3 → Prop) (I : A1 → A2 → A3 → Prop) (μ : A1 → A2 → A3 → Nat) (hs : ∀ (n : Nat) (a1 : A1) (a2 : A2) (a3 : A3), I a1 a2 a3 → (∀ (b1 : A1) (b2 : A2) (b3 : A3), I b1 b2 b3 → μ b1 b2 b3 < μ a1 a2 a3 → W n b1 b2 b3) → W (n + 1) a1 a2 a3) (a1 : A1) (a2 : A2) (a3 : A3) (h : I a1 a2 a3) : ∃ n, W n a1 a2 a3 :=
  loop_m (σ := A1 × A2 × A3) (fun n s => W n s.1 s.2.1 s.2.2) (fun s => I s.1 s.2.1 s.2.2) (fun s => μ s.1 s.2.1 s.2.2) (fun n s hI hk => hs n s.1 s.2.1 s.2.2 hI (fun b1 b2 b3 h9 hm => hk (b1, b2, b3) h9 hm)) (a1, a2, a3) h
theorem lp4 {A1 A2 A3 A4 : Type} (W : Nat → A1 → A2 → A3 → A4 → Prop) (I : A1 → A2 → A3 → A4 → Prop) (μ : A1 → A2 → A3 → A4 → Nat) (hs : ∀ (n : Nat) (a1 : A1) (a2 : A2) (a3 : A3) (a4 : A4), I a1 a2 a3 a4 → (∀ (b1 : A1) (b2 : A2) (b3 : A3) (b4 : A4), I b1 b2 b3 b4 → μ b1 b2 b3 b4 < μ a1 a2 a3 a4 → W n b1 b2 b3 b4) → W (n + 1) a1 a2 a3 a4) (a1 : A1) (a2 : A2) (a3 : A3) (a4 : A4) (h : I a1 a2 a3 a4) : ∃ n, W n a1 a2 a3 a4 :=
  loop_m (σ := A1 × A2 × A3 × A4) (fun n s => W n s.1 s.2.1 s.2.2.1 s.2.2.2) (fun s => I s.1 s.2.1 s.2.2.1 s.2.2.2) (fun s => μ s.1 s.2.1 s.2.2.1 s.2.2.2) (fun n s hI hk => hs n s.1 s.2.1 s.2.2.1 s.2.2.2 hI (fun b1 b2 b3 b4 h9 hm => hk (b1, b2, b3, b4) h9 hm)) (a1, a2, a3, a4) h
theorem lp5 {A1 A2 A3 A4 A5 : Type} (W : Nat → A1 → A2 → A3 → A4 → A5 → Prop) (I : A1 → A2 → A3 → A4 → A5 → Prop) (μ : A1 → A2 → A3 → A4 → A5 → Nat) (hs : ∀ (n : Nat) (a1 : A1) (a2 : A2) (a3 : A3) (a4 : A4) (a5 : A5), I a1 a2 a3 a4 a5 → (∀ (b1 : A1) (b2 : A2) (b3 : A3) (b4 : A4) (b5 : A5), I b1 b2 b3 b4 b5 → μ b1 b2 b3 b4 b5 < μ a1 a2 a3 a4 a5 → W n b1 b2 b3 b4 b5) → W (n + 1) a1 a2 a3 a4 a5) (a1 : A1) (a2 : A2) (a3 : A3) (a4 : A4) (a5 : A5) (h : I a1 a2 a3 a4 a5) : ∃ n, W n a1 a2 a3 a4 a5 :=
  loop_m (σ := A1 × A2 × A3 × A4 × A5) (fun n s => W n s.1 s.2.1 s.2.2.1 s.2.2.2.1 s.2.2.2.2) (fun s => I s.1 s.2.1 s.2.2.1 s.2.2.2.1 s.2.2.2.2) (fun s => μ s.1 s.2.1 s.2.2.1 s.2.2.2.1 s.2.2.2.2) (fun n s hI hk => hs n s.1 s.2.1 s.2.2.1 s.2.2.2.1 s.2.2.2.2 hI (fun b1 b2 b3 b4 b5 h9 hm => hk (b1, b2, b3, b4, b5) h9 hm)) (a1, a2, a3, a4, a5) h
theorem lp6 {A1 A2 A3 A4 A5 A6 : Type} (W : Nat → A1 → A2 → A3 → A4 → A5 → A6 → Prop) (I : A1 → A2 → A3 → A4 → A5 → A6 → Prop) (μ : A1 → A2 → A3 → A4 → A5 → A6 → Nat) (hs : ∀ (n : Nat) (a1 : A1) (a2 : A2) (a3 : A3) (a4 : A4) (a5 : A5) (a6 : A6), I a1 a2 a3 a4 a5 a6 → (∀ (b1 : A1) (b2 : A2) (b3 : A3) (b4 : A4) (b5 : A5) (b6 : A6), I b1 b2 b3 b4 b5 b6 → μ b1 b2 b3 b4 b5 b6 < μ a1 a2 a3 a4 a5 a6 → W n b1 b2 b3 b4 b5 b6) → W (n + 1) a1 a2 a3 a4 a5 a6) (a1 : A1) (a2 : A2) (a3 : A3) (a4 : A4) (a5 : A5) (a6 : A6) (h : I a1 a2 a3 a4 a5 a6) : ∃ n, W n a1 a2 a3 a4 a5 a6 :=
  loop_m (σ := A1 × A2 × A3 × A4 × A5 × A6) (fun n s => W n s.1 s.2.1 s.2.2.1 s.2.2.2.1 s.2.2.2.2.1 s.2.2.2.2.2) (fun s => I s.1 s.2.1 s.2.2.1 s.2.2.2.1 s.2.2.2.2.1 s.2.2.2.2.2) (fun s => μ s.1 s.2.1 s.2.2.1 s.2.2.2.1 s.2.2.2.2.1 s.2.2.2.2.2) (fun n s hI hk => hs n s.1 s.2.1 s.2.2.1 s.2.2.2.1 s.2.2.2.2.1 s.2.2.2.2.2 hI (fun b1 b2 b3 b4 b5 b6 h9 hm => hk (b1, b2, b3, b4, b5, b6) h9 hm)) (a1, a2, a3, a4, a5, a6) h
theorem lp7 {A1 A2 A3 A4 A5 A6 A7 : Type} (W : Nat → A1 → A2 → A3 → A4 → A5 → A6 → A7 → Prop) (I : A1 → A2 → A3 → A4 → A5 → A6 → A7 → Prop) (μ : A1 → A2 → A3 → A4 → A5 → A6 → A7 → Nat) (hs : ∀ (n : Nat) (a1 : A1) (a2 : A2) (a3 : A3) (a4 : A4) (a5 : A5) (a6 : A6) (a7 : A7), I a1 a2 a3 a4 a5 a6 a7 → (∀ (b1 : A1) (b2 : A2) (b3 : A3) (b4 : A4) (b5 : A5) (b6 : A6) (b7 : A7), I b1 b2 b3 b4 b5 b6 b7 → μ b1 b2 b3 b4 b5 b6 b7 < μ a1 a2 a3 a4 a5 a6 a7 → W n b1 b2 b3 b4 b5 b6 b7) → W (n + 1) a1 a2 a3 a4 a5 a6 a7) (a1 : A1) (a2 : A2) (a3 : A3) (a4 : A4) (a5 : A5) (a6 : A6) (a7 : A7) (h : I a1 a2 a3 a4 a5 a6 a7) : ∃ n, W n a1 a2 a3 a4 a5 a6 a7 :=
  loop_m (σ := A1 × A2 × A3 × A4 × A5 × A6 × A7) (fun n s => W n s.1 s.2.1 s.2.2.1 s.2.2.2.1 s.2.2.2.2.1 s.2.2.2.2.2.1 s.2.2.2.2.2.2) (fun s => I s.1 s.2.1 s.2.2.1 s.2.2.2.1 s.2.2.2.2.1 s.2.2.2.2.2.1 s.2.2.2.2.2.2) (fun s => μ s.1 s.2.1 s.2.2.1 s.2.2.2.1 s.2.2.2.2.1 s.2.2.2.2.2.1 s.2.2.2.2.2.2) (fun n s hI hk => hs n s.1 s.2.1 s.2.2.1 s.2.2.2.1 s.2.2.2.2.1 s.2.2.2.2.2.1 s.2.2.2.2.2.2 hI (fun b1 b2 b3 b4 b5 b6 b7 h9 hm => hk (b1, b2, b3, b4, b5, b6, b7) h9 hm)) (a1, a2, a3, a4, a5, a6, a7) h
theorem lp8 {A1 A2 A3 A4 A5 A6 A7 A8 : Type} (W : Nat → A1 → A2 → A3 → A4 → A5 → A6 → A7 → A8 → Prop) (I : A1 → A2 → A3 → A4 → A5 → A6 → A7 → A8 → Prop) (μ : A1 → A2 → A3 → A4 → A5 → A6 → A7 → A8 → Nat) (hs : ∀ (n : Nat) (a1 : A1) (a2 : A2) (a3 : A3) (a4 : A4) (a5 : A5) (a6 : A6) (a7 : A7) (a8 : A8), I a1 a2 a3 a4 a5 a6 a7 a8 → (∀ (b1 : A1) (b2 : A2) (b3 : A3) (b4 : A4) (b5 : A5) (b6 : A6) (b7 : A7) (b8 : A8), I b1 b2 b3 b4 b5 b6 b7 b8 → μ b1 b2 b3 b4 b5 b6 b7 b8 < μ a1 a2 a3 a4 a5 a6 a7 a8 → W n b1 b2 b3 b4 b5 b6 b7 b8) → W (n + 1) a1 a2 a3 a4 a5 a6 a7 a8) (a1 : A1) (a2 : A2) (a3 : A3) (a4 : A4) (a5 : A5) (a6 : A6) (a7 : A7) (a8 : A8) (h : I a1 a2 a3 a4 a5 a6 a7 a8) : ∃ n, W n a1 a2 a3 a4 a5 a6 a7 a8 :=
  loop_m (σ := A1 × A2 × A3 × A4 × A5 × A6 × A7 × A8) (fun n s => W n s.1 s.2.1 s.2.2.1 s.2.2.2.1 s.2.2.2.2.1 s.2.2.2.2.2.1 s.2.2.2.2.2.2.1 s.2.2.2.2.2.2.2) (fun s => I s.1 s.2.1 s.2.2.1 s.2.2.2.1 s.2.2.2.2.1 s.2.2.2.2.2.1 s.2.2.2.2.2.2.1 s.2.2.2.2.2.2.2) (fun s => μ s.1 s.2.1 s.2.2.1 s.2.2.2.1 s.2.2.2.2.1 s.2.2.2.2.2.1 s.2.2.2.2.2.2.1 s.2.2.2.2.2.2.2) (fun n s hI hk => hs n s.1 s.2.1 s.2.2.1 s.2.2.2.1 s.2.2.2.2.1 s.2.2.2.2.2.1 s.2.2.2.2.2.2.1 s.2.2.2.2.2.2.2 hI (fun b1 b2 b3 b4 b5 b6 b7 b8 h9 hm => hk (b1, b2, b3, b4, b5, b6, b7, b8) h9 hm)) (a1, a2, a3, a4, a5, a6, a7, a8) h
theorem lp9 {A1 A2 A3 A4 A5 A6 A7 A8 A9 : Type} (W : Nat → A1 → A2 → A3 → A4 → A5 → A6 → A7 → A8 → A9 → Prop) (I : A1 → A2 → A3 → A4 → A5 → A6 → A7 → A8 → A9 → Prop) (μ : A1 → A2 → A3 → A4 → A5 → A6 → A7 → A8 → A9 → Nat) (hs : ∀ (n : Nat) (a1 : A1) (a2 : A2) (a3 : A3) (a4 : A4) (a5 : A5) (a6 : A6) (a7 : A7) (a8 : A8) (a9 : A9), I a1 a2 a3 a4 a5 a6 a7 a8 a9 → (∀ (b1 : A1) (b2 : A2) (b3 : A3) (b4 : A4) (b5 : A5) (b6 : A6) (b7 : A7) (b8 : A8) (b9 : A9), I b1 b2 b3 b4 b5 b6 b7 b8 b9 → μ b1 b2 b3 b4 b5 b6 b7 b8 b9 < μ a1 a2 a3 a4 a5 a6 a7 a8 a9 → W n b1 b2 b3 b4 b5 b6 b7 b8 b9) → W (n + 1) a1 a2 a3 a4 a5 a6 a7 a8 a9) (a1 : A1) (a2 : A2) (a3 : A3) (a4 : A4) (a5 : A5) (a6 : A6) (a7 : A7) (a8 : A8) (a9 : A9) (h : I a1 a2 a3 a4 a5 a6 a7 a8 a9) : ∃ n, W n a1 a2 a3 a4 a5 a6 a7 a8 a9 :=
  loop_m (σ := A1 × A2 × A3 × A4 × A5 × A6 × A7 × A8 × A9) (fun n s => W n s.1 s.2.1 s.2.2.1 s.2.2.2.1 s.2.2.2.2.1 s.2.2.2.2.2.1 s.2.2.2.2.2.2.1 s.2.2.2.2.2.2.2.1 s.2.2.2.2.2.2.2.2) (fun s => I s.1 s.2.1 s.2.2.1 s.2.2.2.1 s.2.2.2.2.1 s.2.2.2.2.2.1 s.2.2.2.2.2.2.1 s.2.2.2.2.2.2.2.1 s.2.2.2.2.2.2.2.2) (fun s => μ s.1 s.2.1 s.2.2.1 s.2.2.2.1 s.2.2.2.2.1 s.2.2.2.2.2.1 s.2.2.2.2.2.2.1 s.2.2.2.2.2.2.2.1 s.2.2.2.2.2.2.2.2) (fun n s hI hk => hs n s.1 s.2.1 s.2.2.1 s.2.2.2.1 s.2.2.2.2.1 s.2.2.2.2.2.1 s.2.2.2.2.2.2.1 s.2.2.2.2.2.2.2.1 s.2.2.2.2.2.2.2.2 hI (fun b1 b2 b3 b4 b5 b6 b7 b8 b9 h9 hm => hk (b1, b2, b3, b4, b5, b6, b7, b8, b9) h9 hm)) (a1, a2, a3, a4, a5, a6, a7, a8, a9) h
theorem lp10 {A1 A2 A3 A4 A5 A6 A7 A8 A9 A10 : Type} (W : Nat → A1 → A2 → A3 → A4 → A5 → A6 → A7 → A8 → A9 → A10 → Prop) (I : A1 → A2 → A3 → A4 → A5 → A6 → A7 → A8 → A9 → A10 → Prop) (μ : A1 → A2 → A3 → A4 → A5 → A6 → A7 → A8 → A9 → A10 → Nat) (hs : ∀ (n : Nat) (a1 : A1) (a2 : A2) (a3 : A3) (a4 : A4) (a5 : A5) (a6 : A6) (a7 : A7) (a8 : A8) (a9 : A9) (a10 : A10), I a1 a2 a3 a4 a5 a6 a7 a8 a9 a10 → (∀ (b1 : A1) (b2 : A2) (b3 : A3) (b4 : A4) (b5 : A5) (b6 : A6) (b7 : A7) (b8 : A8) (b9 : A9) (b10 : A10), I b1 b2 b3 b4 b5 b6 b7 b8 b9 b10 → μ b1 b2 b3 b4 b5 b6 b7 b8 b9 b10 < μ a1 a2 a3 a4 a5 a6 a7 a8 a9 a10 → W n b1 b2 b3 b4 b5 b6 b7 b8 b9 b10) → W (n + 1) a1 a2 a3 a4 a5 a6 a7 a8 a9 a10) (a1 : A1) (a2 : A2) (a3 : A3) (a4 : A4) (a5 : A5) (a6 : A6) (a7 : A7) (a8 : A8) (a9 : A9) (a10 : A10) (h : I a1 a2 a3 a4 a5 a6 a7 a8 a9 a10) : ∃ n, W n a1 a2 a3 a4 a5 a6 a7 a8 a9 a10 :=
  loop_m (σ := A1 × A2 × A3 × A4 × A5 × A6 × A7 × A8 × A9 × A10) (fun n s => W n s.1 s.2.1 s.2.2.1 s.2.2.2.1 s.2.2.2.2.1 s.2.2.2.2.2.1 s.2.2.2.2.2.2.1 s.2.2.2.2.2.2.2.1 s.2.2.2.2.2.2.2.2.1 s.2.2.2.2.2.2.2.2.2) (fun s => I s.1 s.2.1 s.2.2.1 s.2.2.2.1 s.2.2.2.2.1 s.2.2.2.2.2.1 s.2.2.2.2.2.2.1 s.2.2.2.2.2.2.2.1 s.2.2.2.2.2.2.2.2.1 s.2.2.2.2.2.2.2.2.2) (fun s => μ s.1 s.2.1 s.2.2.1 s.2.2.2.1 s.2.2.2.2.1 s.2.2.2.2.2.1 s.2.2.2.2.2.2.1 s.2.2.2.2.2.2.2.1 s.2.2.2.2.2.2.2.2.1 s.2.2.2.2.2.2.2.2.2) (fun n s hI hk => hs n s.1 s.2.1 s.2.2.1 s.2.2.2.1 s.2.2.2.2.1 s.2.2.2.2.2.1 s.2.2.2.2.2.2.1 s.2.2.2.2.2.2.2.1 s.2.2.2.2.2.2.2.2.1 s.2.2.2.2.2.2.2.2.2 hI (fun b1 b2 b3 b4 b5 b6 b7 b8 b9 b10 h9 hm => hk (b1, b2, b3, b4, b5, b6, b7, b8, b9, b10) h9 hm)) (a1, a2, a3, a4, a5, a6, a7, a8, a9, a10) h
theorem lp11 {A1 A2 A3 A4 A5 A6 A7 A8 A9 A10 A11 : Type} (W : Nat → A1 → A2 → A3 → A4 → A5 → A6 → A7 → A8 → A9 → A10 → A11 → Prop) (I : A1 → A2 → A3 → A4 → A5 → A6 → A7 → A8 → A9 → A10 → A11 → Prop) (μ : A1 → A2 → A3 → A4 → A5 → A6 → A7 → A8 → A9 → A10 → A11 → Nat) (hs : ∀ (n : Nat) (a1 : A1) (a2 : A2) (a3 : A3) (a4 : A4) (a5 : A5) (a6 : A6) (a7 : A7) (a8 : A8) (a9 : A9) (a10 : A10) (a11 : A11), I a1 a2 a3 a4 a5 a6 a7 a8 a9 a10 a11 → (∀ (b1 : A1) (b2 : A2) (b3 : A3) (b4 : A4) (b5 : A5) (b6 : A6) (b7 : A7) (b8 : A8) (b9 : A9) (b10 : A10) (b11 : A11), I b1 b2 b3 b4 b5 b6 b7 b8 b9 b10 b11 → μ b1 b2 b3 b4 b5 b6 b7 b8 b9 b10 b11 < μ a1 a2 a3 a4 a5 a6 a7 a8 a9 a10 a11 → W n b1 b2 b3 b4 b5 b6 b7 b8 b9 b10 b11) → W (n + 1) a1 a2 a3 a4 a5 a6 a7 a8 a9 a10 a11) (a1 : A1) (a2 : A2) (a3 : A3) (a4 : A4) (a5 : A5) (a6 : A6) (a7 : A7) (a8 : A8) (a9 : A9) (a10 : A10) (a11 : A11) (h : I a1 a2 a3 a4 a5 a6 a7 a8 a9 a10 a11) : ∃ n, W n a1 a2 a3 a4 a5 a6 a7 a8 a9 a10 a11 :=
  loop_m (σ := A1 × A2 × A3 × A4 × A5 × A6 × A7 × A8 × A9 × A10 × A11) (fun n s => W n s.1 s.2.1 s.2.2.1 s.2.2.2.1 s.2.2.2.2.1 s.2.2.2.2.2.1 s.2.2.2.2.2.2.1 s.2.2.2.2.2.2.2.1 s.2.2.2.2.2.2.2.2.1 s.2.2.2.2.2.2.2.2.2.1 s.2.2.2.2.2.2.2.2.2.2) (fun s => I s.1 s.2.1 s.2.2.1 s.2.2.2.1 s.2.2.2.2.1 s.2.2.2.2.2.1 s.2.2.2.2.2.2.1 s.2.2.2.2.2.2.2.1 s.2.2.2.2.2.2.2.2.1 s.2.2.2.2.2.2.2.2.2.1 s.2.2.2.2.2.2.2.2.2.2) (fun s => μ s.1 s.2.1 s.2.2.1 s.2.2.2.1 s.2.2.2.2.1 s.2.2.2.2.2.1 s.2.2.2.2.2.2.1 s.2.2.2.2.2.2.2.1 s.2.2.2.2.2.2.2.2.1 s.2.2.2.2.2.2.2.2.2.1 s.2.2.2.2.2.2.2.2.2.2) (fun n s hI hk => hs n s.1 s.2.1 s.2.2.1 s.2.2.2.1 s.2.2.2.2.1 s.2.2.2.2.2.1 s.2.2.2.2.2.2.1 s.2.2.2.2.2.2.2.1 s.2.2.2.2.2.2.2.2.1 s.2.2.2.2.2.2.2.2.2.1 s.2.2.2.2.2.2.2.2.2.2 hI (fun b1 b2 b3 b4 b5 b6 b7 b8 b9 b10 b11 h9 hm => hk (b1, b2, b3, b4, b5, b6, b7, b8, b9, b10, b11) h9 hm)) (a1, a2, a3, a4, a5, a6, a7, a8, a9, a10, a11) h
theorem lp12 {A1 A2 A3 A4 A5 A6 A7 A8 A9 A10 A11 A12 : Type} (W : Nat → A1 → A2 → A3 → A4 → A5 → A6 → A7 → A8 → A9 → A10 → A11 → A12 → Prop) (I : A1 → A2 → A3 → A4 → A5 → A6 → A7 → A8 → A9 → A10 → A11 → A12 → Prop) (μ : A1 → A2 → A3 → A4 → A5 → A6 → A7 → A8 → A9 → A10 → A11 → A12 → Nat) (hs : ∀ (n : Nat) (a1 : A1) (a2 : A2) (a3 : A3) (a4 : A4) (a5 : A5) (a6 : A6) (a7 : A7) (a8 : A8) (a9 : A9) (a10 : A10) (a11 : A11) (a12 : A12), I a1 a2 a3 a4 a5 a6 a7 a8 a9 a10 a11 a12 → (∀ (b1 : A1) (b2 : A2) (b3 : A3) (b4 : A4) (b5 : A5) (b6 : A6) (b7 : A7) (b8 : A8) (b9 : A9) (b10 : A10) (b11 : A11) (b12 : A12), I b1 b2 b3 b4 b5 b6 b7 b8 b9 b10 b11 b12 → μ b1 b2 b3 b4 b5 b6 b7 b8 b9 b10 b11 b12 < μ a1 a2 a3 a4 a5 a6 a7 a8 a9 a10 a11 a12 → W n b1 b2 b3 b4 b5 b6 b7 b8 b9 b10 b11 b12) → W (n + 1) a1 a2 a3 a4 a5 a6 a7 a8 a9 a10 a11 a12) (a1 : A1) (a2 : A2) (a3 : A3) (a4 : A4) (a5 : A5) (a6 : A6) (a7 : A7) (a8 : A8) (a9 : A9) (a10 : A10) (a11 : A11) (a12 : A12) (h : I a1 a2 a3 a4 a5 a6 a7 a8 a9 a10 a11 a12) : ∃ n, W n a1 a2 a3 a4 a5 a6 a7 a8 a9 a10 a11 a12 :=
  loop_m (σ := A1 × A2 × A3 × A4 × A5 × A6 × A7 × A8 × A9 × A10 × A11 × A12) (fun n s => W n s.1 s.2.1 s.2.2.1 s.2.2.2.1 s.2.2.2.2.1 s.2.2.2.2.2.1 s.2.2.2.2.2.2.1 s.2.2.2.2.2.2.2.1 s.2.2.2.2.2.2.2.2.1 s.2.2.2.2.2.2.2.2.2.1 s.2.2.2.2.2.2.2.2.2.2.1 s.2.2.2.2.2.2.2.2.2.2.2) (fun s => I s.1 s.2.1 s.2.2.1 s.2.2.2.1 s.2.2.2.2.1 s.2.2.2.2.2.1 s.2.2.2.2.2.2.1 s.2.2.2.2.2.2.2.1 s.2.2.2.2.2.2.2.2.1 s.2.2.2.2.2.2.2.2.2.1 s.2.2.2.2.2.2.2.2.2.2.1 s.2.2.2.2.2.2.2.2.2.2.2) (fun s => μ s.1 s.2.1 s.2.2.1 s.2.2.2.1 s.2.2.2.2.1 s.2.2.2.2.2.1 s.2.2.2.2.2.2.1 s.2.2.2.2.2.2.2.1 s.2.2.2.2.2.2.2.2.1 s.2.2.2.2.2.2.2.2.2.1 s.2.2.2.2.2.2.2.2.2.2.1 s.2.2.2.2.2.2.2.2.2.2.2) (fun n s hI hk => hs n s.1 s.2.1 s.2.2.1 s.2.2.2.1 s.2.2.2.2.1 s.2.2.2.2.2.1 s.2.2.2.2.2.2.1 s.2.2.2.2.2.2.2.1 s.2.2.2.2.2.2.2.2.1 s.2.2.2.2.2.2.2.2.2.1 s.2.2.2.2.2.2.2.2.2.2.1 s.2.2.2.2.2.2.2.2.2.2.2 hI (fun b1 b2 b3 b4 b5 b6 b7 b8 b9 b10 b11 b12 h9 hm => hk (b1, b2, b3, b4, b5, b6, b7, b8, b9, b10, b11, b12) h9 hm)) (a1, a2, a3, a4, a5, a6, a7, a8, a9, a10, a11, a12) h
theorem lp13 {A1 A2 A3 A4 A5 A6 A7 A8 A9 A10 A11 A12 A13 : Type} (W : Nat → A1 → A2 → A3 → A4 → A5 → A6 → A7 → A8 → A9 → A10 → A11 → A12 → A13 → Prop) (I : A1 → A2 → A3 → A4 → A5 → A6 → A7 → A8 → A9 → A10 → A11 → A12 → A13 → Prop) (μ : A1 → A2 → A3 → A4 → A5 → A6 → A7 → A8 → A9 → A10 → A11 → A12 → A13 → Nat) (hs : ∀ (n : Nat) (a1 : A1) (a2 : A2) (a3 : A3) (a4 : A4) (a5 : A5) (a6 : A6) (a7 : A7) (a8 : A8) (a9 : A9) (a10 : A10) (a11 : A11) (a12 : A12) (a13 : A13), I a1 a2 a3 a4 a5 a6 a7 a8 a9 a10 a11 a12 a13 → (∀ (b1 : A1) (b2 : A2) (b3 : A3) (b4 : A4) (b5 : A5) (b6 : A6) (b7 : A7) (b8 : A8) (b9 : A9) (b10 : A10) (b11 : A11) (b12 : A12) (b13 : A13), I b1 b2 b3 b4 b5 b6 b7 b8 b9 b10 b11 b12 b13 → μ b1 b2 b3 b4 b5 b6 b7 b8 b9 b10 b11 b12 b13 < μ a1 a2 a3 a4 a5 a6 a7 a8 a9 a10 a11 a12 a13 → W n b1 b2 b3 b4 b5 b6 b7 b8 b9 b10 b11 b12 b13) → W (n + 1) a1 a2 a3 a4 a5 a6 a7 a8 a9 a10 a11 a12 a13) (a1 : A1) (a2 : A2) (a3 : A3) (a4 : A4) (a5 : A5) (a6 : A6) (a7 : A7) (a8 : A8) (a9 : A9) (a10 : A10) (a11 : A11) (a12 : A12) (a13 : A13) (h : I a1 a2 a3 a4 a5 a6 a7 a8 a9 a10 a11 a12 a13) : ∃ n, W n a1 a2 a3 a4 a5 a6 a7 a8 a9 a10 a11 a12 a13 :=
  loop_m (σ := A1 × A2 × A3 × A4 × A5 × A6 × A7 × A8 × A9 × A10 × A11 × A12 × A13) (fun n s => W n s.1 s.2.1 s.2.2.1 s.2.2.2.1 s.2.2.2.2.1 s.2.2.2.2.2.1 s.2.2.2.2.2.2.1 s.2.2.2.2.2.2.2.1 s.2.2.2.2.2.2.2.2.1 s.2.2.2.2.2.2.2.2.2.1 s.2.2.2.2.2.2.2.2.2.2.1 s.2.2.2.2.2.2.2.2.2.2.2.1 s.2.2.2.2.2.2.2.2.2.2.2.2) (fun s => I s.1 s.2.1 s.2.2.1 s.2.2.2.1 s.2.2.2.2.1 s.2.2.2.2.2.1 s.2.2.2.2.2.2.1 s.2.2.2.2.2.2.2.1 s.2.2.2.2.2.2.2.2.1 s.2.2.2.2.2.2.2.2.2.1 s.2.2.2.2.2.2.2.2.2.2.1 s.2.2.2.2.2.2.2.2.2.2.2.1 s.2.2.2.2.2.2.2.2.2.2.2.2) (fun s => μ s.1 s.2.1 s.2.2.1 s.2.2.2.1 s.2.2.2.2.1 s.2.2.2.2.2.1 s.2.2.2.2.2.2.1 s.2.2.2.2.2.2.2.1 s.2.2.2.2.2.2.2.2.1 s.2.2.2.2.2.2.2.2.2.1 s.2.2.2.2.2.2.2.2.2.2.1 s.2.2.2.2.2.2.2.2.2.2.2.1 s.2.2.2.2.2.2.2.2.2.2.2.2) (fun n s hI hk => hs n s.1 s.2.1 s.2.2.1 s.2.2.2.1 s.2.2.2.2.1 s.2.2.2.2.2.1 s.2.2.2.2.2.2.1 s.2.2.2.2.2.2.2.1 s.2.2.2.2.2.2.2.2.1 s.2.2.2.2.2.2.2.2.2.1 s.2.2.2.2.2.2.2.2.2.2.1 s.2.2.2.2.2.2.2.2.2.2.2.1 s.2.2.2.2.2.2.2.2.2.2.2.2 hI (fun b1 b2 b3 b4 b5 b6 b7 b8 b9 b10 b11 b12 b13 h9 hm => hk (b1, b2, b3, b4, b5, b6, b7, b8, b9, b10, b11, b12, b13) h9 hm)) (a1, a2, a3, a4, a5, a6, a7, a8, a9, a10, a11, a12, a13) h
theorem lp14 {A1 A2 A3 A4 A5 A6 A7 A8 A9 A10 A11 A12 A13 A14 : Type} (W : Nat → A1 → A2 → A3 → A4 → A5 → A6 → A7 → A8 → A9 → A10 → A11 → A12 → A13 → A14 → Prop) (I : A1 → A2 → A3 → A4 → A5 → A6 → A7 → A8 → A9 → A10 → A11 → A12 → A13 → A14 → Prop) (μ : A1 → A2 → A3 → A4 → A5 → A6 → A7 → A8 → A9 → A10 → A11 → A12 → A13 → A14 → Nat) (hs : ∀ (n : Nat) (a1 : A1) (a2 : A2) (a3 : A3) (a4 : A4) (a5 : A5) (a6 : A6) (a7 : A7) (a8 : A8) (a9 : A9) (a10 : A10) (a11 : A11) (a12 : A12) (a13 : A13) (a14 : A14), I a1 a2 a3 a4 a5 a6 a7 a8 a9 a10 a11 a12 a13 a14 → (∀ (b1 : A1) (b2 : A2) (b3 : A3) (b4 : A4) (b5 : A5) (b6 : A6) (b7 : A7) (b8 : A8) (b9 : A9) (b10 : A10) (b11 : A11) (b12 : A12) (b13 : A13) (b14 : A14), I b1 b2 b3 b4 b5 b6 b7 b8 b9 b10 b11 b12 b13 b14 → μ b1 b2 b3 b4 b5 b6 b7 b8 b9 b10 b11 b12 b13 b14 < μ a1 a2 a3 a4 a5 a6 a7 a8 a9 a10 a11 a12 a13 a14 → W n b1 b2 b3 b4 b5 b6 b7 b8 b9 b10 b11 b12 b13 b14) → W (n + 1) a1 a2 a3 a4 a5 a6 a7 a8 a9 a10 a11 a12 a13 a14) (a1 : A1) (a2 : A2) (a3 : A3) (a4 : A4) (a5 : A5) (a6 : A6) (a7 : A7) (a8 : A8) (a9 : A9) (a10 : A10) (a11 : A11) (a12 : A12) (a13 : A13) (a14 : A14) (h : I a1 a2 a3 a4 a5 a6 a7 a8 a9 a10 a11 a12 a13 a14) : ∃ n, W n a1 a2 a3 a4 a5 a6 a7 a8 a9 a10 a11 a12 a13 a14 :=
  loop_m (σ := A1 × A2 × A3 × A4 × A5 × A6 × A7 × A8 × A9 × A10 × A11 × A12 × A13 × A14) (fun n s => W n s.1 s.2.1 s.2.2.1 s.2.2.2.1 s.2.2.2.2.1 s.2.2.2.2.2.1 s.2.2.2.2.2.2.1 s.2.2.2.2.2.2.2.1 s.2.2.2.2.2.2.2.2.1 s.2.2.2.2.2.2.2.2.2.1 s.2.2.2.2.2.2.2.2.2.2.1 s.2.2.2.2.2.2.2.2.2.2.2.1 s.2.2.2.2.2.2.2.2.2.2.2.2.1 s.2.2.2.2.2.2.2.2.2.2.2.2.2) (fun s => I s.1 s.2.1 s.2.2.1 s.2.2.2.1 s.2.2.2.2.1 s.2.2.2.2.2.1 s.2.2.2.2.2.2.1 s.2.2.2.2.2.2.2.1 s.2.2.2.2.2.2.2.2.1 s.2.2.2.2.2.2.2.2.2.1 s.2.2.2.2.2.2.2.2.2.2.1 s.2.2.2.2.2.2.2.2.2.2.2.1 s.2.2.2.2.2.2.2.2.2.2.2.2.1 s.2.2.2.2.2.2.2.2.2.2.2.2.2) (fun s => μ s.1 s.2.1 s.2.2.1 s.2.2.2.1 s.2.2.2.2.1 s.2.2.2.2.2.1 s.2.2.2.2.2.2.1 s.2.2.2.2.2.2.2.1 s.2.2.2.2.2.2.2.2.1 s.2.2.2.2.2.2.2.2.2.1 s.2.2.2.2.2.2.2.2.2.2.1 s.2.2.2.2.2.2.2.2.2.2.2.1 s.2.2.2.2.2.2.2.2.2.2.2.2.1 s.2.2.2.2.2.2.2.2.2.2.2.2.2) (fun n s hI hk => hs n s.1 s.2.1 s.2.2.1 s.2.2.2.1 s.2.2.2.2.1 s.2.2.2.2.2.1 s.2.2.2.2.2.2.1 s.2.2.2.2.2.2.2.1 s.2.2.2.2.2.2.2.2.1 s.2.2.2.2.2.2.2.2.2.1 s.2.2.2.2.2.2.2.2.2.2.1 s.2.2.2.2.2.2.2.2.2.2.2.1 s.2.2.2.2.2.2.2.2.2.2.2.2.1 s.2.2.2.2.2.2.2.2.2.2.2.2.2 hI (fun b1 b2 b3 b4 b5 b6 b7 b8 b9 b10 b11 b12 b13 b14 h9 hm => hk (b1, b2, b3, b4, b5, b6, b7, b8, b9, b10, b11, b12, b13, b14) h9 hm)) (a1, a2, a3, a4, a5, a6, a7, a8, a9, a10, a11, a12, a13, a14) h
theorem lp15 {A1 A2 A3 A4 A5 A6 A7 A8 A9 A10 A11 A12 A13 A14 A15 : Type} (W : Nat → A1 → A2 → A3 → A4 → A5 → A6 → A7 → A8 → A9 → A10 → A11 → A12 → A13 → A14 → A15 → Prop) (I : A1 → A2 → A3 → A4 → A5 → A6 → A7 → A8 → A9 → A10 → A11 → A12 → A13 → A14 → A15 → Prop) (μ : A1 → A2 → A3 → A4 → A5 → A6 → A7 → A8 → A9 → A10 → A11 → A12 → A13 → A14 → A15 → Nat) (hs : ∀ (n : Nat) (a1 : A1) (a2 : A2) (a3 : A3) (a4 : A4) (a5 : A5) (a6 : A6) (a7 : A7) (a8 : A8) (a9 : A9) (a10 : A10) (a11 : A11) (a12 : A12) (a13 : A13) (a14 : A14) (a15 : A15), I a1 a2 a3 a4 a5 a6 a7 a8 a9 a10 a11 a12 a13 a14 a15 → (∀ (b1 : A1) (b2 : A2) (b3 : A3) (b4 : A4) (b5 : A5) (b6 : A6) (b7 : A7) (b8 : A8) (b9 : A9) (b10 : A10) (b11 : A11) (b12 : A12) (b13 : A13) (b14 : A14) (b15 : A15), I b1 b2 b3 b4 b5 b6 b7 b8 b9 b10 b11 b12 b13 b14 b15 → μ b1 b2 b3 b4 b5 b6 b7 b8 b9 b10 b11 b12 b13 b14 b15 < μ a1 a2 a3 a4 a5 a6 a7 a8 a9 a10 a11 a12 a13 a14 a15 → W n b1 b2 b3 b4 b5 b6 b7 b8 b9 b10 b11 b12 b13 b14 b15) → W (n + 1) a1 a2 a3 a4 a5 a6 a7 a8 a9 a10 a11 a12 a13 a14 a15) (a1 : A1) (a2 : A2) (a3 : A3) (a4 : A4) (a5 : A5) (a6 : A6) (a7 : A7) (a8 : A8) (a9 : A9) (a10 : A10) (a11 : A11) (a12 : A12) (a13 : A13) (a14 : A14) (a15 : A15) (h : I a1 a2 a3 a4 a5 a6 a7 a8 a9 a10 a11 a12 a13 a14 a15) : ∃ n, W n a1 a2 a3 a4 a5 a6 a7 a8 a9 a10 a11 a12 a13 a14 a15 :=
  loop_m (σ := A1 × A2 × A3 × A4 × A5 × A6 × A7 × A8 × A9 × A10 × A11 × A12 × A13 × A14 × A15) (fun n s => W n s.1 s.2.1 s.2.2.1 s.2.2.2.1 s.2.2.2.2.1 s.2.2.2.2.2.1 s.2.2.2.2.2.2.1 s.2.2.2.2.2.2.2.1 s.2.2.2.2.2.2.2.2.1 s.2.2.2.2.2.2.2.2.2.1 s.2.2.2.2.2.2.2.2.2.2.1 s.2.2.2.2.2.2.2.2.2.2.2.1 s.2.2.2.2.2.2.2.2.2.2.2.2.1 s.2.2.2.2.2.2.2.2.2.2.2.2.2.1 s.2.2.2.2.2.2.2.2.2.2.2.2.2.2) (fun s => I s.1 s.2.1 s.2.2.1 s.2.2.2.1 s.2.2.2.2.1 s.2.2.2.2.2.1 s.2.2.2.2.2.2.1 s.2.2.2.2.2.2.2.1 s.2.2.2.2.2.2.2.2.1 s.2.2.2.2.2.2.2.2.2.1 s.2.2.2.2.2.2.2.2.2.2.1 s.2.2.2.2.2.2.2.2.2.2.2.1 s.2.2.2.2.2.2.2.2.2.2.2.2.1 s.2.2.2.2.2.2.2.2.2.2.2.2.2.1 s.2.2.2.2.2.2.2.2.2.2.2.2.2.2) (fun s => μ s.1 s.2.1 s.2.2.1 s.2.2.2.1 s.2.2.2.2.1 s.2.2.2.2.2.1 s.2.2.2.2.2.2.1 s.2.2.2.2.2.2.2.1 s.2.2.2.2.2.2.2.2.1 s.2.2.2.2.2.2.2.2.2.1 s.2.2.2.2.2.2.2.2.2.2.1 s.2.2.2.2.2.2.2.2.2.2.2.1 s.2.2.2.2.2.2.2.2.2.2.2.2.1 s.2.2.2.2.2.2.2.2.2.2.2.2.2.1 s.2.2.2.2.2.2.2.2.2.2.2.2.2.2) (fun n s hI hk => hs n s.1 s.2.1 s.2.2.1 s.2.2.2.1 s.2.2.2.2.1 s.2.2.2.2.2.1 s.2.2.2.2.2.2.1 s.2.2.2.2.2.2.2.1 s.2.2.2.2.2.2.2.2.1 s.2.2.2.2.2.2.2.2.2.1 s.2.2.2.2.2.2.2.2.2.2.1 s.2.2.2.2.2.2.2.2.2.2.2.1 s.2.2.2.2.2.2.2.2.2.2.2.2.1 s.2.2.2.2.2.2.2.2.2.2.2.2.2.1 s.2.2.2.2.2.2.2.2.2.2.2.2.2.2 hI (fun b1 b2 b3 b4 b5 b6 b7 b8 b9 b10 b11 b12 b13 b14 b15 h9 hm => hk (b1, b2, b3, b4, b5, b6, b7, b8, b9, b10, b11, b12, b13, b14, b15) h9 hm)) (a1, a2, a3, a4, a5, a6, a7, a8, a9, a10, a11, a12, a13, a14, a15) h
theorem lp16 {A1 A2 A3 A4 A5 A6 A7 A8 A9 A10 A11 A12 A13 A14 A15 A16 : Type} (W : Nat → A1 → A2 → A3 → A4 → A5 → A6 → A7 → A8 → A9 → A10 → A11 → A12 → A13 → A14 → A15 → A16 → Prop) (I : A1 → A2 → A3 → A4 → A5 → A6 → A7 → A8 → A9 → A10 → A11 → A12 → A13 → A14 → A15 → A16 → Prop) (μ : A1 → A2 → A3 → A4 → A5 → A6 → A7 → A8 → A9 → A10 → A11 → A12 → A13 → A14 → A15 → A16 → Nat) (hs : ∀ (n : Nat) (a1 : A1) (a2 : A2) (a3 : A3) (a4 : A4) (a5 : A5) (a6 : A6) (a7 : A7) (a8 : A8) (a9 : A9) (a10 : A10) (a11 : A11) (a12 : A12) (a13 : A13) (a14 : A14) (a15 : A15) (a16 : A16), I a1 a2 a3 a4 a5 a6 a7 a8 a9 a10 a11 a12 a13 a14 a15 a16 → (∀ (b1 : A1) (b2 : A2) (b3 : A3) (b4 : A4) (b5 : A5) (b6 : A6) (b7 : A7) (b8 : A8) (b9 : A9) (b10 : A10) (b11 : A11) (b12 : A12) (b13 : A13) (b14 : A14) (b15 : A15) (b16 : A16), I b1 b2 b3 b4 b5 b6 b7 b8 b9 b10 b11 b12 b13 b14 b15 b16 → μ b1 b2 b3 b4 b5 b6 b7 b8 b9 b10 b11 b12 b13 b14 b15 b16 < μ a1 a2 a3 a4 a5 a6 a7 a8 a9 a10 a11 a12 a13 a14 a15 a16 → W n b1 b2 b3 b4 b5 b6 b7 b8 b9 b10 b11 b12 b13 b14 b15 b16) → W (n + 1) a1 a2 a3 a4 a5 a6 a7 a8 a9 a10 a11 a12 a13 a14 a15 a16) (a1 : A1) (a2 : A2) (a3 : A3) (a4 : A4) (a5 : A5) (a6 : A6) (a7 : A7) (a8 : A8) (a9 : A9) (a10 : A10) (a11 : A11) (a12 : A12) (a13 : A13) (a14 : A14) (a15 : A15) (a16 : A16) (h : I a1 a2 a3 a4 a5 a6 a7 a8 a9 a10 a11 a12 a13 a14 a15 a16) : ∃ n, W n a1 a2 a3 a4 a5 a6 a7 a8 a9 a10 a11 a12 a13 a14 a15 a16 :=
  loop_m (σ := A1 × A2 × A3 × A4 × A5 × A6 × A7 × A8 × A9 × A10 × A11 × A12 × A13 × A14 × A15 × A16) (fun n s => W n s.1 s.2.1 s.2.2.1 s.2.2.2.1 s.2.2.2.2.1 s.2.2.2.2.2.1 s.2.2.2.2.2.2.1 s.2.2.2.2.2.2.2.1 s.2.2.2.2.2.2.2.2.1 s.2.2.2.2.2.2.2.2.2.1 s.2.2.2.2.2.2.2.2.2.2.1 s.2.2.2.2.2.2.2.2.2.2.2.1 s.2.2.2.2.2.2.2.2.2.2.2.2.1 s.2.2.2.2.2.2.2.2.2.2.2.2.2.1 s.2.2.2.2.2.2.2.2.2.2.2.2.2.2.1 s.2.2.2.2.2.2.2.2.2.2.2.2.2.2.2) (fun s => I s.1 s.2.1 s.2.2.1 s.2.2.2.1 s.2.2.2.2.1 s.2.2.2.2.2.1 s.2.2.2.2.2.2.1 s.2.2.2.2.2.2.2.1 s.2.2.2.2.2.2.2.2.1 s.2.2.2.2.2.2.2.2.2.1 s.2.2.2.2.2.2.2.2.2.2.1 s.2.2.2.2.2.2.2.2.2.2.2.1 s.2.2.2.2.2.2.2.2.2.2.2.2.1 s.2.2.2.2.2.2.2.2.2.2.2.2.2.1 s.2.2.2.2.2.2.2.2.2.2.2.2.2.2.1 s.2.2.2.2.2.2.2.2.2.2.2.2.2.2.2) (fun s => μ s.1 s.2.1 s.2.2.1 s.2.2.2.1 s.2.2.2.2.1 s.2.2.2.2.2.1 s.2.2.2.2.2.2.1 s.2.2.2.2.2.2.2.1 s.2.2.2.2.2.2.2.2.1 s.2.2.2.2.2.2.2.2.2.1 s.2.2.2.2.2.2.2.2.2.2.1 s.2.2.2.2.2.2.2.2.2.2.2.1 s.2.2.2.2.2.2.2.2.2.2.2.2.1 s.2.2.2.2.2.2.2.2.2.2.2.2.2.1 s.2.2.2.2.2.2.2.2.2.2.2.2.2.2.1 s.2.2.2.2.2.2.2.2.2.2.2.2.2.2.2) (fun n s hI hk => hs n s.1 s.2.1 s.2.2.1 s.2.2.2.1 s.2.2.2.2.1 s.2.2.2.2.2.1 s.2.2.2.2.2.2.1 s.2.2.2.2.2.2.2.1 s.2.2.2.2.2.2.2.2.1 s.2.2.2.2.2.2.2.2.2.1 s.2.2.2.2.2.2.2.2.2.2.1 s.2.2.2.2.2.2.2.2.2.2.2.1 s.2.2.2.2.2.2.2.2.2.2.2.2.1 s.2.2.2.2.2.2.2.2.2.2.2.2.2.1 s.2.2.2.2.2.2.2.2.2.2.2.2.2.2.1 s.2.2.2.2.2.2.2.2.2.2.2.2.2.2.2 hI (fun b1 b2 b3 b4 b5 b6 b7 b8 b9 b10 b11 b12 b13 b14 b15 b16 h9 hm => hk (b1, b2, b3, b4, b5, b6, b7, b8, b9, b10, b11, b12, b13, b14, b15, b16) h9 hm)) (a1, a2, a3, a4, a5, a6, a7, a8, a9, a10, a11, a12, a13, a14, a15, a16) h
theorem pk_least (P : Nat → Prop) (h : ∃ k, P k) : ∃ k, P k ∧ ∀ j, j < k → ¬ P j := by
  obtain ⟨k, hk⟩ := h
  induction k using Nat.strongRecOn with
  | ind k ih =>
    by_cases e : ∃ j, j < k ∧ P j
    · obtain ⟨j, hj, pj⟩ := e
      exact ih j hj pj
    · exact ⟨k, hk, fun j hj pj => e ⟨j, hj, pj⟩⟩
theorem rp1 {ρ A1 : Type} (W : Nat → (ρ → Prop) → A1 → Prop) (ok : A1 → Prop) (μ : A1 → Nat) (val : A1 → ρ)
    (hs : ∀ (d : Nat) (post : ρ → Prop) (a1 : A1), ok a1 → post (val a1) → (∀ (post' : ρ → Prop) (b1 : A1), ok b1 → μ b1 < μ a1 → post' (val b1) → W d post' b1) → W (d + 1) post a1) :
    ∀ (d : Nat) (post : ρ → Prop) (a1 : A1), ok a1 → μ a1 < d → post (val a1) → W d post a1 := by
  intro d
  induction d with
  | zero => intro post a1 _ h; omega
  | succ d ih =>
    intro post a1 ho hm hp
    exact hs d post a1 ho hp (fun post' b1 ho' hm' hp' => ih post' b1 ho' (by omega) hp')
theorem rp2 {ρ A1 A2 : Type} (W : Nat → (ρ → Prop) → A1 → A2 → Prop) (ok : A1 → A2 → Prop) (μ : A1 → A2 → Nat) (val : A1 → A2 → ρ)
    (hs : ∀ (d : Nat) (post : ρ → Prop) (a1 : A1) (a2 : A2), ok a1 a2 → post (val a1 a2) → (∀ (post' : ρ → Prop) (b1 : A1) (b2 : A2), ok b1 b2 → μ b1 b2 < μ a1 a2 → post' (val b1 b2) → W d post' b1 b2) → W (d + 1) post a1 a2) :
    ∀ (d : Nat) (post : ρ → Prop) (a1 : A1) (a2 : A2), ok a1 a2 → μ a1 a2 < d → post (val a1 a2) → W d post a1 a2 := by
  intro d
  induction d with
  | zero => intro post a1 a2 _ h; omega
  | succ d ih =>
    intro post a1 a2 ho hm hp
    exact hs d post a1 a2 ho hp (fun post' b1 b2 ho' hm' hp' => ih post' b1 b2 ho' (by omega) hp')
theorem rp3 {ρ A1 A2 A3 : Type} (W : Nat → (ρ → Prop) → A1 → A2 → A3 → Prop) (ok : A1 → A2 → A3 → Prop) (μ : A1 → A2 → A3 → Nat) (val : A1 → A2 → A3 → ρ)
    (hs : ∀ (d : Nat) (post : ρ → Prop) (a1 : A1) (a2 : A2) (a3 : A3), ok a1 a2 a3 → post (val a1 a2 a3) → (∀ (post' : ρ → Prop) (b1 : A1) (b2 : A2) (b3 : A3), ok b1 b2 b3 → μ b1 b2 b3 < μ a1 a2 a3 → post' (val b1 b2 b3) → W d post' b1 b2 b3) → W (d + 1) post a1 a2 a3) :
    ∀ (d : Nat) (post : ρ → Prop) (a1 : A1) (a2 : A2) (a3 : A3), ok a1 a2 a3 → μ a1 a2 a3 < d → post (val a1 a2 a3) → W d post a1 a2 a3 := by
  intro d
  induction d with
  | zero => intro post a1 a2 a3 _ h; omega
  | succ d ih =>
    intro post a1 a2 a3 ho hm hp
    exact hs d post a1 a2 a3 ho hp (fun post' b1 b2 b3 ho' hm' hp' => ih post' b1 b2 b3 ho' (by omega) hp')
theorem rp4 {ρ A1 A2 A3 A4 : Type} (W : Nat → (ρ → Prop) → A1 → A2 → A3 → A4 → Prop) (ok : A1 → A2 → A3 → A4 → Prop) (μ : A1 → A2 → A3 → A4 → Nat) (val : A1 → A2 → A3 → A4 → ρ)
    (hs : ∀ (d : Nat) (post : ρ → Prop) (a1 : A1) (a2 : A2) (a3 : A3) (a4 : A4), ok a1 a2 a3 a4 → post (val a1 a2 a3 a4) → (∀ (post' : ρ → Prop) (b1 : A1) (b2 : A2) (b3 : A3) (b4 : A4), ok b1 b2 b3 b4 → μ b1 b2 b3 b4 < μ a1 a2 a3 a4 → post' (val b1 b2 b3 b4) → W d post' b1 b2 b3 b4) → W (d + 1) post a1 a2 a3 a4) :
    ∀ (d : Nat) (post : ρ → Prop) (a1 : A1) (a2 : A2) (a3 : A3) (a4 : A4), ok a1 a2 a3 a4 → μ a1 a2 a3 a4 < d → post (val a1 a2 a3 a4) → W d post a1 a2 a3 a4 := by
  intro d
  induction d with
  | zero => intro post a1 a2 a3 a4 _ h; omega
  | succ d ih =>
    intro post a1 a2 a3 a4 ho hm hp
    exact hs d post a1 a2 a3 a4 ho hp (fun post' b1 b2 b3 b4 ho' hm' hp' => ih post' b1 b2 b3 b4 ho' (by omega) hp')
theorem rp5 {ρ A1 A2 A3 A4 A5 : Type} (W : Nat → (ρ → Prop) → A1 → A2 → A3 → A4 → A5 → Prop) (ok : A1 → A2 → A3 → A4 → A5 → Prop) (μ : A1 → A2 → A3 → A4 → A5 → Nat) (val : A1 → A2 → A3 → A4 → A5 → ρ)
    (hs : ∀ (d : Nat) (post : ρ → Prop) (a1 : A1) (a2 : A2) (a3 : A3) (a4 : A4) (a5 : A5), ok a1 a2 a3 a4 a5 → post (val a1 a2 a3 a4 a5) → (∀ (post' : ρ → Prop) (b1 : A1) (b2 : A2) (b3 : A3) (b4 : A4) (b5 : A5), ok b1 b2 b3 b4 b5 → μ b1 b2 b3 b4 b5 < μ a1 a2 a3 a4 a5 → post' (val b1 b2 b3 b4 b5) → W d post' b1 b2 b3 b4 b5) → W (d + 1) post a1 a2 a3 a4 a5) :
    ∀ (d : Nat) (post : ρ → Prop) (a1 : A1) (a2 : A2) (a3 : A3) (a4 : A4) (a5 : A5), ok a1 a2 a3 a4 a5 → μ a1 a2 a3 a4 a5 < d → post (val a1 a2 a3 a4 a5) → W d post a1 a2 a3 a4 a5 := by
  intro d
  induction d with
  | zero => intro post a1 a2 a3 a4 a5 _ h; omega
  | succ d ih =>
    intro post a1 a2 a3 a4 a5 ho hm hp
    exact hs d post a1 a2 a3 a4 a5 ho hp (fun post' b1 b2 b3 b4 b5 ho' hm' hp' => ih post' b1 b2 b3 b4 b5 ho' (by omega) hp')
theorem rp6 {ρ A1 A2 A3 A4 A5 A6 : Type} (W : Nat → (ρ → Prop) → A1 → A2 → A3 → A4 → A5 → A6 → Prop) (ok : A1 → A2 → A3 → A4 → A5 → A6 → Prop) (μ : A1 → A2 → A3 → A4 → A5 → A6 → Nat) (val : A1 → A2 → A3 → A4 → A5 → A6 → ρ)
    (hs : ∀ (d : Nat) (post : ρ → Prop) (a1 : A1) (a2 : A2) (a3 : A3) (a4 : A4) (a5 : A5) (a6 : A6), ok a1 a2 a3 a4 a5 a6 → post (val a1 a2 a3 a4 a5 a6) → (∀ (post' : ρ → Prop) (b1 : A1) (b2 : A2) (b3 : A3) (b4 : A4) (b5 : A5) (b6 : A6), ok b1 b2 b3 b4 b5 b6 → μ b1 b2 b3 b4 b5 b6 < μ a1 a2 a3 a4 a5 a6 → post' (val b1 b2 b3 b4 b5 b6) → W d post' b1 b2 b3 b4 b5 b6) → W (d + 1) post a1 a2 a3 a4 a5 a6) :
    ∀ (d : Nat) (post : ρ → Prop) (a1 : A1) (a2 : A2) (a3 : A3) (a4 : A4) (a5 : A5) (a6 : A6), ok a1 a2 a3 a4 a5 a6 → μ a1 a2 a3 a4 a5 a6 < d → post (val a1 a2 a3 a4 a5 a6) → W d post a1 a2 a3 a4 a5 a6 := by
  intro d
  induction d with
  | zero => intro post a1 a2 a3 a4 a5 a6 _ h; omega
  | succ d ih =>
    intro post a1 a2 a3 a4 a5 a6 ho hm hp
    exact hs d post a1 a2 a3 a4 a5 a6 ho hp (fun post' b1 b2 b3 b4 b5 b6 ho' hm' hp' => ih post' b1 b2 b3 b4 b5 b6 ho' (by omega) hp')
theorem rec_p {σ ρ : Type} (W : Nat → (ρ → Prop) → σ → Prop) (ok : σ → Prop) (μ : σ → Nat) (val : σ → ρ)
    (hs : ∀ d s post, ok s → post (val s) → (∀ s' post', ok s' → μ s' < μ s → post' (val s') → W d post' s') → W (d + 1) post s) :
    ∀ d s post, ok s → μ s < d → post (val s) → W d post s := by
  intro d
  induction d with
  | zero => intro s post _ h; omega
  | succ d ih =>
    intro s post ho hm hp
    exact hs d s post ho hp (fun s' post' ho' hm' hp' => ih s' post' ho' (by omega) hp')
theorem rec_q {σ ρ : Type} (W : Nat → (ρ → Prop) → σ → Prop) (ok : σ → Prop) (μ : σ → Nat) (Q : σ → ρ → Prop)
    (hs : ∀ d s post, ok s → (∀ r, Q s r → post r) → (∀ s' post', ok s' → μ s' < μ s → (∀ r, Q s' r → post' r) → W d post' s') → W (d + 1) post s) :
    ∀ d s post, ok s → μ s < d → (∀ r, Q s r → post r) → W d post s := by
  intro d
  induction d with
  | zero => intro s post _ h; omega
  | succ d ih =>
    intro s post ho hm hp
    exact hs d s post ho hp (fun s' post' ho' hm' hp' => ih s' post' ho' (by omega) hp')
def bx_sum (f : Nat → Int32) : Nat → Int32
  | 0 => 0
  | n + 1 => bx_sum f n + f n
theorem ek_u {A : Prop} {B : Nat → Prop} {k N : Nat} (hk : k < N) (h : B k) : (some k = none → A) ∧ (∀ y : Nat, some k = some y → (y < N ∧ B y)) :=
  ⟨fun z => absurd z (Option.some_ne_none k), fun _ e => (by cases e; exact ⟨hk, h⟩)⟩
theorem ek_nu {A : Prop} {B : Nat → Prop} (h : A) : ((none : Option Nat) = none → A) ∧ (∀ y : Nat, (none : Option Nat) = some y → B y) :=
  ⟨fun _ => h, fun _ e => (by cases e)⟩
theorem ek_if {c d A B : Prop} (e : c ↔ d) (f : d → A) (g : ¬ d → B) : (c → A) ∧ (¬ c → B) :=
  ⟨fun z => f (e.mp z), fun z => g (fun y => z (e.mpr y))⟩
theorem ek_v {α : Sort _} {P : α → Prop} {a b : α} (e : a = b) (h : P b) : P a := e ▸ h
theorem co_some {x : Option Nat} {A : Prop} {B : Nat → Prop} (i : Nat) (h : B i) (hx : x = some i := by rfl) : (x = none → A) ∧ (∀ y : Nat, x = some y → B y) := by
  subst hx
  exact ⟨fun e => (nomatch e), fun y e => Option.some.inj e ▸ h⟩
theorem co_none {x : Option Nat} {A : Prop} {B : Nat → Prop} (h : A) (hx : x = none := by rfl) : (x = none → A) ∧ (∀ y : Nat, x = some y → B y) := by
  subst hx
  exact ⟨fun _ => h, fun y e => (nomatch e)⟩
theorem co_any {x : Option Nat} {A : Prop} {B : Nat → Prop} (hn : x = none → A) (hs : ∀ i : Nat, x = some i → B i) : (x = none → A) ∧ (∀ y : Nat, x = some y → B y) := ⟨hn, hs⟩
theorem co_2 {P : Nat → Prop} (h0 : P 0) (h1 : P 1) {i : Nat} (hi : i < 2) : P i :=
  match i, hi with
  | 0, _ => h0
  | 1, _ => h1
theorem co_3 {P : Nat → Prop} (h0 : P 0) (h1 : P 1) (h2 : P 2) {i : Nat} (hi : i < 3) : P i :=
  match i, hi with
  | 0, _ => h0
  | 1, _ => h1
  | 2, _ => h2
theorem co_4 {P : Nat → Prop} (h0 : P 0) (h1 : P 1) (h2 : P 2) (h3 : P 3) {i : Nat} (hi : i < 4) : P i :=
  match i, hi with
  | 0, _ => h0
  | 1, _ => h1
  | 2, _ => h2
  | 3, _ => h3
theorem co_dec {N : Nat} {P : Nat → Prop} [DecidablePred P] (h : (List.range N).all (fun i => decide (P i)) = true) {i : Nat} (hi : i < N) : P i := by
  have := List.all_eq_true.mp h i (List.mem_range.mpr hi)
  exact of_decide_eq_true this
theorem co_tab {α : Type} {l : List α} {d : α} {P : α → Prop} (h : ∀ a, a ∈ l → P a) {i : Nat} (hi : i < l.length) : P (l.getD i d) := by
  rw [List.getD_eq_getElem?_getD, List.getElem?_eq_getElem hi]
  exact h _ (List.getElem_mem hi)
theorem pk_mu {x : Int32} {L : Nat} (h0 : ¬ x < 0) (h : ¬ nI L ≤ x) (hL : L < 2 ^ 31) : ∃ j : Nat, j < L ∧ x = nI j ∧ x + 1 = nI (j + 1) ∧ x.toNatClampNeg = j ∧ L - (x + 1).toNatClampNeg < L - x.toNatClampNeg := by
  obtain ⟨j, hj, rfl⟩ := nI_of h0
  have hl : j < L := Nat.not_le.mp fun q => h (nI_le q hj)
  refine ⟨j, hl, rfl, nI_1 j, nI_clamp hj, ?_⟩
  rw [nI_1, nI_clamp (by omega), nI_clamp hj]
  omega
theorem op_s {α : Type} {r : Option α} {A : Prop} {B : α → Prop} {y : α} (h : r = some y) (b : B y) : (r = none → A) ∧ ∀ z, r = some z → B z :=
  ⟨fun e => (by rw [h] at e; cases e), fun z e => (by rw [h] at e; cases e; exact b)⟩
def l_holds {α : Type} (a : Nat → Option Nat) (LP : List Nat) (p : Nat → α) (c : Nat) (b : Nat → α) : Prop :=
  ∀ j, j < c → ∃ y, a j = some y ∧ y ∈ LP ∧ p y = b j
theorem l_holds_0 {α : Type} {a : Nat → Option Nat} {LP : List Nat} {p b : Nat → α} : l_holds a LP p 0 b := fun j h => absurd h (Nat.not_lt_zero j)
theorem l_in_new (LP : List Nat) (q : Nat) : q ∈ LP ++ [q] := List.mem_append.mpr (Or.inr (List.mem_singleton.mpr rfl))
def l_sum (b : Nat → Int32) : Nat → Int32
  | 0 => 0
  | k + 1 => l_sum b k + b k
theorem sb_shr0 (x : Int32) : x >>> ((0 : Int32) &&& 31) = x := by
  rw [show ((0 : Int32) &&& 31) = 0 by decide]
  simp
theorem sb_shl0 (x : Int32) : x <<< ((0 : Int32) &&& 31) = x := by
  rw [show ((0 : Int32) &&& 31) = 0 by decide]
  simp
theorem sb_cl0 : (0 : Int32).toNatClampNeg = 0 := by decide
theorem sb_m1 {p : Nat} (h : 0 < p) : nI p + (-1) = nI (p - 1) := by
  obtain ⟨q, rfl⟩ : ∃ q, p = q + 1 := ⟨p - 1, by omega⟩
  exact pk_m1 q
def sb_b (c : Nat) : Int32 := (nI c).toInt8.toInt32
theorem sb_byte : ∀ c, c < 256 → sb_b c &&& 255 = nI c ∧ ((nI c).toUInt32 % 65536).toInt32 = nI c ∧ nI c ≤ 255 := by decide +kernel
def sb_Fit (a : Nat → Int32) : Prop := ∀ j, fits .byte (.int (a j)) = true
def sb_Lat (t : Nat → Nat) (n : Nat) (a : Nat → Int32) : Prop := ∀ j, j < n → t j < 256 ∧ a j = sb_b (t j)
theorem sb_fitB (c : Nat) : fits .byte (.int (sb_b c)) = true := pk_fb _
theorem sb_fit0 : sb_Fit (fun _ => 0) := fun _ => by
  show fits .byte (.int 0) = true
  decide
theorem sb_fitU {a : Nat → Int32} {k : Nat} {x : Int32} (h : sb_Fit a) (hx : fits .byte (.int x) = true) : sb_Fit (upd a k x) := by
  intro j
  by_cases e : j = k
  · subst e
    rw [pk_us]
    exact hx
  · rw [pk_un e]
    exact h j
def sb_cat (t : Nat → Nat) (n : Nat) (s : Nat → Nat) : Nat → Nat := fun j => if j < n then t j else s (j - n)
theorem sb_cat_lo {t s : Nat → Nat} {n j : Nat} (h : j < n) : sb_cat t n s j = t j := if_pos h
theorem sb_cat_hi {t s : Nat → Nat} {n j : Nat} : sb_cat t n s (n + j) = s j := by
  show (if n + j < n then t (n + j) else s (n + j - n)) = s j
  rw [if_neg (by omega), Nat.add_sub_cancel_left]
theorem sb_latPut {t s : Nat → Nat} {n w : Nat} {a a' : Nat → Int32} (h : sb_Lat t n a) (hk : ∀ j, j < n → a' j = a j) (hs : ∀ i, i < w → s i < 256 ∧ a' (n + i) = sb_b (s i)) : sb_Lat (sb_cat t n s) (n + w) a' := by
  intro j hj
  by_cases e : j < n
  · rw [sb_cat_lo e, hk j e]
    exact h j e
  · obtain ⟨i, rfl⟩ : ∃ i, j = n + i := ⟨j - n, by omega⟩
    rw [sb_cat_hi]
    exact hs i (by omega)
theorem sb_latKeep {t : Nat → Nat} {n : Nat} {a a' : Nat → Int32} (h : sb_Lat t n a) (hk : ∀ j, j < n → a' j = a j) : sb_Lat t n a' := fun j hj => by
  rw [hk j hj]
  exact h j hj
def sb_cap (q m : Nat) : Nat := if q ≤ m then m else if 2 * m + 2 < q then q else 2 * m + 2
def sb_Room (q m mc ms : Nat) : Prop := q ≤ m ∨ (1 ≤ mc ∧ sb_cap q m ≤ ms ∧ sb_cap q m ≤ 65536)
theorem sb_cap_ge (q m : Nat) : q ≤ sb_cap q m := by
  unfold sb_cap
  split
  · omega
  · split <;> omega
theorem sb_cap_gem (q m : Nat) : m ≤ sb_cap q m := by
  unfold sb_cap
  split
  · omega
  · split <;> omega
theorem sb_cap_le {q m mc ms : Nat} (hm : m ≤ 65536) (hr : sb_Room q m mc ms) : sb_cap q m ≤ 65536 := by
  rcases hr with h | h
  · rw [sb_cap, if_pos h]
    exact hm
  · exact h.2.2
theorem sb_at {P : Int32 → Prop} {x y : Int32} (e : x = y) (h : P y) : P x := e ▸ h
def sb_dg (w : Nat) : Nat := if w < 10 then 1 else if w < 100 then 2 else if w < 1000 then 3 else if w < 10000 then 4 else if w < 100000 then 5 else if w < 1000000 then 6 else if w < 10000000 then 7 else if w < 100000000 then 8 else if w < 1000000000 then 9 else 10
def sb_dec (v : Nat) : Nat → Nat := fun i => 48 + v / 10 ^ (sb_dg v - 1 - i) % 10
theorem sb_dg_in (w : Nat) : 1 ≤ sb_dg w ∧ sb_dg w ≤ 10 := by
  unfold sb_dg
  constructor <;> (repeat' split) <;> omega
theorem sb_dg100 {w : Nat} (h : 100 ≤ w) (hw : w < 2 ^ 31) : sb_dg w = sb_dg (w / 100) + 2 := by
  rw [sb_dg, sb_dg, if_neg (show ¬ w < 10 by omega), if_neg (show ¬ w < 100 by omega)]
  by_cases h3 : w < 1000
  · rw [if_pos h3, if_pos (show w / 100 < 10 by omega)]
  rw [if_neg h3, if_neg (show ¬ w / 100 < 10 by omega)]
  by_cases h4 : w < 10000
  · rw [if_pos h4, if_pos (show w / 100 < 100 by omega)]
  rw [if_neg h4, if_neg (show ¬ w / 100 < 100 by omega)]
  by_cases h5 : w < 100000
  · rw [if_pos h5, if_pos (show w / 100 < 1000 by omega)]
  rw [if_neg h5, if_neg (show ¬ w / 100 < 1000 by omega)]
  by_cases h6 : w < 1000000
  · rw [if_pos h6, if_pos (show w / 100 < 10000 by omega)]
  rw [if_neg h6, if_neg (show ¬ w / 100 < 10000 by omega)]
  by_cases h7 : w < 10000000
  · rw [if_pos h7, if_pos (show w / 100 < 100000 by omega)]
  rw [if_neg h7, if_neg (show ¬ w / 100 < 100000 by omega)]
  by_cases h8 : w < 100000000
  · rw [if_pos h8, if_pos (show w / 100 < 1000000 by omega)]
  rw [if_neg h8, if_neg (show ¬ w / 100 < 1000000 by omega)]
  by_cases h9 : w < 1000000000
  · rw [if_pos h9, if_pos (show w / 100 < 10000000 by omega)]
  rw [if_neg h9, if_neg (show ¬ w / 100 < 10000000 by omega)]
  rw [if_pos (show w / 100 < 100000000 by omega)]
theorem sb_negT {w : Nat} (h : w < 2 ^ 31) : (-nI w).toInt = -(w : Int) := by
  rw [Int32.toInt_neg, nI_toInt h]
  exact Int.bmod_eq_of_le (by omega) (by omega)
theorem sb_nle {a b : Nat} (ha : a < 2 ^ 31) (hb : b < 2 ^ 31) : -nI a ≤ -nI b ↔ b ≤ a := by
  rw [Int32.le_iff_toInt_le, sb_negT ha, sb_negT hb]
  omega
theorem sb_nlt {a b : Nat} (ha : a < 2 ^ 31) (hb : b < 2 ^ 31) : -nI a < -nI b ↔ b < a := by
  rw [Int32.lt_iff_toInt_lt, sb_negT ha, sb_negT hb]
  omega
theorem sb_cmp {A B : Prop} {x : Int32} (v c : Nat) (f : c ≤ v → A) (g : v < c → B) (hv : v < 2 ^ 31) (hx : x = -nI c := by rfl) (hc : c < 2 ^ 31 := by omega) : (-nI v ≤ x → A) ∧ (¬ -nI v ≤ x → B) := by
  subst hx
  rw [sb_nle hv hc]
  exact ⟨f, fun z => g (by omega)⟩
theorem sb_ndiv {w : Nat} (hw : w < 2 ^ 31) : (-nI w) / 100 = -nI (w / 100) := by
  apply Int32.toInt_inj.mp
  have h100 : (100 : Int32).toInt = 100 := by decide
  rw [Int32.toInt_div, sb_negT hw, h100, sb_negT (by omega), Int.neg_tdiv, Int.tdiv_eq_ediv_of_nonneg (by omega), Int.bmod_eq_of_le (by omega) (by omega)]
  omega
theorem sb_nrem {w : Nat} (hw : w < 2 ^ 31) : (-nI (w / 100)) * 100 - (-nI w) = nI (w % 100) := by
  have h := pk_rem (a := w) (d := 100) hw (by decide) (by decide)
  rw [pk_div hw (by decide) (by decide)] at h
  rw [← h]
  show (-nI (w / 100)) * nI 100 - (-nI w) = nI w - nI (w / 100) * nI 100
  rw [Int32.neg_mul, Int32.sub_neg, Int32.add_comm, ← Int32.sub_eq_add_neg]
end
section
/-! matchings on ports, and the three operations on them: two wires fused, a wire moved, a wire added -/
def nt_Mt (m : Nat → Option Nat) : Prop := ∀ x y, m x = some y → m y = some x ∧ x ≠ y
def nt_fz (p q : Nat) (m : Nat → Option Nat) : Nat → Option Nat := fun x =>
  if x = p ∨ x = q then none else if m x = some p then m q else if m x = some q then m p else m x
def nt_rn (y x : Nat) (m : Nat → Option Nat) : Nat → Option Nat := fun z =>
  if z = y then none else if z = x then m y else if m z = some y then some x else m z
def nt_ad (a b : Nat) (m : Nat → Option Nat) : Nat → Option Nat := fun z =>
  if z = a then some b else if z = b then some a else m z
theorem nt_mt_fz {p q : Nat} {m : Nat → Option Nat} (h : nt_Mt m) (hpq : p ≠ q) : nt_Mt (nt_fz p q m) := by
  intro x y e
  have hs : ∀ a b, m a = some b → m b = some a := fun a b e => (h a b e).1
  have hn : ∀ a b, m a = some b → a ≠ b := fun a b e => (h a b e).2
  unfold nt_fz at e ⊢
  by_cases hx : x = p ∨ x = q
  · rw [if_pos hx] at e; cases e
  · rw [if_neg hx] at e
    by_cases h1 : m x = some p
    · rw [if_pos h1] at e
      have h2 := hs _ _ h1
      have h3 := hs _ _ e
      have h4 : y ≠ p := by intro z; rw [z] at e h3; rw [h2] at h3; cases h3; exact hx (Or.inr rfl)
      have h5 := hn _ _ e
      have h6 : ¬ (y = p ∨ y = q) := by intro z; rcases z with z | z; exact h4 z; exact h5 z.symm
      have h7 : ¬ m y = some p := by rw [h3]; intro z; cases z; exact hpq rfl
      rw [if_neg h6, if_neg h7, if_pos h3]
      refine ⟨h2, ?_⟩
      intro z; rw [z] at h1; rw [h3] at h1; cases h1; exact hpq rfl
    · rw [if_neg h1] at e
      by_cases h1' : m x = some q
      · rw [if_pos h1'] at e
        have h2 := hs _ _ h1'
        have h3 := hs _ _ e
        have h4 : y ≠ q := by intro z; rw [z] at e h3; rw [h2] at h3; cases h3; exact hx (Or.inl rfl)
        have h5 := hn _ _ e
        have h6 : ¬ (y = p ∨ y = q) := by intro z; rcases z with z | z; exact h5 z.symm; exact h4 z
        rw [if_neg h6, if_pos h3]
        refine ⟨h2, ?_⟩
        intro z; rw [z] at h1'; rw [h3] at h1'; cases h1'; exact hpq rfl
      · rw [if_neg h1'] at e
        have h3 := hs _ _ e
        have h6 : ¬ (y = p ∨ y = q) := by
          intro z
          rcases z with z | z
          · rw [z] at e; exact h1 e
          · rw [z] at e; exact h1' e
        have h7 : ¬ m y = some p := by rw [h3]; intro z; cases z; exact hx (Or.inl rfl)
        have h8 : ¬ m y = some q := by rw [h3]; intro z; cases z; exact hx (Or.inr rfl)
        rw [if_neg h6, if_neg h7, if_neg h8]
        exact ⟨h3, hn _ _ e⟩
theorem nt_mt_rn {y x : Nat} {m : Nat → Option Nat} (h : nt_Mt m) (hxy : y ≠ x) (hx : m x = none) : nt_Mt (nt_rn y x m) := by
  intro a b e
  have hs : ∀ a b, m a = some b → m b = some a := fun a b e => (h a b e).1
  have hn : ∀ a b, m a = some b → a ≠ b := fun a b e => (h a b e).2
  unfold nt_rn at e ⊢
  grind
theorem nt_mt_ad {a b : Nat} {m : Nat → Option Nat} (h : nt_Mt m) (hab : a ≠ b) (ha : m a = none) (hb : m b = none) : nt_Mt (nt_ad a b m) := by
  intro x y e
  have hs : ∀ a b, m a = some b → m b = some a := fun a b e => (h a b e).1
  have hn : ∀ a b, m a = some b → a ≠ b := fun a b e => (h a b e).2
  unfold nt_ad at e ⊢
  grind
theorem nt_fz_comm {p q : Nat} {m : Nat → Option Nat} (h : nt_Mt m) : nt_fz p q m = nt_fz q p m := by
  funext x
  have hs : ∀ a b, m a = some b → m b = some a := fun a b e => (h a b e).1
  unfold nt_fz
  grind
/-- the state of the operations: a matching and a count of closed loops -/
abbrev nt_S : Type := (Nat → Option Nat) × Nat
abbrev nt_O : Type := Nat × Nat × Nat
def nt_ap (o : nt_O) (s : nt_S) : nt_S :=
  if o.1 = 0 then (nt_fz o.2.1 o.2.2 s.1, if s.1 o.2.1 = some o.2.2 then s.2 + 1 else s.2)
  else if o.1 = 1 then (nt_rn o.2.1 o.2.2 s.1, s.2) else (nt_ad o.2.1 o.2.2 s.1, s.2)
theorem nt_ap0 (a b : Nat) (s : nt_S) : nt_ap (0, a, b) s = (nt_fz a b s.1, if s.1 a = some b then s.2 + 1 else s.2) := rfl
theorem nt_ap1 (a b : Nat) (s : nt_S) : nt_ap (1, a, b) s = (nt_rn a b s.1, s.2) := rfl
theorem nt_ap2 (a b : Nat) (s : nt_S) : nt_ap (2, a, b) s = (nt_ad a b s.1, s.2) := rfl
theorem nt_op3 (o : nt_O) (s : nt_S) : (o.1 = 0 ∧ nt_ap o s = (nt_fz o.2.1 o.2.2 s.1, if s.1 o.2.1 = some o.2.2 then s.2 + 1 else s.2)) ∨ (o.1 = 1 ∧ nt_ap o s = (nt_rn o.2.1 o.2.2 s.1, s.2)) ∨ (o.1 ≠ 0 ∧ o.1 ≠ 1 ∧ nt_ap o s = (nt_ad o.2.1 o.2.2 s.1, s.2)) := by
  unfold nt_ap
  by_cases h0 : o.1 = 0
  · exact Or.inl ⟨h0, by rw [if_pos h0]⟩
  · by_cases h1 : o.1 = 1
    · exact Or.inr (Or.inl ⟨h1, by rw [if_neg h0, if_pos h1]⟩)
    · exact Or.inr (Or.inr ⟨h0, h1, by rw [if_neg h0, if_neg h1]⟩)
def nt_ok (o : nt_O) (m : Nat → Option Nat) : Prop := o.2.1 ≠ o.2.2 ∧ (o.1 ≠ 0 → m o.2.2 = none) ∧ (o.1 ≠ 0 → o.1 ≠ 1 → m o.2.1 = none)
def nt_dj (o o' : nt_O) : Prop := o.2.1 ≠ o'.2.1 ∧ o.2.1 ≠ o'.2.2 ∧ o.2.2 ≠ o'.2.1 ∧ o.2.2 ≠ o'.2.2
def nt_tg (o : nt_O) (y : Nat) : Prop := o.1 ≠ 0 ∧ (y = o.2.2 ∨ (o.1 ≠ 1 ∧ y = o.2.1))
def nt_rm (o : nt_O) (y : Nat) : Prop := (o.1 = 0 ∧ (y = o.2.1 ∨ y = o.2.2)) ∨ (o.1 = 1 ∧ y = o.2.1)
theorem nt_ap_mt {o : nt_O} {s : nt_S} (h : nt_Mt s.1) (ho : nt_ok o s.1) : nt_Mt (nt_ap o s).1 := by
  rcases nt_op3 o s with ⟨_, e⟩ | ⟨h1, e⟩ | ⟨h0, h1, e⟩ <;> rw [e]
  · exact nt_mt_fz h ho.1
  · exact nt_mt_rn h ho.1 (ho.2.1 (by omega))
  · exact nt_mt_ad h ho.1 (ho.2.2 h0 h1) (ho.2.1 h0)
/-- an open port stays open unless it is given a wire -/
theorem nt_np {o : nt_O} {s : nt_S} {y : Nat} (hy : s.1 y = none) (ht : ¬ nt_tg o y) : (nt_ap o s).1 y = none := by
  unfold nt_tg at ht
  rcases nt_op3 o s with ⟨h0, e⟩ | ⟨h1, e⟩ | ⟨h0, h1, e⟩ <;> rw [e]
  · show nt_fz _ _ _ _ = none
    unfold nt_fz; rw [hy]; simp
  · show nt_rn _ _ _ _ = none
    have : y ≠ o.2.2 := fun z => ht ⟨by omega, Or.inl z⟩
    unfold nt_rn; rw [hy, if_neg this]; simp
  · show nt_ad _ _ _ _ = none
    have a1 : y ≠ o.2.2 := fun z => ht ⟨h0, Or.inl z⟩
    have a2 : y ≠ o.2.1 := fun z => ht ⟨h0, Or.inr ⟨h1, z⟩⟩
    unfold nt_ad; rw [if_neg a2, if_neg a1]; exact hy
theorem nt_rm1 {o : nt_O} {s : nt_S} {y : Nat} (hy : nt_rm o y) : (nt_ap o s).1 y = none := by
  unfold nt_rm at hy
  rcases nt_op3 o s with ⟨h0, e⟩ | ⟨h1, e⟩ | ⟨h0, h1, e⟩ <;> rw [e]
  · show nt_fz _ _ _ _ = none
    have : y = o.2.1 ∨ y = o.2.2 := by rcases hy with ⟨_, z⟩ | ⟨z, _⟩; exact z; omega
    unfold nt_fz; rw [if_pos this]
  · show nt_rn _ _ _ _ = none
    have : y = o.2.1 := by rcases hy with ⟨z, _⟩ | ⟨_, z⟩; omega; exact z
    unfold nt_rn; rw [if_pos this]
  · exfalso; rcases hy with ⟨z, _⟩ | ⟨z, _⟩ <;> omega
/-- a wire that an operation doesn't touch stays -/
theorem nt_kp {o : nt_O} {s : nt_S} {y z : Nat} (h : nt_Mt s.1) (hy : s.1 y = some z) (y1 : y ≠ o.2.1) (y2 : y ≠ o.2.2) (z1 : z ≠ o.2.1) (z2 : z ≠ o.2.2) : (nt_ap o s).1 y = some z := by
  have e1 : ¬ s.1 y = some o.2.1 := by rw [hy]; intro e; cases e; exact z1 rfl
  have e2 : ¬ s.1 y = some o.2.2 := by rw [hy]; intro e; cases e; exact z2 rfl
  rcases nt_op3 o s with ⟨h0, e⟩ | ⟨h1, e⟩ | ⟨h0, h1, e⟩ <;> rw [e]
  · show nt_fz _ _ _ _ = _
    unfold nt_fz; rw [if_neg (by omega), if_neg e1, if_neg e2]; exact hy
  · show nt_rn _ _ _ _ = _
    unfold nt_rn; rw [if_neg y1, if_neg y2, if_neg e1]; exact hy
  · show nt_ad _ _ _ _ = _
    unfold nt_ad; rw [if_neg y1, if_neg y2]; exact hy
theorem nt_ok_ap {o o' : nt_O} {s : nt_S} (ho : nt_ok o' s.1) (hd : nt_dj o o') : nt_ok o' (nt_ap o s).1 := by
  obtain ⟨d1, d2, d3, d4⟩ := hd
  refine ⟨ho.1, fun h => nt_np (ho.2.1 h) ?_, fun h h' => nt_np (ho.2.2 h h') ?_⟩
  · rintro ⟨_, z | ⟨_, z⟩⟩
    · exact d4 z.symm
    · exact d2 z.symm
  · rintro ⟨_, z | ⟨_, z⟩⟩
    · exact d3 z.symm
    · exact d1 z.symm
end
section
/-! operations on different ports change places -/
theorem nt_s00 {p q r s : Nat} {m : Nat → Option Nat} (h : nt_Mt m) (h1 : p ≠ r) (h2 : p ≠ s) (h3 : q ≠ r) (h4 : q ≠ s) (h5 : p ≠ q) (h6 : r ≠ s) : nt_fz r s (nt_fz p q m) = nt_fz p q (nt_fz r s m) := by
  have hs : ∀ a b, m a = some b → m b = some a := fun a b e => (h a b e).1
  have hn : ∀ a, m a ≠ some a := fun a e => (h a a e).2 rfl
  funext x
  unfold nt_fz
  grind (splits := 30)
theorem nt_c00 {p q r s l : Nat} {m : Nat → Option Nat} (h : nt_Mt m) (h1 : p ≠ r) (h2 : p ≠ s) (h3 : q ≠ r) (h4 : q ≠ s) (h5 : p ≠ q) (h6 : r ≠ s) : (if nt_fz p q m r = some s then (if m p = some q then l + 1 else l) + 1 else (if m p = some q then l + 1 else l)) = (if nt_fz r s m p = some q then (if m r = some s then l + 1 else l) + 1 else (if m r = some s then l + 1 else l)) := by
  have hs : ∀ a b, m a = some b → m b = some a := fun a b e => (h a b e).1
  have hn : ∀ a, m a ≠ some a := fun a e => (h a a e).2 rfl
  unfold nt_fz
  grind (splits := 30)
theorem nt_s01 {p q y x : Nat} {m : Nat → Option Nat} (h : nt_Mt m) (h1 : p ≠ y) (h2 : p ≠ x) (h3 : q ≠ y) (h4 : q ≠ x) (h5 : p ≠ q) (h6 : y ≠ x) (hx : m x = none) : nt_rn y x (nt_fz p q m) = nt_fz p q (nt_rn y x m) := by
  have hs : ∀ a b, m a = some b → m b = some a := fun a b e => (h a b e).1
  have hn : ∀ a, m a ≠ some a := fun a e => (h a a e).2 rfl
  funext z
  unfold nt_fz nt_rn
  grind (splits := 30)
theorem nt_c01 {p q y x : Nat} {m : Nat → Option Nat} (h : nt_Mt m) (h1 : p ≠ y) (h2 : p ≠ x) (h3 : q ≠ y) (h4 : q ≠ x) (h5 : p ≠ q) (h6 : y ≠ x) (hx : m x = none) : nt_rn y x m p = some q ↔ m p = some q := by
  have hs : ∀ a b, m a = some b → m b = some a := fun a b e => (h a b e).1
  unfold nt_rn
  grind
theorem nt_s02 {p q a b : Nat} {m : Nat → Option Nat} (h : nt_Mt m) (h1 : p ≠ a) (h2 : p ≠ b) (h3 : q ≠ a) (h4 : q ≠ b) (h5 : p ≠ q) (h6 : a ≠ b) (ha : m a = none) (hb : m b = none) : nt_ad a b (nt_fz p q m) = nt_fz p q (nt_ad a b m) := by
  have hs : ∀ a b, m a = some b → m b = some a := fun a b e => (h a b e).1
  funext z
  unfold nt_fz nt_ad
  grind (splits := 30)
theorem nt_s11 {y x y' x' : Nat} {m : Nat → Option Nat} (h : nt_Mt m) (h1 : y ≠ y') (h2 : y ≠ x') (h3 : x ≠ y') (h4 : x ≠ x') (h5 : y ≠ x) (h6 : y' ≠ x') (hx : m x = none) (hx' : m x' = none) : nt_rn y' x' (nt_rn y x m) = nt_rn y x (nt_rn y' x' m) := by
  have hs : ∀ a b, m a = some b → m b = some a := fun a b e => (h a b e).1
  have hn : ∀ a, m a ≠ some a := fun a e => (h a a e).2 rfl
  funext z
  unfold nt_rn
  grind (splits := 30)
theorem nt_s12 {y x a b : Nat} {m : Nat → Option Nat} (h : nt_Mt m) (h1 : y ≠ a) (h2 : y ≠ b) (h3 : x ≠ a) (h4 : x ≠ b) (h5 : y ≠ x) (h6 : a ≠ b) (hx : m x = none) (ha : m a = none) (hb : m b = none) : nt_ad a b (nt_rn y x m) = nt_rn y x (nt_ad a b m) := by
  have hs : ∀ a b, m a = some b → m b = some a := fun a b e => (h a b e).1
  funext z
  unfold nt_rn nt_ad
  grind (splits := 30)
theorem nt_s22 {a b a' b' : Nat} {m : Nat → Option Nat} (h1 : a ≠ a') (h2 : a ≠ b') (h3 : b ≠ a') (h4 : b ≠ b') : nt_ad a' b' (nt_ad a b m) = nt_ad a b (nt_ad a' b' m) := by
  funext z
  unfold nt_ad
  grind
theorem nt_c02 {p q a b : Nat} {m : Nat → Option Nat} (h1 : p ≠ a) (h2 : p ≠ b) : nt_ad a b m p = some q ↔ m p = some q := by
  unfold nt_ad
  rw [if_neg h1, if_neg h2]
theorem nt_sw {o o' : nt_O} {s : nt_S} (h : nt_Mt s.1) (ho : nt_ok o s.1) (ho' : nt_ok o' s.1) (hd : nt_dj o o') : nt_ap o' (nt_ap o s) = nt_ap o (nt_ap o' s) := by
  obtain ⟨d1, d2, d3, d4⟩ := hd
  obtain ⟨t, a, b⟩ := o
  obtain ⟨t', a', b'⟩ := o'
  obtain ⟨m, l⟩ := s
  obtain ⟨o1, o2, o3⟩ := ho
  obtain ⟨p1, p2, p3⟩ := ho'
  dsimp only at *
  rcases (by omega : t = 0 ∨ t = 1 ∨ (t ≠ 0 ∧ t ≠ 1)) with rfl | rfl | ⟨t0, t1⟩ <;>
  rcases (by omega : t' = 0 ∨ t' = 1 ∨ (t' ≠ 0 ∧ t' ≠ 1)) with rfl | rfl | ⟨t0', t1'⟩
  · rw [nt_ap0, nt_ap0, nt_ap0, nt_ap0]
    dsimp only
    rw [nt_s00 h d1 d2 d3 d4 o1 p1, nt_c00 h d1 d2 d3 d4 o1 p1]
  · have hx := p2 (by decide)
    rw [nt_ap0, nt_ap1, nt_ap1, nt_ap0]
    dsimp only
    rw [nt_s01 h d1 d2 d3 d4 o1 p1 hx]
    simp only [nt_c01 h d1 d2 d3 d4 o1 p1 hx]
  · have e1 : ∀ s, nt_ap (t', a', b') s = (nt_ad a' b' s.1, s.2) := fun s => by unfold nt_ap; rw [if_neg t0', if_neg t1']
    rw [nt_ap0, e1, e1, nt_ap0]
    dsimp only
    rw [nt_s02 h d1 d2 d3 d4 o1 p1 (p3 t0' t1') (p2 t0')]
    simp only [nt_c02 (q := b) (m := m) d1 d2]
  · have hx := o2 (by decide)
    rw [nt_ap0, nt_ap1, nt_ap1, nt_ap0]
    dsimp only
    rw [← nt_s01 h d1.symm d3.symm d2.symm d4.symm p1 o1 hx]
    simp only [nt_c01 h d1.symm d3.symm d2.symm d4.symm p1 o1 hx]
  · have hx := o2 (by decide)
    have hx' := p2 (by decide)
    rw [nt_ap1, nt_ap1, nt_ap1, nt_ap1]
    dsimp only
    rw [nt_s11 h d1 d2 d3 d4 o1 p1 hx hx']
  · have hx := o2 (by decide)
    have e1 : ∀ s, nt_ap (t', a', b') s = (nt_ad a' b' s.1, s.2) := fun s => by unfold nt_ap; rw [if_neg t0', if_neg t1']
    rw [nt_ap1, e1, e1, nt_ap1]
    dsimp only
    rw [nt_s12 h d1 d2 d3 d4 o1 p1 hx (p3 t0' t1') (p2 t0')]
  · have e1 : ∀ s, nt_ap (t, a, b) s = (nt_ad a b s.1, s.2) := fun s => by unfold nt_ap; rw [if_neg t0, if_neg t1]
    rw [nt_ap0, e1, e1, nt_ap0]
    dsimp only
    rw [← nt_s02 h d1.symm d3.symm d2.symm d4.symm p1 o1 (o3 t0 t1) (o2 t0)]
    simp only [nt_c02 (q := b') (m := m) d1.symm d3.symm]
  · have hx := p2 (by decide)
    have e1 : ∀ s, nt_ap (t, a, b) s = (nt_ad a b s.1, s.2) := fun s => by unfold nt_ap; rw [if_neg t0, if_neg t1]
    rw [nt_ap1, e1, e1, nt_ap1]
    dsimp only
    rw [← nt_s12 h d1.symm d3.symm d2.symm d4.symm p1 o1 hx (o3 t0 t1) (o2 t0)]
  · have e1 : ∀ s, nt_ap (t, a, b) s = (nt_ad a b s.1, s.2) := fun s => by unfold nt_ap; rw [if_neg t0, if_neg t1]
    have e2 : ∀ s, nt_ap (t', a', b') s = (nt_ad a' b' s.1, s.2) := fun s => by unfold nt_ap; rw [if_neg t0', if_neg t1']
    rw [e1, e2, e2, e1]
    dsimp only
    rw [nt_s22 d1 d2 d3 d4]
/-! lists of operations -/
def nt_run : List nt_O → nt_S → nt_S
  | [], s => s
  | o :: L, s => nt_run L (nt_ap o s)
def nt_okL : List nt_O → nt_S → Prop
  | [], _ => True
  | o :: L, s => nt_ok o s.1 ∧ nt_okL L (nt_ap o s)
theorem nt_mtL : ∀ (L : List nt_O) (s : nt_S), nt_Mt s.1 → nt_okL L s → nt_Mt (nt_run L s).1
  | [], _, h, _ => h
  | _ :: L, _, h, ho => nt_mtL L _ (nt_ap_mt h ho.1) ho.2
theorem nt_l1 : ∀ (L : List nt_O) (s : nt_S) (o' : nt_O), nt_Mt s.1 → nt_ok o' s.1 → nt_okL L s → (∀ o ∈ L, nt_dj o o') →
    nt_ok o' (nt_run L s).1 ∧ nt_run L (nt_ap o' s) = nt_ap o' (nt_run L s) ∧ nt_okL L (nt_ap o' s)
  | [], _, _, _, ho', _, _ => ⟨ho', rfl, trivial⟩
  | o :: L, s, o', h, ho', ho, hd => by
    have hdo := hd o (List.mem_cons_self ..)
    have I := nt_l1 L (nt_ap o s) o' (nt_ap_mt h ho.1) (nt_ok_ap ho' hdo) ho.2 (fun x hx => hd x (List.mem_cons_of_mem _ hx))
    have e := nt_sw h ho.1 ho' hdo
    have hd' : nt_dj o' o := ⟨hdo.1.symm, hdo.2.2.1.symm, hdo.2.1.symm, hdo.2.2.2.symm⟩
    refine ⟨I.1, ?_, nt_ok_ap ho.1 hd', ?_⟩
    · show nt_run L (nt_ap o (nt_ap o' s)) = _
      rw [← e]; exact I.2.1
    · rw [← e]; exact I.2.2
theorem nt_l2 (L : List nt_O) : ∀ (L' : List nt_O) (s : nt_S), nt_Mt s.1 → nt_okL L s → nt_okL L' s → (∀ o ∈ L, ∀ o' ∈ L', nt_dj o o') →
    nt_okL L' (nt_run L s) ∧ nt_run L' (nt_run L s) = nt_run L (nt_run L' s)
  | [], _, _, _, _, _ => ⟨trivial, rfl⟩
  | o' :: L', s, h, ho, ho', hd => by
    have I := nt_l1 L s o' h ho'.1 ho (fun o hx => hd o hx o' (List.mem_cons_self ..))
    have I2 := nt_l2 L L' (nt_ap o' s) (nt_ap_mt h ho'.1) I.2.2 ho'.2 (fun o hx o2 hx2 => hd o hx o2 (List.mem_cons_of_mem _ hx2))
    rw [I.2.1] at I2
    exact ⟨⟨I.1, I2.1⟩, I2.2⟩
theorem nt_okP : ∀ (L : List nt_O) (s : nt_S), (∀ o ∈ L, nt_ok o s.1) → L.Pairwise nt_dj → nt_okL L s
  | [], _, _, _ => trivial
  | o :: L, s, h, hp => by
    have hp' := List.pairwise_cons.mp hp
    exact ⟨h o (List.mem_cons_self ..), nt_okP L _ (fun x hx => nt_ok_ap (h x (List.mem_cons_of_mem _ hx)) (hp'.1 x hx)) hp'.2⟩
theorem nt_npL {y : Nat} : ∀ (L : List nt_O) (s : nt_S), s.1 y = none → (∀ o ∈ L, ¬ nt_tg o y) → (nt_run L s).1 y = none
  | [], _, h, _ => h
  | o :: L, _, h, ht => nt_npL L _ (nt_np h (ht o (List.mem_cons_self ..))) (fun x hx => ht x (List.mem_cons_of_mem _ hx))
theorem nt_rmL {y : Nat} : ∀ (L : List nt_O) (s : nt_S), (∃ o ∈ L, nt_rm o y) → (∀ o ∈ L, ¬ nt_tg o y) → (nt_run L s).1 y = none
  | [], _, ⟨_, h, _⟩, _ => nomatch h
  | o :: L, s, ⟨x, hx, hr⟩, ht => by
    have ht' : ∀ o ∈ L, ¬ nt_tg o y := fun x hx => ht x (List.mem_cons_of_mem _ hx)
    rcases List.mem_cons.mp hx with rfl | hx
    · exact nt_npL L _ (nt_rm1 hr) ht'
    · exact nt_rmL L _ ⟨x, hx, hr⟩ ht'
theorem nt_kpL {y z : Nat} : ∀ (L : List nt_O) (s : nt_S), nt_Mt s.1 → nt_okL L s → s.1 y = some z → (∀ o ∈ L, y ≠ o.2.1 ∧ y ≠ o.2.2 ∧ z ≠ o.2.1 ∧ z ≠ o.2.2) → (nt_run L s).1 y = some z
  | [], _, _, _, h, _ => h
  | o :: L, s, hm, ho, h, ht => by
    have t := ht o (List.mem_cons_self ..)
    exact nt_kpL L _ (nt_ap_mt hm ho.1) ho.2 (nt_kp hm h t.1 t.2.1 t.2.2.1 t.2.2.2) (fun x hx => ht x (List.mem_cons_of_mem _ hx))
end
section
/-! nets over names of cells: a cell n, when it is copied, leaves the cells 2 n + 10 and 2 n + 11 -/
def nt_pt (n s : Nat) : Nat := 4 + 3 * n + s
theorem nt_pteq {n s n' s' : Nat} (h : s < 3) (h' : s' < 3) : nt_pt n s = nt_pt n' s' ↔ n = n' ∧ s = s' := by
  unfold nt_pt; omega
def nt_opA (c d : Nat) : List nt_O := [(0, nt_pt c 0, nt_pt d 0), (0, nt_pt c 1, nt_pt d 1), (0, nt_pt c 2, nt_pt d 2)]
def nt_opE (c d n1 n2 : Nat) : List nt_O := [(0, nt_pt c 0, nt_pt d 0), (1, nt_pt c 1, nt_pt n1 0), (1, nt_pt c 2, nt_pt n2 0)]
def nt_opC (c d n1 n2 n3 n4 : Nat) : List nt_O := [(0, nt_pt c 0, nt_pt d 0), (1, nt_pt c 1, nt_pt n1 0), (1, nt_pt c 2, nt_pt n2 0), (1, nt_pt d 1, nt_pt n3 0), (1, nt_pt d 2, nt_pt n4 0), (2, nt_pt n1 1, nt_pt n3 1), (2, nt_pt n1 2, nt_pt n4 1), (2, nt_pt n2 1, nt_pt n3 2), (2, nt_pt n2 2, nt_pt n4 2)]
def nt_ops (x y c d n1 n2 n3 n4 : Nat) : List nt_O := if x = y then nt_opA c d else if y = 2 then nt_opE c d n1 n2 else nt_opC c d n1 n2 n3 n4
def nt_D6 (c d n1 n2 n3 n4 : Nat) : Prop := (c ≠ d ∧ c ≠ n1 ∧ c ≠ n2 ∧ c ≠ n3 ∧ c ≠ n4) ∧ (d ≠ n1 ∧ d ≠ n2 ∧ d ≠ n3 ∧ d ≠ n4) ∧ (n1 ≠ n2 ∧ n1 ≠ n3 ∧ n1 ≠ n4) ∧ (n2 ≠ n3 ∧ n2 ≠ n4) ∧ n3 ≠ n4
def nt_in6 (c d n1 n2 n3 n4 n : Nat) : Prop := n = c ∨ n = d ∨ n = n1 ∨ n = n2 ∨ n = n3 ∨ n = n4
theorem nt_opsP {x y c d n1 n2 n3 n4 : Nat} (h : nt_D6 c d n1 n2 n3 n4) : (nt_ops x y c d n1 n2 n3 n4).Pairwise nt_dj := by
  obtain ⟨⟨a1, a2, a3, a4, a5⟩, ⟨b1, b2, b3, b4⟩, ⟨c1, c2, c3⟩, ⟨d1, d2⟩, e1⟩ := h
  unfold nt_ops
  split
  · simp [nt_opA, nt_dj, nt_pteq, a1, a1.symm]
  · split
    · simp [nt_opE, nt_dj, nt_pteq, a1, a1.symm, a2, a2.symm, a3, a3.symm, b1, b1.symm, b2, b2.symm, c1, c1.symm]
    · simp [nt_opC, nt_dj, nt_pteq, a1, a1.symm, a2, a2.symm, a3, a3.symm, a4, a4.symm, a5, a5.symm, b1, b1.symm, b2, b2.symm, b3, b3.symm, b4, b4.symm, c1, c1.symm, c2, c2.symm, c3, c3.symm, d1, d1.symm, d2, d2.symm, e1, e1.symm]
theorem nt_opsI {x y c d n1 n2 n3 n4 : Nat} : ∀ o ∈ nt_ops x y c d n1 n2 n3 n4, ∃ n s n' s', o.2.1 = nt_pt n s ∧ o.2.2 = nt_pt n' s' ∧ s < 3 ∧ s' < 3 ∧ nt_in6 c d n1 n2 n3 n4 n ∧ nt_in6 c d n1 n2 n3 n4 n' := by
  intro o ho
  unfold nt_ops at ho
  unfold nt_in6
  split at ho
  · simp only [nt_opA, List.mem_cons, List.not_mem_nil, or_false] at ho
    rcases ho with rfl | rfl | rfl <;> exact ⟨_, _, _, _, rfl, rfl, by decide, by decide, by simp, by simp⟩
  · split at ho
    · simp only [nt_opE, List.mem_cons, List.not_mem_nil, or_false] at ho
      rcases ho with rfl | rfl | rfl <;> exact ⟨_, _, _, _, rfl, rfl, by decide, by decide, by simp, by simp⟩
    · simp only [nt_opC, List.mem_cons, List.not_mem_nil, or_false] at ho
      rcases ho with rfl | rfl | rfl | rfl | rfl | rfl | rfl | rfl | rfl <;> exact ⟨_, _, _, _, rfl, rfl, by decide, by decide, by simp, by simp⟩
/-- each operation may be done where the new cells' ports are open -/
theorem nt_opsO {x y c d n1 n2 n3 n4 : Nat} {m : Nat → Option Nat} (h : nt_D6 c d n1 n2 n3 n4) (h1 : ∀ s, s < 3 → m (nt_pt n1 s) = none) (h2 : ∀ s, s < 3 → m (nt_pt n2 s) = none) (h3 : ∀ s, s < 3 → m (nt_pt n3 s) = none) (h4 : ∀ s, s < 3 → m (nt_pt n4 s) = none) : ∀ o ∈ nt_ops x y c d n1 n2 n3 n4, nt_ok o m := by
  obtain ⟨⟨a1, a2, a3, a4, a5⟩, ⟨b1, b2, b3, b4⟩, ⟨c1, c2, c3⟩, ⟨d1, d2⟩, e1⟩ := h
  intro o ho
  unfold nt_ops at ho
  unfold nt_ok
  split at ho
  · simp only [nt_opA, List.mem_cons, List.not_mem_nil, or_false] at ho
    rcases ho with rfl | rfl | rfl <;> simp [nt_pteq, a1]
  · split at ho
    · simp only [nt_opE, List.mem_cons, List.not_mem_nil, or_false] at ho
      rcases ho with rfl | rfl | rfl <;> simp [nt_pteq, a1, a2, a3, h1, h2]
    · simp only [nt_opC, List.mem_cons, List.not_mem_nil, or_false] at ho
      rcases ho with rfl | rfl | rfl | rfl | rfl | rfl | rfl | rfl | rfl <;> simp [nt_pteq, a1, a2, a3, b3, b4, c2, c3, d1, d2, h1, h2, h3, h4]
/-- which ports are given a wire -/
theorem nt_opsT {x y c d n1 n2 n3 n4 n s : Nat} (hs : s < 3) : ∀ o ∈ nt_ops x y c d n1 n2 n3 n4, nt_tg o (nt_pt n s) → x ≠ y ∧ (n = n1 ∨ n = n2 ∨ (y ≠ 2 ∧ (n = n3 ∨ n = n4))) ∧ (y = 2 → s = 0) := by
  intro o ho
  unfold nt_ops at ho
  unfold nt_tg
  split at ho
  · simp only [nt_opA, List.mem_cons, List.not_mem_nil, or_false] at ho
    rcases ho with rfl | rfl | rfl <;> simp
  · split at ho
    · simp only [nt_opE, List.mem_cons, List.not_mem_nil, or_false] at ho
      rcases ho with rfl | rfl | rfl <;> simp [nt_pteq, hs] <;> grind
    · simp only [nt_opC, List.mem_cons, List.not_mem_nil, or_false] at ho
      rcases ho with rfl | rfl | rfl | rfl | rfl | rfl | rfl | rfl | rfl <;> simp [nt_pteq, hs] <;> grind
/-- which ports lose theirs -/
theorem nt_opsR {x y c d n1 n2 n3 n4 s : Nat} (hs : s < 3) : (∃ o ∈ nt_ops x y c d n1 n2 n3 n4, nt_rm o (nt_pt c s)) ∧ ((x = y ∨ y ≠ 2 ∨ s = 0) → ∃ o ∈ nt_ops x y c d n1 n2 n3 n4, nt_rm o (nt_pt d s)) := by
  unfold nt_ops
  unfold nt_rm
  rcases (by omega : s = 0 ∨ s = 1 ∨ s = 2) with rfl | rfl | rfl
  all_goals
    split
    · simp [nt_opA, nt_pteq]
    · split
      · simp [nt_opE, nt_pteq] <;> grind
      · simp [nt_opC, nt_pteq] <;> grind
abbrev nt_N : Type := (Nat → Nat) × nt_S
def nt_fire (K : Nat → Nat) (c d : Nat) (N : nt_N) : nt_N :=
  (fun n => if n = c ∨ n = d then 2 else if K c ≠ K d ∧ (n = 2 * d + 10 ∨ n = 2 * d + 11) then 1 else if K c ≠ K d ∧ K d ≠ 2 ∧ (n = 2 * c + 10 ∨ n = 2 * c + 11) then 1 else N.1 n,
   nt_run (nt_ops (K c) (K d) c d (2 * d + 10) (2 * d + 11) (2 * c + 10) (2 * c + 11)) N.2)
def nt_Inv (K : Nat → Nat) (N : nt_N) : Prop := nt_Mt N.2.1 ∧ (∀ n s, s < 3 → N.2.1 (nt_pt n s) ≠ none → N.1 n = 1) ∧ (∀ n, N.1 (2 * n + 10) ≠ 0 → N.1 n = 2) ∧ (∀ n, N.1 (2 * n + 11) ≠ 0 → N.1 n = 2) ∧ (∀ n, K n = 2 → N.2.1 (nt_pt n 1) = none ∧ N.2.1 (nt_pt n 2) = none)
def nt_KK (K : Nat → Nat) : Prop := ∀ n, K (2 * n + 10) = K n ∧ K (2 * n + 11) = K n
def nt_rdx (K : Nat → Nat) (c d : Nat) (N : nt_N) : Prop := N.1 c = 1 ∧ N.1 d = 1 ∧ N.2.1 (nt_pt c 0) = some (nt_pt d 0) ∧ K c ≤ K d ∧ K d ≤ 2
theorem nt_rd6 {K : Nat → Nat} {c d : Nat} {N : nt_N} (hI : nt_Inv K N) (hr : nt_rdx K c d N) : nt_D6 c d (2 * d + 10) (2 * d + 11) (2 * c + 10) (2 * c + 11) ∧ N.1 (2 * d + 10) = 0 ∧ N.1 (2 * d + 11) = 0 ∧ N.1 (2 * c + 10) = 0 ∧ N.1 (2 * c + 11) = 0 := by
  obtain ⟨hm, _, h1, h2, _⟩ := hI
  obtain ⟨hc, hd, he, _⟩ := hr
  have hne : nt_pt c 0 ≠ nt_pt d 0 := (hm _ _ he).2
  have hcd : c ≠ d := fun z => hne (by rw [z])
  have z1 : N.1 (2 * d + 10) = 0 := Decidable.byContradiction fun z => by have := h1 d z; omega
  have z2 : N.1 (2 * d + 11) = 0 := Decidable.byContradiction fun z => by have := h2 d z; omega
  have z3 : N.1 (2 * c + 10) = 0 := Decidable.byContradiction fun z => by have := h1 c z; omega
  have z4 : N.1 (2 * c + 11) = 0 := Decidable.byContradiction fun z => by have := h2 c z; omega
  have y1 : c ≠ 2 * d + 10 := fun z => by rw [← z] at z1; omega
  have y2 : c ≠ 2 * d + 11 := fun z => by rw [← z] at z2; omega
  have y3 : d ≠ 2 * c + 10 := fun z => by rw [← z] at z3; omega
  have y4 : d ≠ 2 * c + 11 := fun z => by rw [← z] at z4; omega
  refine ⟨⟨⟨hcd, y1, y2, ?_, ?_⟩, ⟨?_, ?_, y3, y4⟩, ⟨?_, ?_, ?_⟩, ⟨?_, ?_⟩, ?_⟩, z1, z2, z3, z4⟩ <;> omega
theorem nt_open {K : Nat → Nat} {n : Nat} {N : nt_N} (hI : nt_Inv K N) (h : N.1 n = 0) : ∀ s, s < 3 → N.2.1 (nt_pt n s) = none := by
  intro s hs
  cases e : N.2.1 (nt_pt n s) with
  | none => rfl
  | some z =>
    have := hI.2.1 n s hs (by rw [e]; exact fun z => nomatch z)
    omega
theorem nt_okR {K : Nat → Nat} {c d : Nat} {N : nt_N} (hI : nt_Inv K N) (hr : nt_rdx K c d N) : nt_okL (nt_ops (K c) (K d) c d (2 * d + 10) (2 * d + 11) (2 * c + 10) (2 * c + 11)) N.2 := by
  obtain ⟨h6, z1, z2, z3, z4⟩ := nt_rd6 hI hr
  exact nt_okP _ _ (nt_opsO h6 (nt_open hI z1) (nt_open hI z2) (nt_open hI z3) (nt_open hI z4)) (nt_opsP h6)
theorem nt_fire_inv {K : Nat → Nat} {c d : Nat} {N : nt_N} (hK : nt_KK K) (hI : nt_Inv K N) (hr : nt_rdx K c d N) : nt_Inv K (nt_fire K c d N) := by
  obtain ⟨h6, z1, z2, z3, z4⟩ := nt_rd6 hI hr
  have hok := nt_okR hI hr
  obtain ⟨hm, hl, h1, h2, he⟩ := id hI
  obtain ⟨hc, hd, hcd, hk, hk2⟩ := hr
  obtain ⟨⟨a1, a2, a3, a4, a5⟩, ⟨b1, b2, b3, b4⟩, ⟨c1, c2, c3⟩, ⟨d1, d2⟩, e1⟩ := id h6
  have hst : ∀ n, (nt_fire K c d N).1 n = if n = c ∨ n = d then 2 else if K c ≠ K d ∧ (n = 2 * d + 10 ∨ n = 2 * d + 11) then 1 else if K c ≠ K d ∧ K d ≠ 2 ∧ (n = 2 * c + 10 ∨ n = 2 * c + 11) then 1 else N.1 n := fun _ => rfl
  have hrun : (nt_fire K c d N).2 = nt_run (nt_ops (K c) (K d) c d (2 * d + 10) (2 * d + 11) (2 * c + 10) (2 * c + 11)) N.2 := rfl
  refine ⟨?_, ?_, ?_, ?_, ?_⟩
  · rw [hrun]; exact nt_mtL _ _ hm hok
  · intro n s hs hne
    rw [hrun] at hne
    rw [hst]
    by_cases ht : ∃ o ∈ nt_ops (K c) (K d) c d (2 * d + 10) (2 * d + 11) (2 * c + 10) (2 * c + 11), nt_tg o (nt_pt n s)
    · obtain ⟨o, ho, ht⟩ := ht
      have T := nt_opsT hs o ho ht
      have n1 : ¬ (n = c ∨ n = d) := by omega
      rw [if_neg n1]
      split
      · rfl
      · split
        · rfl
        · exfalso; omega
    · have ht' : ∀ o ∈ nt_ops (K c) (K d) c d (2 * d + 10) (2 * d + 11) (2 * c + 10) (2 * c + 11), ¬ nt_tg o (nt_pt n s) := fun o ho z => ht ⟨o, ho, z⟩
      have n1 : ¬ (n = c ∨ n = d) := by
        rintro (rfl | rfl)
        · exact hne (nt_rmL _ _ (nt_opsR hs).1 ht')
        · by_cases q : K c = K n ∨ K n ≠ 2 ∨ s = 0
          · exact hne (nt_rmL _ _ ((nt_opsR hs).2 q) ht')
          · refine hne (nt_npL _ _ ?_ ht')
            have q2 : K n = 2 := by omega
            rcases (by omega : s = 1 ∨ s = 2) with rfl | rfl
            · exact (he n q2).1
            · exact (he n q2).2
      have n2 : N.1 n = 1 := hl n s hs fun z => hne (nt_npL _ _ z ht')
      rw [if_neg n1]
      split
      · rfl
      · split
        · rfl
        · exact n2
  · intro n hn
    have q := h1 n
    rw [hst] at hn ⊢
    have e2 : N.1 (2 * n + 10) ≠ 0 ∨ n = c ∨ n = d := by
      by_cases u : N.1 (2 * n + 10) = 0
      · right
        split at hn
        · rename_i v; exfalso; rcases v with v | v <;> rw [v] at u <;> omega
        · split at hn
          · omega
          · split at hn
            · omega
            · exact absurd u hn
      · exact Or.inl u
    by_cases v : n = c ∨ n = d
    · rw [if_pos v]
    · have e3 := q (by omega)
      have v1 : ¬ n = 2 * d + 10 := by rintro rfl; omega
      have v2 : ¬ n = 2 * d + 11 := by rintro rfl; omega
      have v3 : ¬ n = 2 * c + 10 := by rintro rfl; omega
      have v4 : ¬ n = 2 * c + 11 := by rintro rfl; omega
      rw [if_neg v, if_neg (by omega), if_neg (by omega)]; exact e3
  · intro n hn
    have q := h2 n
    rw [hst] at hn ⊢
    have e2 : N.1 (2 * n + 11) ≠ 0 ∨ n = c ∨ n = d := by
      by_cases u : N.1 (2 * n + 11) = 0
      · right
        split at hn
        · rename_i v; exfalso; rcases v with v | v <;> rw [v] at u <;> omega
        · split at hn
          · omega
          · split at hn
            · omega
            · exact absurd u hn
      · exact Or.inl u
    by_cases v : n = c ∨ n = d
    · rw [if_pos v]
    · have e3 := q (by omega)
      have v1 : ¬ n = 2 * d + 10 := by rintro rfl; omega
      have v2 : ¬ n = 2 * d + 11 := by rintro rfl; omega
      have v3 : ¬ n = 2 * c + 10 := by rintro rfl; omega
      have v4 : ¬ n = 2 * c + 11 := by rintro rfl; omega
      rw [if_neg v, if_neg (by omega), if_neg (by omega)]; exact e3
  · intro n hn
    have k1 := (hK c).1
    have k2 := (hK c).2
    have k3 := (hK d).1
    have k4 := (hK d).2
    rw [hrun]
    have T : ∀ s, 0 < s → s < 3 → ∀ o ∈ nt_ops (K c) (K d) c d (2 * d + 10) (2 * d + 11) (2 * c + 10) (2 * c + 11), ¬ nt_tg o (nt_pt n s) := by
      intro s s0 s3 o ho ht
      obtain ⟨t1, t2, t3⟩ := nt_opsT s3 o ho ht
      by_cases kd : K d = 2
      · have := t3 kd; omega
      · rcases t2 with rfl | rfl | ⟨_, rfl | rfl⟩ <;> omega
    exact ⟨nt_npL _ _ (he n hn).1 (T 1 (by decide) (by decide)), nt_npL _ _ (he n hn).2 (T 2 (by decide) (by decide))⟩
end
section
/-! two steps at different places change places; so every run of steps to an end has the same end -/
theorem nt_ap0c {a b : Nat} {s : nt_S} (h : nt_Mt s.1) : nt_ap (0, a, b) s = nt_ap (0, b, a) s := by
  rw [nt_ap0, nt_ap0, nt_fz_comm h]
  have : s.1 a = some b ↔ s.1 b = some a := ⟨fun e => (h _ _ e).1, fun e => (h _ _ e).1⟩
  simp only [this]
theorem nt_runA_comm {c d : Nat} {s : nt_S} (h : nt_Mt s.1) (hcd : c ≠ d) : nt_run (nt_opA c d) s = nt_run (nt_opA d c) s := by
  have hp : ∀ i, i < 3 → nt_pt c i ≠ nt_pt d i := by intro i hi; rw [Ne, nt_pteq hi hi]; omega
  have o : ∀ i, i < 3 → ∀ m, nt_ok (0, nt_pt c i, nt_pt d i) m := fun i hi m => ⟨hp i hi, fun z => absurd rfl z, fun z => absurd rfl z⟩
  show nt_ap (0, nt_pt c 2, nt_pt d 2) (nt_ap (0, nt_pt c 1, nt_pt d 1) (nt_ap (0, nt_pt c 0, nt_pt d 0) s)) = nt_ap (0, nt_pt d 2, nt_pt c 2) (nt_ap (0, nt_pt d 1, nt_pt c 1) (nt_ap (0, nt_pt d 0, nt_pt c 0) s))
  have m1 := nt_ap_mt h (o 0 (by decide) _)
  have m2 := nt_ap_mt m1 (o 1 (by decide) _)
  rw [nt_ap0c (a := nt_pt d 0) (b := nt_pt c 0) h, nt_ap0c (a := nt_pt d 1) (b := nt_pt c 1) m1, nt_ap0c (a := nt_pt d 2) (b := nt_pt c 2) m2]
theorem nt_fire_comm {K : Nat → Nat} {c d : Nat} {N : nt_N} (h : nt_Mt N.2.1) (hcd : c ≠ d) (hk : K c = K d) : nt_fire K c d N = nt_fire K d c N := by
  unfold nt_fire
  refine Prod.ext ?_ ?_
  · funext n
    show (if n = c ∨ n = d then 2 else if K c ≠ K d ∧ (n = 2 * d + 10 ∨ n = 2 * d + 11) then 1 else if K c ≠ K d ∧ K d ≠ 2 ∧ (n = 2 * c + 10 ∨ n = 2 * c + 11) then 1 else N.1 n) = (if n = d ∨ n = c then 2 else if K d ≠ K c ∧ (n = 2 * c + 10 ∨ n = 2 * c + 11) then 1 else if K d ≠ K c ∧ K c ≠ 2 ∧ (n = 2 * d + 10 ∨ n = 2 * d + 11) then 1 else N.1 n)
    rw [hk]
    simp [Or.comm]
  · show nt_run (nt_ops (K c) (K d) c d (2 * d + 10) (2 * d + 11) (2 * c + 10) (2 * c + 11)) N.2 = nt_run (nt_ops (K d) (K c) d c (2 * c + 10) (2 * c + 11) (2 * d + 10) (2 * d + 11)) N.2
    unfold nt_ops
    rw [if_pos hk, if_pos hk.symm]
    exact nt_runA_comm h hcd
theorem nt_far {K : Nat → Nat} {c d e f : Nat} {N : nt_N} (hI : nt_Inv K N) (h1 : nt_rdx K c d N) (h2 : nt_rdx K e f N) (n1 : e ≠ c) (n2 : e ≠ d) (n3 : f ≠ c) (n4 : f ≠ d) :
    nt_rdx K e f (nt_fire K c d N) ∧ (∀ o ∈ nt_ops (K c) (K d) c d (2 * d + 10) (2 * d + 11) (2 * c + 10) (2 * c + 11), ∀ o' ∈ nt_ops (K e) (K f) e f (2 * f + 10) (2 * f + 11) (2 * e + 10) (2 * e + 11), nt_dj o o') ∧ (e ≠ 2 * d + 10 ∧ e ≠ 2 * d + 11 ∧ e ≠ 2 * c + 10 ∧ e ≠ 2 * c + 11) ∧ (f ≠ 2 * d + 10 ∧ f ≠ 2 * d + 11 ∧ f ≠ 2 * c + 10 ∧ f ≠ 2 * c + 11) := by
  obtain ⟨h6, z1, z2, z3, z4⟩ := nt_rd6 hI h1
  obtain ⟨h6', z1', z2', z3', z4'⟩ := nt_rd6 hI h2
  have hok := nt_okR hI h1
  obtain ⟨hc, hd, hcd, hk, hk2⟩ := id h1
  obtain ⟨hc', hd', hcd', hk', hk2'⟩ := id h2
  have e1 : e ≠ 2 * d + 10 := by rintro rfl; omega
  have e2 : e ≠ 2 * d + 11 := by rintro rfl; omega
  have e3 : e ≠ 2 * c + 10 := by rintro rfl; omega
  have e4 : e ≠ 2 * c + 11 := by rintro rfl; omega
  have f1 : f ≠ 2 * d + 10 := by rintro rfl; omega
  have f2 : f ≠ 2 * d + 11 := by rintro rfl; omega
  have f3 : f ≠ 2 * c + 10 := by rintro rfl; omega
  have f4 : f ≠ 2 * c + 11 := by rintro rfl; omega
  have g1 : c ≠ 2 * f + 10 := by rintro rfl; omega
  have g2 : c ≠ 2 * f + 11 := by rintro rfl; omega
  have g3 : c ≠ 2 * e + 10 := by rintro rfl; omega
  have g4 : c ≠ 2 * e + 11 := by rintro rfl; omega
  have k1 : d ≠ 2 * f + 10 := by rintro rfl; omega
  have k2 : d ≠ 2 * f + 11 := by rintro rfl; omega
  have k3 : d ≠ 2 * e + 10 := by rintro rfl; omega
  have k4 : d ≠ 2 * e + 11 := by rintro rfl; omega
  have far : ∀ n n', nt_in6 c d (2 * d + 10) (2 * d + 11) (2 * c + 10) (2 * c + 11) n → nt_in6 e f (2 * f + 10) (2 * f + 11) (2 * e + 10) (2 * e + 11) n' → n ≠ n' := by
    unfold nt_in6
    intro n n' a b z
    subst z
    rcases a with rfl | rfl | rfl | rfl | rfl | rfl <;> rcases b with b | b | b | b | b | b <;> omega
  refine ⟨⟨?_, ?_, ?_, hk', hk2'⟩, ?_, ⟨e1, e2, e3, e4⟩, ⟨f1, f2, f3, f4⟩⟩
  · show (if e = c ∨ e = d then 2 else if K c ≠ K d ∧ (e = 2 * d + 10 ∨ e = 2 * d + 11) then 1 else if K c ≠ K d ∧ K d ≠ 2 ∧ (e = 2 * c + 10 ∨ e = 2 * c + 11) then 1 else N.1 e) = 1
    rw [if_neg (by omega), if_neg (by omega), if_neg (by omega)]; exact hc'
  · show (if f = c ∨ f = d then 2 else if K c ≠ K d ∧ (f = 2 * d + 10 ∨ f = 2 * d + 11) then 1 else if K c ≠ K d ∧ K d ≠ 2 ∧ (f = 2 * c + 10 ∨ f = 2 * c + 11) then 1 else N.1 f) = 1
    rw [if_neg (by omega), if_neg (by omega), if_neg (by omega)]; exact hd'
  · refine nt_kpL _ _ hI.1 hok hcd' ?_
    intro o ho
    obtain ⟨n, s, n', s', q1, q2, q3, q4, q5, q6⟩ := nt_opsI o ho
    have he : ∀ k, nt_in6 c d (2 * d + 10) (2 * d + 11) (2 * c + 10) (2 * c + 11) k → k ≠ e ∧ k ≠ f := fun k hk => ⟨far k e hk (Or.inl rfl), far k f hk (Or.inr (Or.inl rfl))⟩
    have := he n q5
    have := he n' q6
    rw [q1, q2]
    refine ⟨?_, ?_, ?_, ?_⟩ <;> rw [Ne, nt_pteq (by omega) (by omega)] <;> omega
  · intro o ho o' ho'
    obtain ⟨n, s, n', s', q1, q2, q3, q4, q5, q6⟩ := nt_opsI o ho
    obtain ⟨k, t, k', t', r1, r2, r3, r4, r5, r6⟩ := nt_opsI o' ho'
    have x1 := far n k q5 r5
    have x2 := far n k' q5 r6
    have x3 := far n' k q6 r5
    have x4 := far n' k' q6 r6
    unfold nt_dj
    rw [q1, q2, r1, r2]
    refine ⟨?_, ?_, ?_, ?_⟩ <;> rw [Ne, nt_pteq (by omega) (by omega)] <;> omega
theorem nt_if4 {p q r s : Prop} [Decidable p] [Decidable q] [Decidable r] [Decidable s] {x : Nat} : (if p then 1 else if q then 1 else if r then 1 else if s then 1 else x) = if r then 1 else if s then 1 else if p then 1 else if q then 1 else x := by
  by_cases p <;> by_cases q <;> by_cases r <;> by_cases s <;> simp [*]
theorem nt_dia {K : Nat → Nat} {c d e f : Nat} {N : nt_N} (hI : nt_Inv K N) (h1 : nt_rdx K c d N) (h2 : nt_rdx K e f N) :
    nt_fire K c d N = nt_fire K e f N ∨ (nt_rdx K e f (nt_fire K c d N) ∧ nt_rdx K c d (nt_fire K e f N) ∧ nt_fire K e f (nt_fire K c d N) = nt_fire K c d (nt_fire K e f N)) := by
  have pt0 : ∀ a b, nt_pt a 0 = nt_pt b 0 → a = b := fun a b h => ((nt_pteq (by decide) (by decide)).mp h).1
  have hm := hI.1
  obtain ⟨hc, hd, hcd, hk, hk2⟩ := id h1
  obtain ⟨hc', hd', hcd', hk', hk2'⟩ := id h2
  have hdc := (hm _ _ hcd).1
  have hdc' := (hm _ _ hcd').1
  have ncd : c ≠ d := fun z => (hm _ _ hcd).2 (by rw [z])
  by_cases n1 : e = c
  · subst n1
    rw [hcd] at hcd'
    have := pt0 _ _ (Option.some.inj hcd')
    subst this
    exact Or.inl rfl
  by_cases n2 : e = d
  · subst n2
    rw [hdc] at hcd'
    have := pt0 _ _ (Option.some.inj hcd')
    subst this
    exact Or.inl (nt_fire_comm hm ncd (by omega))
  by_cases n3 : f = c
  · subst n3
    rw [hcd] at hdc'
    exact absurd (pt0 _ _ (Option.some.inj hdc')).symm n2
  by_cases n4 : f = d
  · subst n4
    rw [hdc] at hdc'
    exact absurd (pt0 _ _ (Option.some.inj hdc')).symm n1
  have A := nt_far hI h1 h2 n1 n2 n3 n4
  have B := nt_far hI h2 h1 (Ne.symm n1) (Ne.symm n3) (Ne.symm n2) (Ne.symm n4)
  refine Or.inr ⟨A.1, B.1, ?_⟩
  refine Prod.ext ?_ ?_
  · funext n
    obtain ⟨_, _, ⟨e1, e2, e3, e4⟩, ⟨f1, f2, f3, f4⟩⟩ := A
    obtain ⟨_, _, ⟨c1, c2, c3, c4⟩, ⟨d1, d2, d3, d4⟩⟩ := B
    show (if n = e ∨ n = f then 2 else if K e ≠ K f ∧ (n = 2 * f + 10 ∨ n = 2 * f + 11) then 1 else if K e ≠ K f ∧ K f ≠ 2 ∧ (n = 2 * e + 10 ∨ n = 2 * e + 11) then 1 else (if n = c ∨ n = d then 2 else if K c ≠ K d ∧ (n = 2 * d + 10 ∨ n = 2 * d + 11) then 1 else if K c ≠ K d ∧ K d ≠ 2 ∧ (n = 2 * c + 10 ∨ n = 2 * c + 11) then 1 else N.1 n)) = (if n = c ∨ n = d then 2 else if K c ≠ K d ∧ (n = 2 * d + 10 ∨ n = 2 * d + 11) then 1 else if K c ≠ K d ∧ K d ≠ 2 ∧ (n = 2 * c + 10 ∨ n = 2 * c + 11) then 1 else (if n = e ∨ n = f then 2 else if K e ≠ K f ∧ (n = 2 * f + 10 ∨ n = 2 * f + 11) then 1 else if K e ≠ K f ∧ K f ≠ 2 ∧ (n = 2 * e + 10 ∨ n = 2 * e + 11) then 1 else N.1 n))
    by_cases a : n = e ∨ n = f
    · rw [if_pos a, if_neg (by omega), if_neg (by omega), if_neg (by omega), if_pos a]
    · by_cases b : n = c ∨ n = d
      · rw [if_neg a, if_neg (by omega), if_neg (by omega), if_pos b, if_pos b]
      · rw [if_neg a, if_neg b, if_neg b, if_neg a]
        exact nt_if4
  · have l := (nt_l2 _ _ N.2 hm (nt_okR hI h1) (nt_okR hI h2) A.2.1).2
    exact l
/-! runs of steps -/
def nt_st (K : Nat → Nat) (N M : nt_N) : Prop := ∃ c d, nt_rdx K c d N ∧ M = nt_fire K c d N
def nt_stn (K : Nat → Nat) : Nat → nt_N → nt_N → Prop
  | 0, N, M => M = N
  | k + 1, N, M => ∃ A, nt_st K N A ∧ nt_stn K k A M
def nt_nf (K : Nat → Nat) (N : nt_N) : Prop := ∀ M, ¬ nt_st K N M
theorem nt_st_inv {K : Nat → Nat} {N M : nt_N} (hK : nt_KK K) (hI : nt_Inv K N) (h : nt_st K N M) : nt_Inv K M := by
  obtain ⟨c, d, hr, rfl⟩ := h
  exact nt_fire_inv hK hI hr
theorem nt_stn_inv {K : Nat → Nat} (hK : nt_KK K) : ∀ (k : Nat) (N M : nt_N), nt_Inv K N → nt_stn K k N M → nt_Inv K M
  | 0, _, _, hI, h => by cases h; exact hI
  | k + 1, _, _, hI, ⟨_, h1, h2⟩ => nt_stn_inv hK k _ _ (nt_st_inv hK hI h1) h2
theorem nt_stn_snoc {K : Nat → Nat} : ∀ (k : Nat) (N M P : nt_N), nt_stn K k N M → nt_st K M P → nt_stn K (k + 1) N P
  | 0, _, _, _, h, hs => by cases h; exact ⟨_, hs, rfl⟩
  | k + 1, _, _, _, ⟨A, h1, h2⟩, hs => ⟨A, h1, nt_stn_snoc k _ _ _ h2 hs⟩
theorem nt_cf1 {K : Nat → Nat} (hK : nt_KK K) : ∀ (k : Nat) (N A B : nt_N), nt_Inv K N → nt_stn K k N A → nt_nf K A → nt_st K N B → 0 < k ∧ nt_stn K (k - 1) B A
  | 0, _, _, B, _, h, hn, hs => by cases h; exact absurd hs (hn B)
  | k + 1, N, A, B, hI, ⟨N1, h1, h2⟩, hn, hs => by
    refine ⟨Nat.succ_pos _, ?_⟩
    obtain ⟨c, d, r1, rfl⟩ := id h1
    obtain ⟨e, f, r2, rfl⟩ := id hs
    rcases nt_dia hI r1 r2 with h | ⟨q1, q2, q3⟩
    · rw [← h]; exact h2
    · have I := nt_cf1 hK k _ A (nt_fire K e f (nt_fire K c d N)) (nt_fire_inv hK hI r1) h2 hn ⟨e, f, q1, rfl⟩
      rw [q3] at I
      obtain ⟨k', rfl⟩ : ∃ k', k = k' + 1 := ⟨k - 1, by omega⟩
      exact ⟨_, ⟨c, d, q2, rfl⟩, I.2⟩
theorem nt_cf {K : Nat → Nat} (hK : nt_KK K) : ∀ (j k : Nat) (N A B : nt_N), nt_Inv K N → nt_stn K k N A → nt_nf K A → nt_stn K j N B → j ≤ k ∧ nt_stn K (k - j) B A
  | 0, _, _, _, _, _, hA, _, h => by cases h; exact ⟨Nat.zero_le _, hA⟩
  | j + 1, k, N, A, B, hI, hA, hn, ⟨N1, h1, h2⟩ => by
    have a := nt_cf1 hK k N A N1 hI hA hn h1
    have b := nt_cf hK j (k - 1) N1 A B (nt_st_inv hK hI h1) a.2 hn h2
    refine ⟨by omega, ?_⟩
    rw [show k - (j + 1) = k - 1 - j by omega]
    exact b.2
/-- two ends are the same end -/
theorem nt_cf2 {K : Nat → Nat} {j k : Nat} {N A B : nt_N} (hK : nt_KK K) (hI : nt_Inv K N) (hA : nt_stn K k N A) (nA : nt_nf K A) (hB : nt_stn K j N B) (nB : nt_nf K B) : j = k ∧ B = A := by
  have h := nt_cf hK j k N A B hI hA nA hB
  have e : k - j = 0 := by
    cases q : k - j with
    | zero => rfl
    | succ i =>
      have h2 := h.2
      rw [q] at h2
      obtain ⟨M, h3, _⟩ := h2
      exact absurd h3 (nB M)
  have h2 := h.2
  rw [e] at h2
  exact ⟨by omega, h2.symm⟩
end
section
/-! nets over numbers of cells in the order of their making, as both classes keep them, and their names -/
def nt_pi (v : Nat → Nat) (p : Nat) : Nat := if p < 4 then p else nt_pt (v ((p - 4) / 3)) ((p - 4) % 3)
theorem nt_pi_pt {v : Nat → Nat} {c s : Nat} (hs : s < 3) : nt_pi v (nt_pt c s) = nt_pt (v c) s := by
  unfold nt_pi
  rw [if_neg (by unfold nt_pt; omega)]
  rw [show (nt_pt c s - 4) / 3 = c by unfold nt_pt; omega, show (nt_pt c s - 4) % 3 = s by unfold nt_pt; omega]
theorem nt_port (p : Nat) : p < 4 ∨ ∃ c s, s < 3 ∧ p = nt_pt c s := by
  by_cases h : p < 4
  · exact Or.inl h
  · exact Or.inr ⟨(p - 4) / 3, (p - 4) % 3, by omega, by unfold nt_pt; omega⟩
theorem nt_pt_lt {c s k : Nat} (hs : s < 3) : nt_pt c s < 4 + 3 * k ↔ c < k := by unfold nt_pt; omega
theorem nt_pi_lo {v : Nat → Nat} {p : Nat} (h : p < 4) : nt_pi v p = p := if_pos h
theorem nt_pi_inj {v : Nat → Nat} {k : Nat} (hv : ∀ x y, x < k → y < k → v x = v y → x = y) {p q : Nat} (hp : p < 4 + 3 * k) (hq : q < 4 + 3 * k) (h : nt_pi v p = nt_pi v q) : p = q := by
  rcases nt_port p with p4 | ⟨c, s, hs, rfl⟩
  · rcases nt_port q with q4 | ⟨d, t, ht, rfl⟩
    · rw [nt_pi_lo p4, nt_pi_lo q4] at h; exact h
    · rw [nt_pi_lo p4, nt_pi_pt ht] at h; unfold nt_pt at h; omega
  · rcases nt_port q with q4 | ⟨d, t, ht, rfl⟩
    · rw [nt_pi_lo q4, nt_pi_pt hs] at h; unfold nt_pt at h; omega
    · rw [nt_pi_pt hs, nt_pi_pt ht, nt_pteq hs ht] at h
      rw [nt_pt_lt hs] at hp
      rw [nt_pt_lt ht] at hq
      rw [hv _ _ hp hq h.1, h.2]
def nt_T (f : Nat → Nat) (B : Nat) (s t : nt_S) : Prop := (∀ p, p < B → t.1 (f p) = (s.1 p).map f) ∧ (∀ p q, s.1 p = some q → p < B ∧ q < B) ∧ t.2 = s.2
theorem nt_T_some {f : Nat → Nat} {B : Nat} {s t : nt_S} (hf : ∀ p q, p < B → q < B → f p = f q → p = q) (h : nt_T f B s t) {x a : Nat} (hx : x < B) (ha : a < B) : t.1 (f x) = some (f a) ↔ s.1 x = some a := by
  rw [h.1 x hx]
  cases e : s.1 x with
  | none => simp
  | some y =>
    have hy := (h.2.1 x y e).2
    simp only [Option.map_some, Option.some.injEq]
    exact ⟨fun z => hf _ _ hy ha z, fun z => by rw [z]⟩
theorem nt_T_ap {f : Nat → Nat} {B : Nat} {s t : nt_S} {o : nt_O} (hf : ∀ p q, p < B → q < B → f p = f q → p = q) (h : nt_T f B s t) (ha : o.2.1 < B) (hb : o.2.2 < B) : nt_T f B (nt_ap o s) (nt_ap (o.1, f o.2.1, f o.2.2) t) := by
  obtain ⟨ty, a, b⟩ := o
  dsimp only at ha hb ⊢
  have E : ∀ x y, x < B → y < B → (f x = f y ↔ x = y) := fun x y hx hy => ⟨hf x y hx hy, fun z => by rw [z]⟩
  have S := fun x y hx hy => nt_T_some (x := x) (a := y) hf h hx hy
  obtain ⟨h1, h2, h3⟩ := id h
  rcases (by omega : ty = 0 ∨ ty = 1 ∨ (ty ≠ 0 ∧ ty ≠ 1)) with rfl | rfl | ⟨t0, t1⟩
  · rw [nt_ap0, nt_ap0]
    refine ⟨?_, ?_, ?_⟩
    · intro p hp
      show nt_fz _ _ _ _ = Option.map f (nt_fz _ _ _ _)
      unfold nt_fz
      simp only [E p a hp ha, E p b hp hb, S p a hp ha, S p b hp hb]
      simp only [h1 a ha, h1 b hb, h1 p hp]
      split
      · rfl
      · split
        · rfl
        · split <;> rfl
    · intro p q e
      show p < B ∧ q < B
      change nt_fz a b s.1 p = some q at e
      unfold nt_fz at e
      split at e
      · cases e
      · split at e
        · rename_i e2
          exact ⟨(h2 _ _ e2).1, (h2 _ _ e).2⟩
        · split at e
          · rename_i e2
            exact ⟨(h2 _ _ e2).1, (h2 _ _ e).2⟩
          · exact h2 _ _ e
    · show (if t.1 (f a) = some (f b) then t.2 + 1 else t.2) = (if s.1 a = some b then s.2 + 1 else s.2)
      simp only [S a b ha hb, h3]
  · rw [nt_ap1, nt_ap1]
    refine ⟨?_, ?_, h3⟩
    · intro p hp
      show nt_rn _ _ _ _ = Option.map f (nt_rn _ _ _ _)
      unfold nt_rn
      simp only [E p a hp ha, E p b hp hb, S p a hp ha]
      simp only [h1 a ha, h1 p hp]
      split
      · rfl
      · split
        · rfl
        · split <;> rfl
    · intro p q e
      change nt_rn a b s.1 p = some q at e
      unfold nt_rn at e
      split at e
      · cases e
      · split at e
        · rename_i e2
          subst e2
          exact ⟨hb, (h2 _ _ e).2⟩
        · split at e
          · rename_i e2
            cases e
            exact ⟨(h2 _ _ e2).1, hb⟩
          · exact h2 _ _ e
  · have e1 : ∀ u w s, nt_ap (ty, u, w) s = (nt_ad u w s.1, s.2) := fun u w s => by unfold nt_ap; rw [if_neg t0, if_neg t1]
    rw [e1, e1]
    refine ⟨?_, ?_, h3⟩
    · intro p hp
      show nt_ad _ _ _ _ = Option.map f (nt_ad _ _ _ _)
      unfold nt_ad
      simp only [E p a hp ha, E p b hp hb, h1 p hp]
      split
      · rfl
      · split <;> rfl
    · intro p q e
      change nt_ad a b s.1 p = some q at e
      unfold nt_ad at e
      split at e
      · rename_i e2; cases e; subst e2; exact ⟨ha, hb⟩
      · split at e
        · rename_i e2; cases e; subst e2; exact ⟨hb, ha⟩
        · exact h2 _ _ e
theorem nt_T_run {f : Nat → Nat} {B : Nat} (hf : ∀ p q, p < B → q < B → f p = f q → p = q) : ∀ (L : List nt_O) (s t : nt_S), nt_T f B s t → (∀ o ∈ L, o.2.1 < B ∧ o.2.2 < B) → nt_T f B (nt_run L s) (nt_run (L.map fun o => (o.1, f o.2.1, f o.2.2)) t)
  | [], _, _, h, _ => h
  | o :: L, _, _, h, hB => nt_T_run hf L _ _ (nt_T_ap hf h (hB o (List.mem_cons_self ..)).1 (hB o (List.mem_cons_self ..)).2) (fun x hx => hB x (List.mem_cons_of_mem _ hx))
def nt_w (x y : Nat) : Nat := if x = y then 0 else if y = 2 then 2 else 4
def nt_lv (k w c d : Nat) (lv : Nat → Bool) : Nat → Bool := fun x => if x = c ∨ x = d then false else if k ≤ x ∧ x < k + w then true else lv x
def nt_kd (k x y : Nat) (kd : Nat → Nat) : Nat → Nat := fun z => if z = k ∨ z = k + 1 then y else if z = k + 2 ∨ z = k + 3 then x else kd z
def nt_nu (k c d : Nat) (v : Nat → Nat) : Nat → Nat := fun z => if z = k then 2 * v d + 10 else if z = k + 1 then 2 * v d + 11 else if z = k + 2 then 2 * v c + 10 else if z = k + 3 then 2 * v c + 11 else v z
def nt_Nm (K : Nat → Nat) (k : Nat) (v : Nat → Nat) (lv : Nat → Bool) (kd : Nat → Nat) (s : nt_S) (N : nt_N) : Prop :=
  (∀ x y, x < k → y < k → v x = v y → x = y) ∧ (∀ x, x < k → N.1 (v x) = if lv x = true then 1 else 2) ∧ (∀ n, N.1 n ≠ 0 → ∃ x, x < k ∧ v x = n) ∧ (∀ x, x < k → lv x = true → kd x = K (v x)) ∧ nt_T (nt_pi v) (4 + 3 * k) s N.2
theorem nt_opsB {x y c d k : Nat} (hc : c < k) (hd : d < k) : ∀ o ∈ nt_ops x y c d k (k + 1) (k + 2) (k + 3), o.2.1 < 4 + 3 * (k + nt_w x y) ∧ o.2.2 < 4 + 3 * (k + nt_w x y) := by
  intro o ho
  unfold nt_ops at ho
  unfold nt_w
  split at ho
  · rename_i h
    rw [if_pos h]
    simp only [nt_opA, List.mem_cons, List.not_mem_nil, or_false] at ho
    rcases ho with rfl | rfl | rfl <;> (dsimp only; unfold nt_pt; omega)
  · rename_i h
    rw [if_neg h]
    split at ho
    · rename_i h2
      rw [if_pos h2]
      simp only [nt_opE, List.mem_cons, List.not_mem_nil, or_false] at ho
      rcases ho with rfl | rfl | rfl <;> (dsimp only; unfold nt_pt; omega)
    · rename_i h2
      rw [if_neg h2]
      simp only [nt_opC, List.mem_cons, List.not_mem_nil, or_false] at ho
      rcases ho with rfl | rfl | rfl | rfl | rfl | rfl | rfl | rfl | rfl <;> (dsimp only; unfold nt_pt; omega)
theorem nt_opsM {x y c d n1 n2 n3 n4 : Nat} {v : Nat → Nat} : (nt_ops x y c d n1 n2 n3 n4).map (fun o => (o.1, nt_pi v o.2.1, nt_pi v o.2.2)) = nt_ops x y (v c) (v d) (v n1) (v n2) (v n3) (v n4) := by
  unfold nt_ops
  split
  · simp [nt_opA, nt_pi_pt]
  · split
    · simp [nt_opE, nt_pi_pt]
    · simp [nt_opC, nt_pi_pt]
theorem nt_sim {K : Nat → Nat} {k c d : Nat} {v : Nat → Nat} {lv : Nat → Bool} {kd : Nat → Nat} {s : nt_S} {N : nt_N} (hK : nt_KK K) (hI : nt_Inv K N) (hN : nt_Nm K k v lv kd s N) (hc : c < k) (hd : d < k) (lc : lv c = true) (ld : lv d = true) (he : s.1 (nt_pt c 0) = some (nt_pt d 0)) (hk : kd c ≤ kd d) (hk2 : kd d ≤ 2) :
    nt_rdx K (v c) (v d) N ∧ nt_Nm K (k + nt_w (kd c) (kd d)) (nt_nu k c d v) (nt_lv k (nt_w (kd c) (kd d)) c d lv) (nt_kd k (kd c) (kd d) kd) (nt_run (nt_ops (kd c) (kd d) c d k (k + 1) (k + 2) (k + 3)) s) (nt_fire K (v c) (v d) N) := by
  obtain ⟨hv, hl, hb, hkd, hT⟩ := hN
  have kc := hkd c hc lc
  have kD := hkd d hd ld
  have hr : nt_rdx K (v c) (v d) N := by
    refine ⟨?_, ?_, ?_, by omega, by omega⟩
    · rw [hl c hc, if_pos lc]
    · rw [hl d hd, if_pos ld]
    · have := hT.1 (nt_pt c 0) ((nt_pt_lt (by decide)).mpr hc)
      rw [he, nt_pi_pt (by decide)] at this
      rw [this]
      simp [nt_pi_pt]
  refine ⟨hr, ?_⟩
  obtain ⟨h6, z1, z2, z3, z4⟩ := nt_rd6 hI hr
  obtain ⟨⟨a1, a2, a3, a4, a5⟩, ⟨b1, b2, b3, b4⟩, ⟨c1, c2, c3⟩, ⟨d1, d2⟩, e1⟩ := id h6
  have hw : nt_w (kd c) (kd d) ≤ 4 := by unfold nt_w; split; omega; split <;> omega
  have nlo : ∀ x, x < k → nt_nu k c d v x = v x := by
    intro x hx
    unfold nt_nu
    rw [if_neg (by omega), if_neg (by omega), if_neg (by omega), if_neg (by omega)]
  have n0 : nt_nu k c d v k = 2 * v d + 10 := by unfold nt_nu; rw [if_pos rfl]
  have n1 : nt_nu k c d v (k + 1) = 2 * v d + 11 := by unfold nt_nu; rw [if_neg (by omega), if_pos rfl]
  have n2 : nt_nu k c d v (k + 2) = 2 * v c + 10 := by unfold nt_nu; rw [if_neg (by omega), if_neg (by omega), if_pos rfl]
  have n3 : nt_nu k c d v (k + 3) = 2 * v c + 11 := by unfold nt_nu; rw [if_neg (by omega), if_neg (by omega), if_neg (by omega), if_pos rfl]
  have old : ∀ x, x < k → N.1 (v x) ≠ 0 := by
    intro x hx; rw [hl x hx]; split <;> omega
  have new : ∀ x, k ≤ x → x < k + 4 → N.1 (nt_nu k c d v x) = 0 := by
    intro x h1 h2
    rcases (by omega : x = k ∨ x = k + 1 ∨ x = k + 2 ∨ x = k + 3) with rfl | rfl | rfl | rfl
    · rw [n0]; exact z1
    · rw [n1]; exact z2
    · rw [n2]; exact z3
    · rw [n3]; exact z4
  have hv' : ∀ x y, x < k + nt_w (kd c) (kd d) → y < k + nt_w (kd c) (kd d) → nt_nu k c d v x = nt_nu k c d v y → x = y := by
    intro x y hx hy e
    by_cases x1 : x < k
    · by_cases y1 : y < k
      · rw [nlo x x1, nlo y y1] at e; exact hv x y x1 y1 e
      · have := new y (by omega) (by omega)
        rw [← e, nlo x x1] at this
        exact absurd this (old x x1)
    · by_cases y1 : y < k
      · have := new x (by omega) (by omega)
        rw [e, nlo y y1] at this
        exact absurd this (old y y1)
      · rcases (by omega : x = k ∨ x = k + 1 ∨ x = k + 2 ∨ x = k + 3) with q | q | q | q <;>
        rcases (by omega : y = k ∨ y = k + 1 ∨ y = k + 2 ∨ y = k + 3) with r | r | r | r <;>
        first
          | (rw [q, r]; done)
          | (exfalso; rw [q, r] at e; simp only [n0, n1, n2, n3] at e; omega)
  have hst : ∀ n, (nt_fire K (v c) (v d) N).1 n = if n = v c ∨ n = v d then 2 else if K (v c) ≠ K (v d) ∧ (n = 2 * v d + 10 ∨ n = 2 * v d + 11) then 1 else if K (v c) ≠ K (v d) ∧ K (v d) ≠ 2 ∧ (n = 2 * v c + 10 ∨ n = 2 * v c + 11) then 1 else N.1 n := fun _ => rfl
  have hw2 : 0 < nt_w (kd c) (kd d) → K (v c) ≠ K (v d) := by
    unfold nt_w; intro h z; rw [if_pos (by omega)] at h; omega
  have hw4 : 2 < nt_w (kd c) (kd d) → K (v d) ≠ 2 := by
    unfold nt_w; intro h z; split at h; omega; rw [if_pos (by omega)] at h; omega
  have hw2' : K (v c) ≠ K (v d) → 2 ≤ nt_w (kd c) (kd d) := by
    unfold nt_w; intro h; rw [if_neg (by omega)]; split <;> omega
  have hw4' : K (v c) ≠ K (v d) → K (v d) ≠ 2 → 4 ≤ nt_w (kd c) (kd d) := by
    unfold nt_w; intro h h'; rw [if_neg (by omega), if_neg (by omega)]; omega
  generalize hW : nt_w (kd c) (kd d) = w at *
  refine ⟨hv', ?_, ?_, ?_, ?_⟩
  · intro x hx
    rw [hst]
    by_cases x1 : x < k
    · rw [nlo x x1]
      by_cases xe : x = c ∨ x = d
      · have hlv : nt_lv k w c d lv x = false := by unfold nt_lv; rw [if_pos xe]
        rw [hlv, if_pos (by rcases xe with rfl | rfl <;> simp)]
        rfl
      · have q1 : ¬ (v x = v c ∨ v x = v d) := by
          rintro (z | z)
          · exact xe (Or.inl (hv _ _ x1 hc z))
          · exact xe (Or.inr (hv _ _ x1 hd z))
        have q2 := old x x1
        have y1 : ¬ v x = 2 * v d + 10 := fun z => q2 (by rw [z]; exact z1)
        have y2 : ¬ v x = 2 * v d + 11 := fun z => q2 (by rw [z]; exact z2)
        have y3 : ¬ v x = 2 * v c + 10 := fun z => q2 (by rw [z]; exact z3)
        have y4 : ¬ v x = 2 * v c + 11 := fun z => q2 (by rw [z]; exact z4)
        have hlv : nt_lv k w c d lv x = lv x := by unfold nt_lv; rw [if_neg xe, if_neg (by omega)]
        rw [hlv, if_neg q1, if_neg (by omega), if_neg (by omega)]
        exact hl x x1
    · have q3 : ¬ (x = c ∨ x = d) := by omega
      have hlv : nt_lv k w c d lv x = true := by unfold nt_lv; rw [if_neg q3, if_pos ⟨by omega, hx⟩]
      rw [hlv, if_pos (c := true = true) rfl]
      have kk := hw2 (by omega)
      rcases (by omega : x = k ∨ x = k + 1 ∨ x = k + 2 ∨ x = k + 3) with q | q | q | q <;> rw [q]
      · rw [n0, if_neg (by omega), if_pos ⟨kk, Or.inl rfl⟩]
      · rw [n1, if_neg (by omega), if_pos ⟨kk, Or.inr rfl⟩]
      · rw [n2, if_neg (by omega), if_neg (by omega), if_pos ⟨kk, hw4 (by omega), Or.inl rfl⟩]
      · rw [n3, if_neg (by omega), if_neg (by omega), if_pos ⟨kk, hw4 (by omega), Or.inr rfl⟩]
  · intro n hn
    rw [hst] at hn
    split at hn
    · rename_i q
      rcases q with rfl | rfl
      · exact ⟨c, by omega, nlo c hc⟩
      · exact ⟨d, by omega, nlo d hd⟩
    · split at hn
      · rename_i q
        have := hw2' q.1
        rcases q.2 with rfl | rfl
        · exact ⟨k, by omega, n0⟩
        · exact ⟨k + 1, by omega, n1⟩
      · split at hn
        · rename_i q
          have := hw4' q.1 q.2.1
          rcases q.2.2 with rfl | rfl
          · exact ⟨k + 2, by omega, n2⟩
          · exact ⟨k + 3, by omega, n3⟩
        · obtain ⟨x, hx, rfl⟩ := hb n hn
          exact ⟨x, by omega, nlo x hx⟩
  · intro x hx hlx
    unfold nt_lv at hlx
    unfold nt_kd
    by_cases x1 : x < k
    · rw [if_neg (by omega), if_neg (by omega), nlo x x1]
      by_cases xe : x = c ∨ x = d
      · rw [if_pos xe] at hlx; cases hlx
      · rw [if_neg xe, if_neg (by omega)] at hlx
        exact hkd x x1 hlx
    · rcases (by omega : x = k ∨ x = k + 1 ∨ x = k + 2 ∨ x = k + 3) with rfl | rfl | rfl | rfl
      · rw [if_pos (Or.inl rfl), n0, (hK (v d)).1]; exact kD
      · rw [if_pos (Or.inr rfl), n1, (hK (v d)).2]; exact kD
      · rw [if_neg (by omega), if_pos (Or.inl rfl), n2, (hK (v c)).1]; exact kc
      · rw [if_neg (by omega), if_pos (Or.inr rfl), n3, (hK (v c)).2]; exact kc
  · have plo : ∀ p, p < 4 + 3 * k → nt_pi (nt_nu k c d v) p = nt_pi v p := by
      intro p hp
      rcases nt_port p with p4 | ⟨x, t, ht, rfl⟩
      · rw [nt_pi_lo p4, nt_pi_lo p4]
      · rw [nt_pi_pt ht, nt_pi_pt ht, nlo x ((nt_pt_lt ht).mp hp)]
    have T0 : nt_T (nt_pi (nt_nu k c d v)) (4 + 3 * (k + w)) s N.2 := by
      refine ⟨?_, ?_, hT.2.2⟩
      · intro p hp
        by_cases p1 : p < 4 + 3 * k
        · rw [plo p p1, hT.1 p p1]
          cases e : s.1 p with
          | none => rfl
          | some q =>
            rw [Option.map_some, Option.map_some, plo q (hT.2.1 p q e).2]
        · rcases nt_port p with p4 | ⟨x, t, ht, rfl⟩
          · omega
          · rw [nt_pt_lt ht] at p1 hp
            rw [nt_pi_pt ht, nt_open hI (new x (by omega) (by omega)) t ht]
            cases e : s.1 (nt_pt x t) with
            | none => rfl
            | some q =>
              have := (hT.2.1 _ _ e).1
              rw [nt_pt_lt ht] at this
              omega
      · intro p q e
        have := hT.2.1 p q e
        omega
    have R := nt_T_run (fun p q hp hq => nt_pi_inj hv' hp hq) (nt_ops (kd c) (kd d) c d k (k + 1) (k + 2) (k + 3)) s N.2 T0 (by have := nt_opsB (x := kd c) (y := kd d) hc hd; rw [hW] at this; exact this)
    rw [nt_opsM, nlo c hc, nlo d hd, n0, n1, n2, n3] at R
    show nt_T _ _ _ (nt_run (nt_ops (K (v c)) (K (v d)) (v c) (v d) (2 * v d + 10) (2 * v d + 11) (2 * v c + 10) (2 * v c + 11)) N.2)
    rw [← kc, ← kD]
    exact R
theorem nt_nfJ {K : Nat → Nat} {k : Nat} {v : Nat → Nat} {lv : Nat → Bool} {kd : Nat → Nat} {s : nt_S} {N : nt_N} (hN : nt_Nm K k v lv kd s N) (h : ∀ c d, c < k → d < k → s.1 (nt_pt c 0) ≠ some (nt_pt d 0)) : nt_nf K N := by
  rintro M ⟨n, n', ⟨h1, h2, h3, _⟩, _⟩
  obtain ⟨hv, hl, hb, hkd, hT⟩ := hN
  obtain ⟨c, hc, rfl⟩ := hb n (by omega)
  obtain ⟨d, hd, rfl⟩ := hb n' (by omega)
  have hp := (nt_pt_lt (c := c) (s := 0) (k := k) (by decide)).mpr hc
  have hq := (nt_pt_lt (c := d) (s := 0) (k := k) (by decide)).mpr hd
  have := (nt_T_some (fun p q hp hq => nt_pi_inj hv hp hq) hT hp hq).mp (by rw [nt_pi_pt (by decide), nt_pi_pt (by decide)]; exact h3)
  exact h c d hc hd this
end
section
/-! X's array of wires against a matching: port p stands at xa_xi p -/
theorem xa_m1 {n : Nat} (h : n < 2 ^ 31) : ¬ nI n = -1 := by
  intro z
  have := congrArg Int32.toInt z
  rw [nI_toInt h, show (-1 : Int32).toInt = -1 by decide] at this
  omega
theorem xa_div3 {a : Nat} (h : a < 2 ^ 31) : nI a / 3 = nI (a / 3) := pk_div (d := 3) h (by decide) (by decide)
theorem xa_rem3 {a : Nat} (h : a < 2 ^ 31) : nI a - nI a / 3 * 3 = nI (a % 3) := pk_rem (d := 3) h (by decide) (by decide)
theorem xa_3ne : ¬ (3 : Int32) = 0 := by decide
theorem xa_mul3 (a : Nat) : 3 * nI a = nI (3 * a) := pk_mul 3 a
def xa_xi (p : Nat) : Nat := if p < 4 then 1470 + p else p - 4
theorem xa_xi_lt {p : Nat} (h : p < 1474) : xa_xi p < 1474 := by unfold xa_xi; split <;> omega
theorem xa_xi_inj {p q : Nat} (hp : p < 1474) (hq : q < 1474) : xa_xi p = xa_xi q ↔ p = q := by
  unfold xa_xi; split <;> split <;> omega
theorem xa_xi_pt (c s : Nat) : xa_xi (nt_pt c s) = 3 * c + s := by
  unfold xa_xi nt_pt; rw [if_neg (by omega)]; omega
def xa_ex (z : Option Nat) : Int32 := match z with
  | none => -1
  | some q => nI (xa_xi q)
theorem xa_ex_none : xa_ex none = -1 := rfl
theorem xa_ex_some (q : Nat) : xa_ex (some q) = nI (xa_xi q) := rfl
def xa_hd (p : Nat) : Prop := 4 ≤ p ∧ (p - 4) % 3 = 0
theorem xa_hd_pt {p : Nat} (h : xa_hd p) : p = nt_pt ((p - 4) / 3) 0 := by unfold xa_hd at h; unfold nt_pt; omega
theorem xa_pt_hd (c : Nat) : xa_hd (nt_pt c 0) := by unfold xa_hd nt_pt; omega
def xa_P (m : Nat → Option Nat) (w : Nat) (wt : Nat → Int32) : Prop := ∀ c d, m (nt_pt c 0) = some (nt_pt d 0) → ∃ i, i < w ∧ (wt i = nI c ∨ wt i = nI d)
def xa_B (k w : Nat) (wt : Nat → Int32) : Prop := ∀ i, i < w → ∃ c, c < k ∧ wt i = nI c
def xa_M (k : Nat) (A : Nat → Prop) (s : nt_S) (o : Nat → Int32) (w : Nat) (wt : Nat → Int32) (lx e : Nat) : Prop :=
  k ≤ 490 ∧ nt_Mt s.1 ∧ (∀ p, A p → p < 4 + 3 * k ∧ o (xa_xi p) = xa_ex (s.1 p)) ∧ (∀ p q, s.1 p = some q → A p ∧ A q) ∧ xa_P s.1 w wt ∧ xa_B k w wt ∧ s.2 = lx + e
/-- what 'wire' may do to the stack -/
def xa_Q (p q w : Nat) (wt : Nat → Int32) (w' : Nat) (wt' : Nat → Int32) : Prop := (w' = w ∧ wt' = wt ∧ ¬ (xa_hd p ∧ xa_hd q)) ∨ (w' = w + 1 ∧ wt' = upd wt w (nI ((p - 4) / 3)) ∧ xa_hd p ∧ xa_hd q)
theorem xa_Q_P {p q w w' : Nat} {wt wt' : Nat → Int32} {m m' : Nat → Option Nat} (h : xa_P m w wt) (hm : ∀ c d, m' (nt_pt c 0) = some (nt_pt d 0) → m (nt_pt c 0) = some (nt_pt d 0) ∨ (nt_pt c 0 = p ∧ nt_pt d 0 = q) ∨ (nt_pt c 0 = q ∧ nt_pt d 0 = p)) (hQ : xa_Q p q w wt w' wt') : xa_P m' w' wt' := by
  intro c d e
  have old : m (nt_pt c 0) = some (nt_pt d 0) → ∃ i, i < w' ∧ (wt' i = nI c ∨ wt' i = nI d) := by
    intro e
    obtain ⟨i, hi, hw⟩ := h c d e
    rcases hQ with ⟨rfl, rfl, _⟩ | ⟨rfl, rfl, _⟩
    · exact ⟨i, hi, hw⟩
    · exact ⟨i, by omega, by rw [pk_un (by omega)]; exact hw⟩
  have pp : ∀ a, (nt_pt a 0 - 4) / 3 = a := fun a => by unfold nt_pt; omega
  rcases hm c d e with h1 | ⟨h1, h2⟩ | ⟨h1, h2⟩
  · exact old h1
  · rcases hQ with ⟨_, _, hn⟩ | ⟨rfl, rfl, _⟩
    · exact absurd ⟨h1 ▸ xa_pt_hd c, h2 ▸ xa_pt_hd d⟩ hn
    · exact ⟨w, by omega, Or.inl (by rw [pk_us, ← h1, pp])⟩
  · rcases hQ with ⟨_, _, hn⟩ | ⟨rfl, rfl, _⟩
    · exact absurd ⟨h2 ▸ xa_pt_hd d, h1 ▸ xa_pt_hd c⟩ hn
    · exact ⟨w, by omega, Or.inr (by rw [pk_us, ← h2, pp])⟩
theorem xa_Q_B {k p q w w' : Nat} {wt wt' : Nat → Int32} (h : xa_B k w wt) (hp : p < 4 + 3 * k) (hQ : xa_Q p q w wt w' wt') : xa_B k w' wt' := by
  intro i hi
  rcases hQ with ⟨rfl, rfl, _⟩ | ⟨rfl, rfl, hd, _⟩
  · exact h i hi
  · by_cases e : i = w
    · subst e
      exact ⟨(p - 4) / 3, by unfold xa_hd at hd; omega, pk_us⟩
    · obtain ⟨c, hc, hw⟩ := h i (by omega)
      exact ⟨c, hc, by rw [pk_un e]; exact hw⟩
theorem xa_Q_w {p q w w' : Nat} {wt wt' : Nat → Int32} (hQ : xa_Q p q w wt w' wt') : w ≤ w' ∧ w' ≤ w + 1 := by
  rcases hQ with ⟨rfl, _⟩ | ⟨rfl, _⟩ <;> omega
theorem xa_P_sub {w : Nat} {wt : Nat → Int32} {m m' : Nat → Option Nat} (h : xa_P m w wt) (hm : ∀ c d, m' (nt_pt c 0) = some (nt_pt d 0) → m (nt_pt c 0) = some (nt_pt d 0)) : xa_P m' w wt := fun c d e => h c d (hm c d e)
section
variable {fc fk fm fd fl ft fw : Int32} {kx wi ki go ot wa se qu : Nat → Int32}
theorem xa_isHead {post : Int32 → Prop} {p : Nat} (hp : p < 1474) (h1 : xa_hd p → post 1) (h0 : ¬ xa_hd p → post 0) : wpX_isHead post (fc, fk, fm, fd, fl, ft, fw, kx, wi, ki, go, ot, wa, se, qu) (nI (xa_xi p)) := by
  have hx := xa_xi_lt hp
  refine br_f (nI_pos (by omega)) ?_
  by_cases h4 : p < 4
  · have e : xa_xi p = 1470 + p := if_pos h4
    refine br_t (by rw [e]; exact nI_le (a := 1470) (by omega) (by omega)) (h0 ?_)
    unfold xa_hd; omega
  · have e : xa_xi p = p - 4 := if_neg h4
    refine br_f (by rw [e]; exact nI_ge (b := 1470) (by omega) (by omega)) ⟨xa_3ne, ?_⟩
    rw [xa_rem3 (by omega), e]
    by_cases h : (p - 4) % 3 = 0
    · exact br_t (by rw [h]; rfl) (h1 ⟨by omega, h⟩)
    · exact br_f (nI_ne0 (by omega) (by omega)) (h0 fun z => h z.2)
theorem xa_wire {post : SX → Prop} {p q w : Nat} (hp : p < 1474) (hq : q < 1474) (hw : w < 1000) (h : ∀ w' wt', xa_Q p q w wa w' wt' → post (fc, fk, fm, fd, fl, ft, nI w', kx, wi, ki, go, upd (upd ot (xa_xi p) (nI (xa_xi q))) (xa_xi q) (nI (xa_xi p)), wt', se, qu)) : wpX_wire post (fc, fk, fm, fd, fl, ft, nI w, kx, wi, ki, go, ot, wa, se, qu) (nI (xa_xi p)) (nI (xa_xi q)) := by
  have hx := xa_xi_lt hp
  have hy := xa_xi_lt hq
  refine ⟨vp_in_nI hx (by decide), nm_r (by rw [nI_clamp (by omega)]) ⟨vp_in_nI hy (by decide), nm_r (by rw [nI_clamp (by omega)]) ?_⟩⟩
  refine xa_isHead hp (fun a => br_f (by decide) (xa_isHead hq (fun b => br_f (by decide) ⟨xa_3ne, vp_in_nI hw (by decide), nm_r (by rw [nI_clamp (by omega), xa_div3 (by omega)]) (nm_r (nI_1 w) ?_)⟩) (fun b => br_t rfl ?_))) (fun a => br_t rfl ?_)
  · refine h (w + 1) _ (Or.inr ⟨rfl, ?_, a, b⟩)
    unfold xa_hd at a
    unfold xa_xi
    rw [if_neg (by omega)]
  · exact h w wa (Or.inl ⟨rfl, rfl, fun z => b z.2⟩)
  · exact h w wa (Or.inl ⟨rfl, rfl, fun z => a z.1⟩)
end
end
section
/-! X's fuse, take, wire, newCell as operations on the matching -/
theorem xb_fz_some {p q : Nat} {m : Nat → Option Nat} {x y : Nat} (h : nt_fz p q m x = some y) : x ≠ p ∧ x ≠ q ∧ m x ≠ none := by
  unfold nt_fz at h
  split at h
  · cases h
  · refine ⟨by omega, by omega, ?_⟩
    intro z; rw [z] at h; simp at h
theorem xb_M_fz {k : Nat} {A : Nat → Prop} {s : nt_S} {o o' : Nat → Int32} {w w' : Nat} {wt wt' : Nat → Int32} {lx lx' e p q : Nat} (h : xa_M k A s o w wt lx e) (hpq : p ≠ q) (ho : ∀ x, A x → x ≠ p → x ≠ q → o' (xa_xi x) = xa_ex (nt_fz p q s.1 x)) (hP : xa_P (nt_fz p q s.1) w' wt') (hB : xa_B k w' wt') (hl : lx' = if s.1 p = some q then lx + 1 else lx) : xa_M k (fun x => A x ∧ x ≠ p ∧ x ≠ q) (nt_ap (0, p, q) s) o' w' wt' lx' e := by
  obtain ⟨hk, hm, hA, hs, _, _, he⟩ := h
  have hm' := nt_mt_fz hm hpq
  have hz : ∀ x y, nt_fz p q s.1 x = some y → A x ∧ x ≠ p ∧ x ≠ q := by
    intro x y e
    obtain ⟨a, b, c⟩ := xb_fz_some e
    cases f : s.1 x with
    | none => exact absurd f c
    | some z => exact ⟨(hs x z f).1, a, b⟩
  refine ⟨hk, hm', ?_, ?_, hP, hB, ?_⟩
  · rintro x ⟨a, b, c⟩
    exact ⟨(hA x a).1, ho x a b c⟩
  · intro x y e
    exact ⟨hz x y e, hz y x (hm' x y e).1⟩
  · show (if s.1 p = some q then s.2 + 1 else s.2) = lx' + e
    rw [hl]; split <;> omega
theorem xb_fz_x1 {p q : Nat} {m : Nat → Option Nat} {x : Nat} (h1 : x ≠ p) (h2 : x ≠ q) (h3 : m x ≠ some p) (h4 : m x ≠ some q) : nt_fz p q m x = m x := by
  unfold nt_fz; rw [if_neg (by omega), if_neg h3, if_neg h4]
section
variable {fc fk fm fd fl ft fw : Int32} {kx wi ki go ot wa se qu : Nat → Int32}
theorem xb_fuse {post : SX → Prop} {k : Nat} {A : Nat → Prop} {s : nt_S} {w lx e p q : Nat} (h : xa_M k A s ot w wa lx e) (hp : A p) (hq : A q) (hpq : p ≠ q) (hw : w < 1000) (H : ∀ o' w' wt' lx', xa_M k (fun x => A x ∧ x ≠ p ∧ x ≠ q) (nt_ap (0, p, q) s) o' w' wt' lx' e → w' ≤ w + 1 → post (fc, fk, fm, fd, nI lx', ft, nI w', kx, wi, ki, go, o', wt', se, qu)) : wpX_fuse post (fc, fk, fm, fd, nI lx, ft, nI w, kx, wi, ki, go, ot, wa, se, qu) (nI (xa_xi p)) (nI (xa_xi q)) := by
  obtain ⟨hk, hm, hA, hs, hP, hB, he⟩ := id h
  have hb : ∀ x, A x → x < 1474 := fun x hx => by have := (hA x hx).1; omega
  have bp := xa_xi_lt (hb p hp)
  have bq := xa_xi_lt (hb q hq)
  have sy : ∀ x y, s.1 x = some y → s.1 y = some x := fun x y z => (hm x y z).1
  have ne : ∀ x y, s.1 x = some y → x ≠ y := fun x y z => (hm x y z).2
  have rd : ∀ x, A x → ot (nI (xa_xi x)).toNatClampNeg = xa_ex (s.1 x) := fun x hx => by
    have := xa_xi_lt (hb x hx)
    rw [nI_clamp (by omega)]; exact (hA x hx).2
  refine ⟨vp_in_nI bp (by decide), nm_r (rd p hp) ⟨vp_in_nI bq (by decide), nm_r (rd q hq) ?_⟩⟩
  have exn : ∀ x, A x → ¬ xa_ex (some x) = -1 := fun x hx => xa_m1 (by have := xa_xi_lt (hb x hx); omega)
  have exq : ∀ x y, A x → A y → (xa_ex (some x) = nI (xa_xi y) ↔ x = y) := by
    intro x y hx hy
    have b1 := xa_xi_lt (hb x hx)
    have b2 := xa_xi_lt (hb y hy)
    rw [xa_ex_some, nI_eq (by omega) (by omega), xa_xi_inj (hb x hx) (hb y hy)]
  have oth : ∀ (o : Nat → Int32) x y v, A x → A y → x ≠ y → upd o (xa_xi y) v (xa_xi x) = o (xa_xi x) := by
    intro o x y v hx hy hxy
    exact pk_un (by rw [Ne, xa_xi_inj (hb x hx) (hb y hy)]; exact hxy)
  cases ep : s.1 p with
  | none =>
    have np : ∀ x, s.1 x ≠ some p := fun x z => by have := sy _ _ z; rw [ep] at this; cases this
    refine br_f (fun z => xa_m1 (n := xa_xi q) (by omega) z.symm) (br_t rfl ?_)
    cases eq : s.1 q with
    | none =>
      have nq : ∀ x, s.1 x ≠ some q := fun x z => by have := sy _ _ z; rw [eq] at this; cases this
      have fx : ∀ x, x ≠ p → x ≠ q → nt_fz p q s.1 x = s.1 x := fun x h1 h2 => xb_fz_x1 h1 h2 (np x) (nq x)
      refine br_t rfl (br_t rfl (br_t rfl (br_t rfl ?_)))
      refine H ot w wa lx (xb_M_fz h hpq (fun x hx h1 h2 => ?_) (xa_P_sub hP fun c d z => ?_) hB ?_) (by omega)
      · rw [fx x h1 h2]; exact (hA x hx).2
      · have := xb_fz_some z; rw [fx _ this.1 this.2.1] at z; exact z
      · rw [ep, if_neg (fun z => nomatch z)]
    | some b =>
      have hb' := hs _ _ eq
      have eb := sy _ _ eq
      have nbq := ne _ _ eq
      have bb := xa_xi_lt (hb b hb'.2)
      have nbp : b ≠ p := fun z => by rw [z] at eb; rw [ep] at eb; cases eb
      have fb : nt_fz p q s.1 b = none := by
        unfold nt_fz; rw [if_neg (by omega), if_neg (by rw [eb]; intro z; cases z; exact hpq rfl), if_pos eb]; exact ep
      have fx : ∀ x, x ≠ p → x ≠ q → x ≠ b → nt_fz p q s.1 x = s.1 x := fun x h1 h2 h3 => xb_fz_x1 h1 h2 (np x) (fun z => by have := sy _ _ z; rw [eq] at this; cases this; exact h3 rfl)
      refine br_f (exn b hb'.2) ⟨vp_in_nI bb (by decide), nm_r (by rw [xa_ex_some, nI_clamp (by omega)]) ?_⟩
      refine H _ w wa lx (xb_M_fz h hpq (fun x hx h1 h2 => ?_) (xa_P_sub hP fun c d z => ?_) hB ?_) (by omega)
      · by_cases xb : x = b
        · rw [xb, fb, pk_us]; rfl
        · rw [oth _ _ _ _ hx hb'.2 xb, fx x h1 h2 xb]; exact (hA x hx).2
      · have t := xb_fz_some z
        have t2 : nt_pt c 0 ≠ b := fun y => by rw [y, fb] at z; cases z
        rw [fx _ t.1 t.2.1 t2] at z; exact z
      · rw [ep, if_neg (fun z => nomatch z)]
  | some a =>
    have ha' := hs _ _ ep
    have ea := sy _ _ ep
    have nap := ne _ _ ep
    have ba := xa_xi_lt (hb a ha'.2)
    by_cases aq : a = q
    · subst aq
      have fx : ∀ x, x ≠ p → x ≠ a → nt_fz p a s.1 x = s.1 x := fun x h1 h2 => xb_fz_x1 h1 h2 (fun z => by have := sy _ _ z; rw [ep] at this; cases this; exact h2 rfl) (fun z => by have := sy _ _ z; rw [ea] at this; cases this; exact h1 rfl)
      refine br_t rfl (nm_r (nI_1 lx) ?_)
      refine H ot w wa (lx + 1) (xb_M_fz h hpq (fun x hx h1 h2 => ?_) (xa_P_sub hP fun c d z => ?_) hB ?_) (by omega)
      · rw [fx x h1 h2]; exact (hA x hx).2
      · have := xb_fz_some z; rw [fx _ this.1 this.2.1] at z; exact z
      · rw [ep, if_pos rfl]
    · refine br_f (fun z => aq ((exq a q ha'.2 hq).mp z)) (br_f (exn a ha'.2) ?_)
      cases eq : s.1 q with
      | none =>
        have nq : ∀ x, s.1 x ≠ some q := fun x z => by have := sy _ _ z; rw [eq] at this; cases this
        have fa : nt_fz p q s.1 a = none := by
          unfold nt_fz; rw [if_neg (by omega), if_pos ea]; exact eq
        have fx : ∀ x, x ≠ p → x ≠ q → x ≠ a → nt_fz p q s.1 x = s.1 x := fun x h1 h2 h3 => xb_fz_x1 h1 h2 (fun z => by have := sy _ _ z; rw [ep] at this; cases this; exact h3 rfl) (nq x)
        refine br_t rfl (br_f (exn a ha'.2) ⟨vp_in_nI ba (by decide), nm_r (by rw [xa_ex_some, nI_clamp (by omega)]) ?_⟩)
        refine H _ w wa lx (xb_M_fz h hpq (fun x hx h1 h2 => ?_) (xa_P_sub hP fun c d z => ?_) hB ?_) (by omega)
        · by_cases xb : x = a
          · rw [xb, fa, pk_us]; rfl
          · rw [oth _ _ _ _ hx ha'.2 xb, fx x h1 h2 xb]; exact (hA x hx).2
        · have t := xb_fz_some z
          have t2 : nt_pt c 0 ≠ a := fun y => by rw [y, fa] at z; cases z
          rw [fx _ t.1 t.2.1 t2] at z; exact z
        · rw [ep, if_neg (fun z => by cases z; exact aq rfl)]
      | some b =>
        have hb' := hs _ _ eq
        have eb := sy _ _ eq
        have nbq := ne _ _ eq
        have bb := xa_xi_lt (hb b hb'.2)
        have nbp : b ≠ p := fun z => by rw [z] at eb; rw [ep] at eb; cases eb; exact aq rfl
        have nab : a ≠ b := fun z => by rw [z] at ea; rw [ea] at eb; cases eb; exact hpq rfl
        have fa : nt_fz p q s.1 a = some b := by
          unfold nt_fz; rw [if_neg (by omega), if_pos ea]; exact eq
        have fb : nt_fz p q s.1 b = some a := by
          unfold nt_fz; rw [if_neg (by omega), if_neg (by rw [eb]; intro z; cases z; exact hpq rfl), if_pos eb]; exact ep
        have fx : ∀ x, x ≠ p → x ≠ q → x ≠ a → x ≠ b → nt_fz p q s.1 x = s.1 x := fun x h1 h2 h3 h4 => xb_fz_x1 h1 h2 (fun z => by have := sy _ _ z; rw [ep] at this; cases this; exact h3 rfl) (fun z => by have := sy _ _ z; rw [eq] at this; cases this; exact h4 rfl)
        refine br_f (exn b hb'.2) (br_f (exn a ha'.2) ?_)
        refine xa_wire (hb a ha'.2) (hb b hb'.2) hw fun w' wt' hQ => ?_
        refine H _ w' wt' lx (xb_M_fz h hpq (fun x hx h1 h2 => ?_) (xa_Q_P hP (fun c d z => ?_) hQ) (xa_Q_B hB (hA a ha'.2).1 hQ) ?_) (xa_Q_w hQ).2
        · by_cases xb : x = b
          · rw [xb, fb, pk_us]; rfl
          · rw [oth _ _ _ _ hx hb'.2 xb]
            by_cases xa : x = a
            · rw [xa, fa, pk_us]; rfl
            · rw [oth _ _ _ _ hx ha'.2 xa, fx x h1 h2 xa xb]; exact (hA x hx).2
        · have t := xb_fz_some z
          by_cases t2 : nt_pt c 0 = a
          · rw [t2, fa] at z; cases z; exact Or.inr (Or.inl ⟨t2, rfl⟩)
          · by_cases t3 : nt_pt c 0 = b
            · rw [t3, fb] at z; cases z; exact Or.inr (Or.inr ⟨t3, rfl⟩)
            · rw [fx _ t.1 t.2.1 t2 t3] at z; exact Or.inl z
        · rw [ep, if_neg (fun z => by cases z; exact aq rfl)]
/-- take: port x, open till now, gets the wire of port y -/
theorem xb_take {post : SX → Prop} {k : Nat} {A : Nat → Prop} {s : nt_S} {w lx e x y : Nat} (h : xa_M k A s ot w wa lx e) (hx : A x) (hy : A y) (hxy : y ≠ x) (h0 : s.1 x = none) (hw : w < 1000) (H : ∀ o' w' wt', xa_M k (fun z => A z ∧ z ≠ y) (nt_ap (1, y, x) s) o' w' wt' lx e → w' ≤ w + 1 → post (fc, fk, fm, fd, fl, ft, nI w', kx, wi, ki, go, o', wt', se, qu)) : wpX_take post (fc, fk, fm, fd, fl, ft, nI w, kx, wi, ki, go, ot, wa, se, qu) (nI (xa_xi x)) (nI (xa_xi y)) := by
  obtain ⟨hk, hm, hA, hs, hP, hB, he⟩ := id h
  have hb : ∀ x, A x → x < 1474 := fun x hx => by have := (hA x hx).1; omega
  have bx := xa_xi_lt (hb x hx)
  have byy := xa_xi_lt (hb y hy)
  have sy : ∀ x y, s.1 x = some y → s.1 y = some x := fun x y z => (hm x y z).1
  have ne : ∀ x y, s.1 x = some y → x ≠ y := fun x y z => (hm x y z).2
  have hm' : nt_Mt (nt_rn y x s.1) := nt_mt_rn hm hxy h0
  have nx : ∀ z, s.1 z ≠ some x := fun z e => by have := sy _ _ e; rw [h0] at this; cases this
  have oth : ∀ (o : Nat → Int32) x y v, A x → A y → x ≠ y → upd o (xa_xi y) v (xa_xi x) = o (xa_xi x) := by
    intro o x y v hx hy hxy
    exact pk_un (by rw [Ne, xa_xi_inj (hb x hx) (hb y hy)]; exact hxy)
  have hz : ∀ z t, nt_rn y x s.1 z = some t → A z ∧ z ≠ y := by
    intro z t e
    unfold nt_rn at e
    split at e
    · cases e
    · rename_i zy
      split at e
      · rename_i zx; rw [zx]; exact ⟨hx, Ne.symm hxy⟩
      · split at e
        · rename_i zz; exact ⟨(hs _ _ zz).1, zy⟩
        · exact ⟨(hs _ _ e).1, zy⟩
  have gen : ∀ o' w' wt', (∀ z, A z → z ≠ y → o' (xa_xi z) = xa_ex (nt_rn y x s.1 z)) → xa_P (nt_rn y x s.1) w' wt' → xa_B k w' wt' → xa_M k (fun z => A z ∧ z ≠ y) (nt_ap (1, y, x) s) o' w' wt' lx e := by
    intro o' w' wt' ho hP' hB'
    refine ⟨hk, hm', ?_, ?_, hP', hB', he⟩
    · rintro z ⟨a, b⟩; exact ⟨(hA z a).1, ho z a b⟩
    · intro z t e2; exact ⟨hz z t e2, hz t z (hm' z t e2).1⟩
  have rd : ot (nI (xa_xi y)).toNatClampNeg = xa_ex (s.1 y) := by rw [nI_clamp (by omega)]; exact (hA y hy).2
  refine ⟨vp_in_nI byy (by decide), nm_r rd ?_⟩
  cases ey : s.1 y with
  | none =>
    have fx : ∀ z, z ≠ y → nt_rn y x s.1 z = s.1 z := by
      intro z zy
      unfold nt_rn
      rw [if_neg zy]
      by_cases zx : z = x
      · rw [if_pos zx, zx, ey, h0]
      · rw [if_neg zx, if_neg (fun e => by have := sy _ _ e; rw [ey] at this; cases this)]
    refine br_t rfl ⟨vp_in_nI bx (by decide), nm_r (by rw [nI_clamp (by omega)]) ?_⟩
    refine H _ w wa (gen _ _ _ (fun z hz zy => ?_) (xa_P_sub hP fun c d e2 => ?_) hB) (by omega)
    · rw [fx z zy]
      by_cases zx : z = x
      · rw [zx, pk_us, h0]; rfl
      · rw [oth _ _ _ _ hz hx zx]; exact (hA z hz).2
    · rw [fx _ (hz _ _ e2).2] at e2; exact e2
  | some t =>
    have ht := hs _ _ ey
    have et := sy _ _ ey
    have nt := ne _ _ ey
    have bt := xa_xi_lt (hb t ht.2)
    have ntx : t ≠ x := fun e => nx y (by rw [ey, e])
    have fx0 : nt_rn y x s.1 x = some t := by unfold nt_rn; rw [if_neg (Ne.symm hxy), if_pos rfl]; exact ey
    have ft0 : nt_rn y x s.1 t = some x := by unfold nt_rn; rw [if_neg (Ne.symm nt), if_neg ntx, if_pos et]
    have fx : ∀ z, z ≠ y → z ≠ x → z ≠ t → nt_rn y x s.1 z = s.1 z := by
      intro z zy zx zt
      unfold nt_rn
      rw [if_neg zy, if_neg zx, if_neg (fun e => by have := sy _ _ e; rw [ey] at this; cases this; exact zt rfl)]
    refine br_f (xa_m1 (by omega)) ?_
    refine xa_wire (hb x hx) (hb t ht.2) hw fun w' wt' hQ => ?_
    refine H _ w' wt' (gen _ _ _ (fun z hz zy => ?_) (xa_Q_P hP (fun c d e2 => ?_) hQ) (xa_Q_B hB (hA x hx).1 hQ)) (xa_Q_w hQ).2
    · by_cases zt : z = t
      · rw [zt, pk_us, ft0]; rfl
      · rw [oth _ _ _ _ hz ht.2 zt]
        by_cases zx : z = x
        · rw [zx, pk_us, fx0]; rfl
        · rw [oth _ _ _ _ hz hx zx, fx z zy zx zt]; exact (hA z hz).2
    · by_cases t2 : nt_pt c 0 = x
      · rw [t2, fx0] at e2; cases e2; exact Or.inr (Or.inl ⟨t2, rfl⟩)
      · by_cases t3 : nt_pt c 0 = t
        · rw [t3, ft0] at e2; cases e2; exact Or.inr (Or.inr ⟨t3, rfl⟩)
        · rw [fx _ (hz _ _ e2).2 t2 t3] at e2; exact Or.inl e2
/-- wire, between two open ports -/
theorem xb_wire {post : SX → Prop} {k : Nat} {A : Nat → Prop} {s : nt_S} {w lx e x y : Nat} (h : xa_M k A s ot w wa lx e) (hx : A x) (hy : A y) (hxy : x ≠ y) (h0 : s.1 x = none) (h1 : s.1 y = none) (hw : w < 1000) (H : ∀ o' w' wt', xa_M k A (nt_ap (2, x, y) s) o' w' wt' lx e → w' ≤ w + 1 → post (fc, fk, fm, fd, fl, ft, nI w', kx, wi, ki, go, o', wt', se, qu)) : wpX_wire post (fc, fk, fm, fd, fl, ft, nI w, kx, wi, ki, go, ot, wa, se, qu) (nI (xa_xi x)) (nI (xa_xi y)) := by
  obtain ⟨hk, hm, hA, hs, hP, hB, he⟩ := id h
  have hb : ∀ x, A x → x < 1474 := fun x hx => by have := (hA x hx).1; omega
  have hm' : nt_Mt (nt_ad x y s.1) := nt_mt_ad hm hxy h0 h1
  have oth : ∀ (o : Nat → Int32) x y v, A x → A y → x ≠ y → upd o (xa_xi y) v (xa_xi x) = o (xa_xi x) := by
    intro o x y v hx hy hxy
    exact pk_un (by rw [Ne, xa_xi_inj (hb x hx) (hb y hy)]; exact hxy)
  have fx0 : nt_ad x y s.1 x = some y := by unfold nt_ad; rw [if_pos rfl]
  have fy0 : nt_ad x y s.1 y = some x := by unfold nt_ad; rw [if_neg (Ne.symm hxy), if_pos rfl]
  have fx : ∀ z, z ≠ x → z ≠ y → nt_ad x y s.1 z = s.1 z := by
    intro z h1 h2; unfold nt_ad; rw [if_neg h1, if_neg h2]
  have hz : ∀ z t, nt_ad x y s.1 z = some t → A z := by
    intro z t e
    by_cases z1 : z = x
    · rw [z1]; exact hx
    · by_cases z2 : z = y
      · rw [z2]; exact hy
      · rw [fx z z1 z2] at e; exact (hs _ _ e).1
  refine xa_wire (hb x hx) (hb y hy) hw fun w' wt' hQ => ?_
  refine H _ w' wt' ⟨hk, hm', fun z a => ⟨(hA z a).1, ?_⟩, fun z t e2 => ⟨hz z t e2, hz t z (hm' z t e2).1⟩, xa_Q_P hP (fun c d e2 => ?_) hQ, xa_Q_B hB (hA x hx).1 hQ, he⟩ (xa_Q_w hQ).2
  · show _ = xa_ex (nt_ad x y s.1 z)
    by_cases zy : z = y
    · rw [zy, pk_us, fy0]; rfl
    · rw [oth _ _ _ _ a hy zy]
      by_cases zx : z = x
      · rw [zx, pk_us, fx0]; rfl
      · rw [oth _ _ _ _ a hx zx, fx z zx zy]; exact (hA z a).2
  · change nt_ad x y s.1 (nt_pt c 0) = _ at e2
    by_cases t2 : nt_pt c 0 = x
    · rw [t2, fx0] at e2; cases e2; exact Or.inr (Or.inl ⟨t2, rfl⟩)
    · by_cases t3 : nt_pt c 0 = y
      · rw [t3, fy0] at e2; cases e2; exact Or.inr (Or.inr ⟨t3, rfl⟩)
      · rw [fx _ t2 t3] at e2; exact Or.inl e2
def xb_A1 (k : Nat) (A : Nat → Prop) : Nat → Prop := fun p => A p ∨ p = nt_pt k 0 ∨ p = nt_pt k 1 ∨ p = nt_pt k 2
theorem xb_new {post : Int32 → SX → Prop} {k : Nat} {A : Nat → Prop} {s : nt_S} {w lx e : Nat} {x : Int32} (h : xa_M k A s ot w wa lx e) (hk : k < 490) (H : ∀ o', xa_M (k + 1) (xb_A1 k A) s o' w wa lx e → post (nI k) (fc, fk, nI (k + 1), fd, fl, ft, fw, kx, wi, upd ki k x, upd go k 0, o', wa, se, qu)) : wpX_newCell post (fc, fk, nI k, fd, fl, ft, fw, kx, wi, ki, go, ot, wa, se, qu) x := by
  obtain ⟨_, hm, hA, hs, hP, hB, he⟩ := id h
  have c1 : (nI k).toNatClampNeg = k := nI_clamp (by omega)
  refine nm_r (nI_1 k) ⟨vp_in_nI hk (by decide), nm_r (by rw [c1]) ⟨vp_in_nI hk (by decide), nm_r (by rw [c1]) ⟨4, ?_⟩⟩⟩
  have st : ∀ i, i < 3 → vp_in (3 * nI k + nI i) 1474 ∧ (3 * nI k + nI i).toNatClampNeg = 3 * k + i := by
    intro i hi
    rw [xa_mul3, nI_add]
    exact ⟨vp_in_nI (by omega) (by decide), nI_clamp (by omega)⟩
  refine br_f (by decide) ⟨(st 0 (by decide)).1, nm_r (by rw [show (3 * nI k + 0).toNatClampNeg = 3 * k + 0 from (st 0 (by decide)).2]) (nm_r (e' := nI 1) rfl ?_)⟩
  refine br_f (by decide) ⟨(st 1 (by decide)).1, nm_r (by rw [show (3 * nI k + nI 1).toNatClampNeg = 3 * k + 1 from (st 1 (by decide)).2]) (nm_r (e' := nI 2) rfl ?_)⟩
  refine br_f (by decide) ⟨(st 2 (by decide)).1, nm_r (by rw [show (3 * nI k + nI 2).toNatClampNeg = 3 * k + 2 from (st 2 (by decide)).2]) (nm_r (e' := nI 3) rfl ?_)⟩
  refine br_t (by decide) ?_
  refine H _ ⟨by omega, hm, ?_, fun p q z => ⟨Or.inl (hs p q z).1, Or.inl (hs p q z).2⟩, hP, fun i hi => ?_, he⟩
  · have nn : ∀ t, t < 3 → s.1 (nt_pt k t) = none := by
      intro t ht
      cases z : s.1 (nt_pt k t) with
      | none => rfl
      | some y =>
        have := (hA _ (hs _ _ z).1).1
        rw [nt_pt_lt ht] at this
        omega
    intro p hp
    by_cases a : A p
    · have b := hA p a
      have c : xa_xi p ≠ 3 * k + 0 ∧ xa_xi p ≠ 3 * k + 1 ∧ xa_xi p ≠ 3 * k + 2 := by
        unfold xa_xi; split <;> omega
      refine ⟨by omega, ?_⟩
      rw [pk_un c.2.2, pk_un c.2.1, pk_un c.1]; exact b.2
    · rcases hp with z | rfl | rfl | rfl
      · exact absurd z a
      · refine ⟨by unfold nt_pt; omega, ?_⟩
        rw [xa_xi_pt, nn 0 (by decide), pk_un (by omega), pk_un (by omega), pk_us]; rfl
      · refine ⟨by unfold nt_pt; omega, ?_⟩
        rw [xa_xi_pt, nn 1 (by decide), pk_un (by omega), pk_us]; rfl
      · refine ⟨by unfold nt_pt; omega, ?_⟩
        rw [xa_xi_pt, nn 2 (by decide), pk_us]; rfl
  · obtain ⟨c, hc, hw⟩ := hB i hi
    exact ⟨c, by omega, hw⟩
end
end
section
/-! X's step -/
theorem xc_p0 (c : Nat) : 3 * nI c = nI (xa_xi (nt_pt c 0)) := by rw [xa_mul3, xa_xi_pt]; rfl
theorem xc_p1 (c : Nat) : 3 * nI c + 1 = nI (xa_xi (nt_pt c 1)) := by rw [xa_mul3, xa_xi_pt]; exact nI_1 _
theorem xc_p2 (c : Nat) : 3 * nI c + 2 = nI (xa_xi (nt_pt c 2)) := by rw [xa_mul3, xa_xi_pt]; exact nI_add _ 2
def xc_A (k : Nat) (lv : Nat → Bool) : Nat → Prop := fun p => p < 4 ∨ ∃ c s, s < 3 ∧ c < k ∧ lv c = true ∧ p = nt_pt c s
theorem xc_A_pt {k : Nat} {lv : Nat → Bool} {c s : Nat} (hs : s < 3) : xc_A k lv (nt_pt c s) ↔ c < k ∧ lv c = true := by
  constructor
  · rintro (h | ⟨c', s', h1, h2, h3, h4⟩)
    · unfold nt_pt at h; omega
    · rw [nt_pteq hs h1] at h4; rw [h4.1]; exact ⟨h2, h3⟩
  · rintro ⟨h1, h2⟩; exact Or.inr ⟨c, s, hs, h1, h2, rfl⟩
theorem xc_lt4 {p c s : Nat} (h : p < 4) : p ≠ nt_pt c s := by unfold nt_pt; omega
theorem xc_lv {k w a b : Nat} {lv : Nat → Bool} {c : Nat} : nt_lv k w a b lv c = true ↔ c ≠ a ∧ c ≠ b ∧ ((k ≤ c ∧ c < k + w) ∨ lv c = true) := by
  unfold nt_lv
  by_cases h : c = a ∨ c = b
  · rw [if_pos h]; constructor
    · intro z; cases z
    · rintro ⟨h1, h2, _⟩; omega
  · rw [if_neg h]
    by_cases h2 : k ≤ c ∧ c < k + w
    · rw [if_pos h2]; simp; exact ⟨by omega, by omega, Or.inl h2⟩
    · rw [if_neg h2]; constructor
      · intro z; exact ⟨by omega, by omega, Or.inr z⟩
      · rintro ⟨_, _, z | z⟩
        · exact absurd z h2
        · exact z
def xc_G (k : Nat) (lv : Nat → Bool) (go : Nat → Int32) : Prop := ∀ c, c < k → (lv c = true → go c = 0) ∧ (lv c = false → go c = 1)
def xc_K (k : Nat) (kd : Nat → Nat) (ki : Nat → Int32) : Prop := ∀ c, c < k → ki c = nI (kd c) ∧ kd c ≤ 2
theorem xc_ext {k : Nat} {A A' : Nat → Prop} {s : nt_S} {o : Nat → Int32} {w : Nat} {wt : Nat → Int32} {lx e : Nat} (h : xa_M k A s o w wt lx e) (hA : ∀ x, A x ↔ A' x) : xa_M k A' s o w wt lx e := by
  have : A = A' := funext fun x => propext (hA x)
  rw [← this]; exact h
theorem xc_none {k : Nat} {A : Nat → Prop} {s : nt_S} {o : Nat → Int32} {w : Nat} {wt : Nat → Int32} {lx e : Nat} (h : xa_M k A s o w wt lx e) {c : Nat} (hc : k ≤ c) : ∀ t, t < 3 → s.1 (nt_pt c t) = none := by
  intro t ht
  cases z : s.1 (nt_pt c t) with
  | none => rfl
  | some y =>
    have := (h.2.2.1 _ (h.2.2.2.1 _ _ z).1).1
    rw [nt_pt_lt ht] at this
    omega
theorem xc_drop {k : Nat} {A : Nat → Prop} {s : nt_S} {o : Nat → Int32} {w : Nat} {wt : Nat → Int32} {lx e p : Nat} (h : xa_M k A s o w wt lx e) (hp : s.1 p = none) : xa_M k (fun x => A x ∧ x ≠ p) s o w wt lx e := by
  obtain ⟨hk, hm, hA, hs, hP, hB, he⟩ := h
  refine ⟨hk, hm, fun x hx => hA x hx.1, fun x y z => ⟨⟨(hs x y z).1, ?_⟩, (hs x y z).2, ?_⟩, hP, hB, he⟩
  · rintro rfl; rw [hp] at z; cases z
  · rintro rfl; have := (hm _ _ z).1; rw [hp] at this; cases this
theorem xc_ap0 {p q : Nat} {s : nt_S} (hm : nt_Mt s.1) (hp : s.1 p = none) (hq : s.1 q = none) : nt_ap (0, p, q) s = s := by
  rw [nt_ap0, if_neg (by rw [hp]; exact fun z => nomatch z)]
  refine Prod.ext ?_ rfl
  funext x
  show nt_fz p q s.1 x = s.1 x
  unfold nt_fz
  by_cases h : x = p ∨ x = q
  · rw [if_pos h]; rcases h with rfl | rfl
    · exact hp.symm
    · exact hq.symm
  · rw [if_neg h, if_neg (fun z => by have := (hm _ _ z).1; rw [hp] at this; cases this), if_neg (fun z => by have := (hm _ _ z).1; rw [hq] at this; cases this)]
/-- the wire between the two heads is taken out -/
theorem xc_head {k : Nat} {A : Nat → Prop} {s : nt_S} {o : Nat → Int32} {w : Nat} {wt : Nat → Int32} {lx e c d : Nat} (h : xa_M k A s o (w + 1) wt lx e) (he : s.1 (nt_pt c 0) = some (nt_pt d 0)) (hw : wt w = nI c) (hc : c < k) : xa_M k (fun x => A x ∧ x ≠ nt_pt c 0 ∧ x ≠ nt_pt d 0) (nt_ap (0, nt_pt c 0, nt_pt d 0) s) o w wt lx (e + 1) := by
  obtain ⟨hk, hm, hA, hs, hP, hB, hl⟩ := id h
  have sy : ∀ x y, s.1 x = some y → s.1 y = some x := fun x y z => (hm x y z).1
  have he' := sy _ _ he
  have fx : ∀ x, x ≠ nt_pt c 0 → x ≠ nt_pt d 0 → nt_fz (nt_pt c 0) (nt_pt d 0) s.1 x = s.1 x := fun x h1 h2 => xb_fz_x1 h1 h2 (fun z => by have := sy _ _ z; rw [he] at this; cases this; exact h2 rfl) (fun z => by have := sy _ _ z; rw [he'] at this; cases this; exact h1 rfl)
  have X := xb_M_fz (o' := o) (w' := w) (wt' := wt) (lx' := lx + 1) (p := nt_pt c 0) (q := nt_pt d 0) h (hm _ _ he).2 (fun x hx h1 h2 => by rw [fx x h1 h2]; exact (hA x hx).2) ?_ (fun i hi => hB i (by omega)) (by rw [he, if_pos rfl])
  · obtain ⟨a1, a2, a3, a4, a5, a6, a7⟩ := X
    exact ⟨a1, a2, a3, a4, a5, a6, by omega⟩
  · intro a b z
    have t := xb_fz_some z
    have z' := z
    rw [fx _ t.1 t.2.1] at z'
    obtain ⟨i, hi, hw2⟩ := hP a b z'
    refine ⟨i, ?_, hw2⟩
    have ac : a ≠ c := fun y => t.1 (by rw [y])
    have bc : b ≠ c := fun y => by
      rw [y] at z'
      have := sy _ _ z'
      rw [he] at this
      exact t.2.1 (Option.some.inj this).symm
    have : i ≠ w := by
      rintro rfl
      rw [hw] at hw2
      have ab : a < k := (nt_pt_lt (by decide)).mp (hA _ (hs _ _ z').1).1
      have bb : b < k := (nt_pt_lt (by decide)).mp (hA _ (hs _ _ z').2).1
      rcases hw2 with y | y
      · rw [nI_eq (by omega) (by omega)] at y; omega
      · rw [nI_eq (by omega) (by omega)] at y; omega
    omega
theorem xc_D6 {k a b : Nat} (ha : a < k) (hb : b < k) (hab : a ≠ b) : nt_D6 a b k (k + 1) (k + 2) (k + 3) := by
  unfold nt_D6; omega
section
variable {fc fk fm fd fl ft fw : Int32} {kx wi ki go ot wa se qu : Nat → Int32}
theorem xc_fuse {post : SX → Prop} {k : Nat} {A : Nat → Prop} {s : nt_S} {w lx e p q : Nat} {x y : Int32} (h : xa_M k A s ot w wa lx e) (hx : x = nI (xa_xi p)) (hy : y = nI (xa_xi q)) (hp : A p) (hq : A q) (hpq : p ≠ q) (hw : w < 1000) (H : ∀ o' w' wt' lx', xa_M k (fun x => A x ∧ x ≠ p ∧ x ≠ q) (nt_ap (0, p, q) s) o' w' wt' lx' e → w' ≤ w + 1 → post (fc, fk, fm, fd, nI lx', ft, nI w', kx, wi, ki, go, o', wt', se, qu)) : wpX_fuse post (fc, fk, fm, fd, nI lx, ft, nI w, kx, wi, ki, go, ot, wa, se, qu) x y := by
  subst hx hy; exact xb_fuse h hp hq hpq hw H
theorem xc_take {post : SX → Prop} {k : Nat} {A : Nat → Prop} {s : nt_S} {w lx e p q : Nat} {x y : Int32} (h : xa_M k A s ot w wa lx e) (hx : x = nI (xa_xi p)) (hy : y = nI (xa_xi q)) (hp : A p) (hq : A q) (ho : nt_ok (1, q, p) s.1) (hw : w < 1000) (H : ∀ o' w' wt', xa_M k (fun z => A z ∧ z ≠ q) (nt_ap (1, q, p) s) o' w' wt' lx e → w' ≤ w + 1 → post (fc, fk, fm, fd, fl, ft, nI w', kx, wi, ki, go, o', wt', se, qu)) : wpX_take post (fc, fk, fm, fd, fl, ft, nI w, kx, wi, ki, go, ot, wa, se, qu) x y := by
  subst hx hy; exact xb_take h hp hq ho.1 (ho.2.1 (show 1 ≠ 0 by decide)) hw H
theorem xc_wire {post : SX → Prop} {k : Nat} {A : Nat → Prop} {s : nt_S} {w lx e p q : Nat} {x y : Int32} (h : xa_M k A s ot w wa lx e) (hx : x = nI (xa_xi p)) (hy : y = nI (xa_xi q)) (hp : A p) (hq : A q) (ho : nt_ok (2, p, q) s.1) (hw : w < 1000) (H : ∀ o' w' wt', xa_M k A (nt_ap (2, p, q) s) o' w' wt' lx e → w' ≤ w + 1 → post (fc, fk, fm, fd, fl, ft, nI w', kx, wi, ki, go, o', wt', se, qu)) : wpX_wire post (fc, fk, fm, fd, fl, ft, nI w, kx, wi, ki, go, ot, wa, se, qu) x y := by
  subst hx hy; exact xb_wire h hp hq ho.1 (ho.2.2 (show 2 ≠ 0 by decide) (show 2 ≠ 1 by decide)) (ho.2.1 (show 2 ≠ 0 by decide)) hw H
theorem xc_ann {post : SX → Prop} {k a b : Nat} {A : Nat → Prop} {s : nt_S} {w lx e : Nat} (h : xa_M k A s ot w wa lx e) (hab : a ≠ b) (a1 : A (nt_pt a 1)) (a2 : A (nt_pt a 2)) (b1 : A (nt_pt b 1)) (b2 : A (nt_pt b 2)) (hw : w < 980) (H : ∀ o' w' wt' lx', xa_M k (fun x => (A x ∧ x ≠ nt_pt a 1 ∧ x ≠ nt_pt b 1) ∧ x ≠ nt_pt a 2 ∧ x ≠ nt_pt b 2) (nt_ap (0, nt_pt a 2, nt_pt b 2) (nt_ap (0, nt_pt a 1, nt_pt b 1) s)) o' w' wt' lx' e → w' ≤ w + 4 → post (fc, fk, fm, fd, nI lx', ft, nI w', kx, wi, ki, go, o', wt', se, qu)) : wpX_annihilate post (fc, fk, fm, fd, nI lx, ft, nI w, kx, wi, ki, go, ot, wa, se, qu) (nI a) (nI b) := by
  unfold wpX_annihilate
  refine xc_fuse h (xc_p1 a) (xc_p1 b) a1 b1 (by rw [Ne, nt_pteq (by decide) (by decide)]; omega) (by omega) fun o1 w1 t1 l1 M1 v1 => ?_
  refine xc_fuse M1 (xc_p2 a) (xc_p2 b) (by simp [nt_pteq, a2]) (by simp [nt_pteq, b2]) (by rw [Ne, nt_pteq (by decide) (by decide)]; omega) (by omega) fun o2 w2 t2 l2 M2 v2 => ?_
  exact H o2 w2 t2 l2 M2 (by omega)
theorem xc_er {post : SX → Prop} {k a b : Nat} {A : Nat → Prop} {s : nt_S} {w lx e : Nat} (h : xa_M k A s ot w wa lx e) (ha : a < k) (hb : b < k) (hk : k + 2 ≤ 490) (a1 : A (nt_pt a 1)) (a2 : A (nt_pt a 2)) (o1 : nt_ok (1, nt_pt a 1, nt_pt k 0) s.1) (o2 : nt_ok (1, nt_pt a 2, nt_pt (k + 1) 0) (nt_ap (1, nt_pt a 1, nt_pt k 0) s).1) (hw : w < 980) (H : ∀ o' w' wt', xa_M (k + 2) (fun x => xb_A1 (k + 1) (fun x => xb_A1 k A x ∧ x ≠ nt_pt a 1) x ∧ x ≠ nt_pt a 2) (nt_ap (1, nt_pt a 2, nt_pt (k + 1) 0) (nt_ap (1, nt_pt a 1, nt_pt k 0) s)) o' w' wt' lx e → w' ≤ w + 4 → post (fc, fk, nI (k + 2), fd, fl, ft, nI w', kx, wi, upd (upd ki k 2) (k + 1) 2, upd (upd go k 0) (k + 1) 0, o', wt', se, qu)) : wpX_erase post (fc, fk, nI k, fd, fl, ft, nI w, kx, wi, ki, go, ot, wa, se, qu) (nI a) := by
  unfold wpX_erase
  refine xb_new h (by omega) fun q1 M1 => ?_
  refine xc_take M1 (xc_p0 k) (xc_p1 a) (by simp [xb_A1]) (by simp [xb_A1, a1]) o1 (by omega) fun q2 w2 t2 M2 v2 => ?_
  refine xb_new M2 (by omega) fun q3 M3 => ?_
  refine xc_take M3 (xc_p0 (k + 1)) (xc_p2 a) (by simp [xb_A1]) (by simp [xb_A1, a2, nt_pteq]) o2 (by omega) fun q4 w4 t4 M4 v4 => ?_
  exact H q4 w4 t4 M4 (by omega)
end
end
section
/-! X's commute and step, over nets of numbered cells -/
def xd_A4 (k : Nat) (A : Nat → Prop) : Nat → Prop := xb_A1 (k + 3) (xb_A1 (k + 2) (xb_A1 (k + 1) (xb_A1 k A)))
def xd_opC (a b n1 n2 n3 n4 : Nat) : List nt_O := [(1, nt_pt a 1, nt_pt n1 0), (1, nt_pt a 2, nt_pt n2 0), (1, nt_pt b 1, nt_pt n3 0), (1, nt_pt b 2, nt_pt n4 0), (2, nt_pt n1 1, nt_pt n3 1), (2, nt_pt n1 2, nt_pt n4 1), (2, nt_pt n2 1, nt_pt n3 2), (2, nt_pt n2 2, nt_pt n4 2)]
def xd_J (k : Nat) (lv : Nat → Bool) (kd : Nat → Nat) (s : nt_S) (ki go o : Nat → Int32) (w : Nat) (wt : Nat → Int32) (lx e : Nat) : Prop := xa_M k (xc_A k lv) s o w wt lx e ∧ xc_G k lv go ∧ xc_K k kd ki
theorem xd_okC {a b k : Nat} {s : nt_S} (hk : ∀ c, k ≤ c → ∀ t, t < 3 → s.1 (nt_pt c t) = none) (ha : a < k) (hb : b < k) (hab : a ≠ b) : nt_okL (xd_opC a b k (k + 1) (k + 2) (k + 3)) s := by
  have D := xc_D6 ha hb hab
  have P := nt_opsP (x := 0) (y := 1) D
  have O := nt_opsO (x := 0) (y := 1) (m := s.1) D (hk _ (by omega)) (hk _ (by omega)) (hk _ (by omega)) (hk _ (by omega))
  have e : nt_ops 0 1 a b k (k + 1) (k + 2) (k + 3) = (0, nt_pt a 0, nt_pt b 0) :: xd_opC a b k (k + 1) (k + 2) (k + 3) := rfl
  rw [e] at P O
  exact nt_okP _ _ (fun o ho => O o (List.mem_cons_of_mem _ ho)) (List.pairwise_cons.mp P).2
section
variable {fc fk fm fd fl ft fw : Int32} {kx wi ki go ot wa se qu : Nat → Int32}
theorem xd_com {post : SX → Prop} {k a b : Nat} {A : Nat → Prop} {s : nt_S} {w lx e : Nat} (h : xa_M k A s ot w wa lx e) (ha : a < k) (hb : b < k) (hab : a ≠ b) (hk : k + 4 ≤ 490) (a1 : A (nt_pt a 1)) (a2 : A (nt_pt a 2)) (b1 : A (nt_pt b 1)) (b2 : A (nt_pt b 2)) (hw : w < 980) (H : ∀ o' w' wt', xa_M (k + 4) (fun x => (((xd_A4 k A x ∧ x ≠ nt_pt a 1) ∧ x ≠ nt_pt a 2) ∧ x ≠ nt_pt b 1) ∧ x ≠ nt_pt b 2) (nt_run (xd_opC a b k (k + 1) (k + 2) (k + 3)) s) o' w' wt' lx e → w' ≤ w + 8 → post (fc, fk, nI (k + 4), fd, fl, ft, nI w', kx, wi, upd (upd (upd (upd ki k 1) (k + 1) 1) (k + 2) 0) (k + 3) 0, upd (upd (upd (upd go k 0) (k + 1) 0) (k + 2) 0) (k + 3) 0, o', wt', se, qu)) : wpX_commute post (fc, fk, nI k, fd, fl, ft, nI w, kx, wi, ki, go, ot, wa, se, qu) (nI a) (nI b) := by
  obtain ⟨O1, O2, O3, O4, O5, O6, O7, O8, _⟩ := xd_okC (fun c hc => xc_none h hc) ha hb hab
  have n1 : a ≠ k ∧ a ≠ k + 1 ∧ a ≠ k + 2 ∧ a ≠ k + 3 := by omega
  have n2 : b ≠ k ∧ b ≠ k + 1 ∧ b ≠ k + 2 ∧ b ≠ k + 3 := by omega
  obtain ⟨x1, x2, x3, x4⟩ := n1
  obtain ⟨y1, y2, y3, y4⟩ := n2
  unfold wpX_commute
  refine xb_new h (by omega) fun q1 M1 => ?_
  refine xb_new M1 (by omega) fun q2 M2 => ?_
  refine xb_new M2 (by omega) fun q3 M3 => ?_
  refine xb_new M3 (by omega) fun q4 M4 => ?_
  change xa_M (k + 4) (xd_A4 k A) s q4 w wa lx e at M4
  refine xc_take M4 (xc_p0 k) (xc_p1 a) (by simp [xd_A4, xb_A1]) (by simp [xd_A4, xb_A1, a1]) O1 (by omega) fun q5 w5 t5 M5 v5 => ?_
  refine xc_take M5 (xc_p0 (k + 1)) (xc_p2 a) (by simp [xd_A4, xb_A1, nt_pteq, x1, x2, x3, x4, x1.symm, x2.symm, x3.symm, x4.symm]) (by simp [xd_A4, xb_A1, nt_pteq, a2]) O2 (by omega) fun q6 w6 t6 M6 v6 => ?_
  refine xc_take M6 (xc_p0 (k + 2)) (xc_p1 b) (by simp [xd_A4, xb_A1, nt_pteq, x1, x2, x3, x4, x1.symm, x2.symm, x3.symm, x4.symm]) (by simp [xd_A4, xb_A1, nt_pteq, b1, hab, hab.symm]) O3 (by omega) fun q7 w7 t7 M7 v7 => ?_
  refine xc_take M7 (xc_p0 (k + 3)) (xc_p2 b) (by simp [xd_A4, xb_A1, nt_pteq, x1, x2, x3, x4, x1.symm, x2.symm, x3.symm, x4.symm]) (by simp [xd_A4, xb_A1, nt_pteq, b2, hab, hab.symm]) O4 (by omega) fun q8 w8 t8 M8 v8 => ?_
  have mem : ∀ c t, k ≤ c → c < k + 4 → t < 3 → (((xd_A4 k A (nt_pt c t) ∧ nt_pt c t ≠ nt_pt a 1) ∧ nt_pt c t ≠ nt_pt a 2) ∧ nt_pt c t ≠ nt_pt b 1) ∧ nt_pt c t ≠ nt_pt b 2 := by
    intro c t h1 h2 h3
    refine ⟨⟨⟨⟨?_, ?_⟩, ?_⟩, ?_⟩, ?_⟩
    · simp only [xd_A4, xb_A1, nt_pteq h3 (show 0 < 3 by decide), nt_pteq h3 (show 1 < 3 by decide), nt_pteq h3 (show 2 < 3 by decide)]
      have : (c = k ∨ c = k + 1 ∨ c = k + 2 ∨ c = k + 3) ∧ (t = 0 ∨ t = 1 ∨ t = 2) := by omega
      rcases this with ⟨rfl | rfl | rfl | rfl, rfl | rfl | rfl⟩ <;> simp
    all_goals
      rw [Ne, nt_pteq h3 (by decide)]; omega
  refine xc_wire M8 (xc_p1 k) (xc_p1 (k + 2)) (mem k 1 (by omega) (by omega) (by omega)) (mem (k + 2) 1 (by omega) (by omega) (by omega)) O5 (by omega) fun q9 w9 t9 M9 v9 => ?_
  refine xc_wire M9 (xc_p2 k) (xc_p1 (k + 3)) (mem k 2 (by omega) (by omega) (by omega)) (mem (k + 3) 1 (by omega) (by omega) (by omega)) O6 (by omega) fun q10 w10 t10 M10 v10 => ?_
  refine xc_wire M10 (xc_p1 (k + 1)) (xc_p2 (k + 2)) (mem (k + 1) 1 (by omega) (by omega) (by omega)) (mem (k + 2) 2 (by omega) (by omega) (by omega)) O7 (by omega) fun q11 w11 t11 M11 v11 => ?_
  refine xc_wire M11 (xc_p2 (k + 1)) (xc_p2 (k + 3)) (mem (k + 1) 2 (by omega) (by omega) (by omega)) (mem (k + 3) 2 (by omega) (by omega) (by omega)) O8 (by omega) fun q12 w12 t12 M12 v12 => ?_
  exact H q12 w12 t12 M12 (by omega)
end
/-- the sets of ports in use at the ends of the three kinds of step -/
theorem xd_setA {k a b : Nat} {lv : Nat → Bool} (x : Nat) : (((xc_A k lv x ∧ x ≠ nt_pt a 0 ∧ x ≠ nt_pt b 0) ∧ x ≠ nt_pt a 1 ∧ x ≠ nt_pt b 1) ∧ x ≠ nt_pt a 2 ∧ x ≠ nt_pt b 2) ↔ xc_A (k + 0) (nt_lv k 0 a b lv) x := by
  rcases nt_port x with h | ⟨c, s, hs, rfl⟩
  · simp [xc_lt4 h, xc_A, h]
  · rw [xc_A_pt hs, xc_A_pt hs, xc_lv]
    have : s = 0 ∨ s = 1 ∨ s = 2 := by omega
    rcases this with rfl | rfl | rfl <;> simp [nt_pteq] <;> grind
theorem xd_setE {k a b : Nat} {lv : Nat → Bool} (ha : a < k) (hb : b < k) (x : Nat) : (((xb_A1 (k + 1) (fun x => xb_A1 k (fun x => xc_A k lv x ∧ x ≠ nt_pt a 0 ∧ x ≠ nt_pt b 0) x ∧ x ≠ nt_pt a 1) x ∧ x ≠ nt_pt a 2) ∧ x ≠ nt_pt b 1) ∧ x ≠ nt_pt b 2) ↔ xc_A (k + 2) (nt_lv k 2 a b lv) x := by
  rcases nt_port x with h | ⟨c, s, hs, rfl⟩
  · simp [xc_lt4 h, xc_A, h, xb_A1]
  · unfold xb_A1
    dsimp only
    rw [xc_A_pt hs, xc_A_pt hs, xc_lv]
    have : s = 0 ∨ s = 1 ∨ s = 2 := by omega
    rcases this with rfl | rfl | rfl <;> simp [nt_pteq] <;> grind
theorem xd_setC {k a b : Nat} {lv : Nat → Bool} (ha : a < k) (hb : b < k) (x : Nat) : ((((xd_A4 k (fun x => xc_A k lv x ∧ x ≠ nt_pt a 0 ∧ x ≠ nt_pt b 0) x ∧ x ≠ nt_pt a 1) ∧ x ≠ nt_pt a 2) ∧ x ≠ nt_pt b 1) ∧ x ≠ nt_pt b 2) ↔ xc_A (k + 4) (nt_lv k 4 a b lv) x := by
  rcases nt_port x with h | ⟨c, s, hs, rfl⟩
  · simp [xc_lt4 h, xc_A, h, xb_A1, xd_A4]
  · unfold xd_A4 xb_A1
    dsimp only
    rw [xc_A_pt hs, xc_A_pt hs, xc_lv]
    have : s = 0 ∨ s = 1 ∨ s = 2 := by omega
    rcases this with rfl | rfl | rfl <;> simp [nt_pteq] <;> grind
end
section
/-! X's step, whole -/
theorem xe_b1 : vp_nar .boolean 1 = 1 := rfl
theorem xe_b0 : vp_nar .boolean 0 = 0 := rfl
theorem xe_G {k w a b : Nat} {lv : Nat → Bool} {go go' : Nat → Int32} (h : xc_G k lv go) (h1 : ∀ x, x < k → x ≠ a → x ≠ b → go' x = go x) (h2 : ∀ x, (x = a ∨ x = b) → go' x = 1) (h3 : ∀ x, k ≤ x → x < k + w → go' x = 0) (ha : a < k) (hb : b < k) : xc_G (k + w) (nt_lv k w a b lv) go' := by
  intro x hx
  constructor
  · intro z
    obtain ⟨q1, q2, q3⟩ := xc_lv.mp z
    by_cases xk : x < k
    · rw [h1 x xk q1 q2]
      rcases q3 with q3 | q3
      · omega
      · exact (h x xk).1 q3
    · exact h3 x (by omega) hx
  · intro z
    unfold nt_lv at z
    split at z
    · rename_i q; exact h2 x q
    · rename_i q
      split at z
      · cases z
      · rw [h1 x (by omega) (by omega) (by omega)]
        exact (h x (by omega)).2 z
theorem xe_K {k w x y : Nat} {kd : Nat → Nat} {ki ki' : Nat → Int32} (h : xc_K k kd ki) (h1 : ∀ z, z < k → ki' z = ki z) (h2 : ∀ z, k ≤ z → z < k + w → (z = k ∨ z = k + 1 → ki' z = nI y) ∧ (z = k + 2 ∨ z = k + 3 → ki' z = nI x)) (hw : w ≤ 4) (hx : x ≤ 2) (hy : y ≤ 2) : xc_K (k + w) (nt_kd k x y kd) ki' := by
  intro z hz
  unfold nt_kd
  by_cases zk : z < k
  · rw [if_neg (by omega), if_neg (by omega), h1 z zk]
    exact h z zk
  · by_cases q : z = k ∨ z = k + 1
    · rw [if_pos q]; exact ⟨(h2 z (by omega) hz).1 q, hy⟩
    · rw [if_neg q, if_pos (by omega)]; exact ⟨(h2 z (by omega) hz).2 (by omega), hx⟩
theorem xe_wA {x y : Nat} (h : x = y) : nt_w x y = 0 := if_pos h
theorem xe_wE {x y : Nat} (h : x ≠ y) (h2 : y = 2) : nt_w x y = 2 := by unfold nt_w; rw [if_neg h, if_pos h2]
theorem xe_wC {x y : Nat} (h : x ≠ y) (h2 : y ≠ 2) : nt_w x y = 4 := by unfold nt_w; rw [if_neg h, if_neg h2]
theorem xe_oA {x y c d n1 n2 n3 n4 : Nat} (h : x = y) : nt_ops x y c d n1 n2 n3 n4 = nt_opA c d := if_pos h
theorem xe_oE {x y c d n1 n2 n3 n4 : Nat} (h : x ≠ y) (h2 : y = 2) : nt_ops x y c d n1 n2 n3 n4 = nt_opE c d n1 n2 := by unfold nt_ops; rw [if_neg h, if_pos h2]
theorem xe_oC {x y c d n1 n2 n3 n4 : Nat} (h : x ≠ y) (h2 : y ≠ 2) : nt_ops x y c d n1 n2 n3 n4 = nt_opC c d n1 n2 n3 n4 := by unfold nt_ops; rw [if_neg h, if_neg h2]
def xe_g2 (go : Nat → Int32) (c d : Nat) : Nat → Int32 := upd (upd go c 1) d 1
theorem xe_g2a {go : Nat → Int32} {c d x : Nat} (h : x = c ∨ x = d) : xe_g2 go c d x = 1 := by
  unfold xe_g2
  by_cases e : x = d
  · rw [e, pk_us]
  · rw [pk_un e]
    rcases h with rfl | h
    · exact pk_us
    · exact absurd h e
theorem xe_g2b {go : Nat → Int32} {c d x : Nat} (h1 : x ≠ c) (h2 : x ≠ d) : xe_g2 go c d x = go x := by
  unfold xe_g2; rw [pk_un h2, pk_un h1]
section
variable {fc fk fm fd fl ft fw : Int32} {kx wi ki go ot wa se qu : Nat → Int32}
variable {k c d : Nat} {lv : Nat → Bool} {kd : Nat → Nat} {s : nt_S} {w lx e : Nat}
/-- what X's step may hand on -/
def xe_H (post : SX → Prop) (fc fk fd ft : Int32) (kx wi se qu : Nat → Int32) (k c d : Nat) (lv : Nat → Bool) (kd : Nat → Nat) (s : nt_S) (w e : Nat) : Prop := ∀ a b, ((a = c ∧ b = d) ∨ (a = d ∧ b = c)) → kd a ≤ kd b → ∀ ki' go' o' w' wt' lx', xd_J (k + nt_w (kd a) (kd b)) (nt_lv k (nt_w (kd a) (kd b)) a b lv) (nt_kd k (kd a) (kd b) kd) (nt_run (nt_ops (kd a) (kd b) a b k (k + 1) (k + 2) (k + 3)) s) ki' go' o' w' wt' lx' (e + 1) → w' ≤ w + 8 → post (fc, fk, nI (k + nt_w (kd a) (kd b)), fd, nI lx', ft, nI w', kx, wi, ki', go', o', wt', se, qu)
theorem xe_ann {post : SX → Prop} (M : xa_M k (fun x => xc_A k lv x ∧ x ≠ nt_pt c 0 ∧ x ≠ nt_pt d 0) (nt_ap (0, nt_pt c 0, nt_pt d 0) s) ot w wa lx (e + 1)) (hG : xc_G k lv go) (hK : xc_K k kd ki) (hc : c < k) (hd : d < k) (hcd : c ≠ d) (lc : lv c = true) (ld : lv d = true) (hw : w < 980) (hk : kd c = kd d) (H : xe_H post fc fk fd ft kx wi se qu k c d lv kd s w e) : wpX_annihilate post (fc, fk, nI k, fd, nI lx, ft, nI w, kx, wi, ki, xe_g2 go c d, ot, wa, se, qu) (nI c) (nI d) := by
  have ac : ∀ t, t < 3 → xc_A k lv (nt_pt c t) := fun t ht => (xc_A_pt ht).mpr ⟨hc, lc⟩
  have ad : ∀ t, t < 3 → xc_A k lv (nt_pt d t) := fun t ht => (xc_A_pt ht).mpr ⟨hd, ld⟩
  have H' := H c d (Or.inl ⟨rfl, rfl⟩) (by omega)
  rw [xe_wA hk, xe_oA hk] at H'
  refine xc_ann M hcd (by simp [nt_pteq, ac]) (by simp [nt_pteq, ac]) (by simp [nt_pteq, ad]) (by simp [nt_pteq, ad]) hw fun o' w' wt' lx' M' hw' => ?_
  refine H' ki (xe_g2 go c d) o' w' wt' lx' ⟨xc_ext M' xd_setA, xe_G hG (fun x _ h1 h2 => xe_g2b h1 h2) (fun x h => xe_g2a h) (fun x h1 h2 => by omega) hc hd, ?_⟩ (by omega)
  exact xe_K hK (fun z _ => rfl) (fun z h1 h2 => by omega) (by omega) (hK c hc).2 (hK d hd).2
/-- two erasers: nothing more is done -/
theorem xe_two {post : SX → Prop} (M : xa_M k (fun x => xc_A k lv x ∧ x ≠ nt_pt c 0 ∧ x ≠ nt_pt d 0) (nt_ap (0, nt_pt c 0, nt_pt d 0) s) ot w wa lx (e + 1)) (hG : xc_G k lv go) (hK : xc_K k kd ki) (hc : c < k) (hd : d < k) (hE : ∀ x, x < k → lv x = true → kd x = 2 → s.1 (nt_pt x 1) = none ∧ s.1 (nt_pt x 2) = none) (lc : lv c = true) (ld : lv d = true) (hkc : kd c = 2) (hkd : kd d = 2) (H : xe_H post fc fk fd ft kx wi se qu k c d lv kd s w e) : post (fc, fk, nI k, fd, nI lx, ft, nI w, kx, wi, ki, xe_g2 go c d, ot, wa, se, qu) := by
  have H' := H c d (Or.inl ⟨rfl, rfl⟩) (by omega)
  have hk : kd c = kd d := by omega
  rw [xe_wA hk, xe_oA hk] at H'
  have nn : ∀ x t, x < k → lv x = true → kd x = 2 → 0 < t → t < 3 → (nt_ap (0, nt_pt c 0, nt_pt d 0) s).1 (nt_pt x t) = none := by
    intro x t h1 h2 h3 h4 h5
    refine nt_np ?_ (fun z => z.1 rfl)
    rcases (by omega : t = 1 ∨ t = 2) with rfl | rfl
    · exact (hE x h1 h2 h3).1
    · exact (hE x h1 h2 h3).2
  have M1 := xc_drop (xc_drop M (nn c 1 hc lc hkc (by decide) (by decide))) (nn d 1 hd ld hkd (by decide) (by decide))
  have M2 := xc_drop (xc_drop M1 (nn c 2 hc lc hkc (by decide) (by decide))) (nn d 2 hd ld hkd (by decide) (by decide))
  have er : nt_run (nt_opA c d) s = nt_ap (0, nt_pt c 0, nt_pt d 0) s := by
    show nt_ap (0, nt_pt c 2, nt_pt d 2) (nt_ap (0, nt_pt c 1, nt_pt d 1) (nt_ap (0, nt_pt c 0, nt_pt d 0) s)) = _
    rw [xc_ap0 (s := nt_ap (0, nt_pt c 0, nt_pt d 0) s) M.2.1 (nn c 1 hc lc hkc (by decide) (by decide)) (nn d 1 hd ld hkd (by decide) (by decide))]
    rw [xc_ap0 M.2.1 (nn c 2 hc lc hkc (by decide) (by decide)) (nn d 2 hd ld hkd (by decide) (by decide))]
  rw [er] at H'
  refine H' ki (xe_g2 go c d) ot w wa lx ⟨xc_ext M2 (fun x => ?_), xe_G hG (fun x _ h1 h2 => xe_g2b h1 h2) (fun x h => xe_g2a h) (fun x h1 h2 => by omega) hc hd, ?_⟩ (by omega)
  · rw [← xd_setA]; simp only [and_assoc]
  · exact xe_K hK (fun z _ => rfl) (fun z h1 h2 => by omega) (by omega) (hK c hc).2 (hK d hd).2
/-- a is erased by b -/
theorem xe_er {post : SX → Prop} {a b : Nat} (hab : (a = c ∧ b = d) ∨ (a = d ∧ b = c)) (M : xa_M k (fun x => xc_A k lv x ∧ x ≠ nt_pt a 0 ∧ x ≠ nt_pt b 0) (nt_ap (0, nt_pt a 0, nt_pt b 0) s) ot w wa lx (e + 1)) (hG : xc_G k lv go) (hK : xc_K k kd ki) (hc : a < k) (hd : b < k) (hcd : a ≠ b) (hE : ∀ x, x < k → lv x = true → kd x = 2 → s.1 (nt_pt x 1) = none ∧ s.1 (nt_pt x 2) = none) (nk : ∀ x, k ≤ x → ∀ t, t < 3 → s.1 (nt_pt x t) = none) (lc : lv a = true) (ld : lv b = true) (hw : w < 980) (hk : k + 4 ≤ 490) (hka : kd a ≠ 2) (hkb : kd b = 2) (H : xe_H post fc fk fd ft kx wi se qu k c d lv kd s w e) : wpX_erase post (fc, fk, nI k, fd, nI lx, ft, nI w, kx, wi, ki, xe_g2 go c d, ot, wa, se, qu) (nI a) := by
  have ac : ∀ t, t < 3 → xc_A k lv (nt_pt a t) := fun t ht => (xc_A_pt ht).mpr ⟨hc, lc⟩
  have ka := (hK a hc).2
  have H' := H a b hab (by omega)
  have ne : kd a ≠ kd b := by omega
  rw [xe_wE ne hkb, xe_oE ne hkb] at H'
  have D := xc_D6 hc hd hcd
  have okl : nt_okL (nt_opE a b k (k + 1)) s := by
    have O := nt_opsO (x := 0) (y := 2) (m := s.1) D (nk _ (by omega)) (nk _ (by omega)) (nk _ (by omega)) (nk _ (by omega))
    have P := nt_opsP (x := 0) (y := 2) D
    exact nt_okP _ _ O P
  obtain ⟨_, o1, o2, _⟩ := okl
  refine xc_er M hc hd (by omega) (by simp [nt_pteq, ac]) (by simp [nt_pteq, ac]) o1 o2 hw fun o' w' wt' M' hw' => ?_
  have nb : ∀ t, 0 < t → t < 3 → (nt_run (nt_opE a b k (k + 1)) s).1 (nt_pt b t) = none := by
    intro t t0 t3
    refine nt_npL _ _ ?_ ?_
    · rcases (by omega : t = 1 ∨ t = 2) with rfl | rfl
      · exact (hE b hd ld hkb).1
      · exact (hE b hd ld hkb).2
    · intro o ho ht
      have := nt_opsT (x := 0) (y := 2) (n3 := k + 2) (n4 := k + 3) t3 o ho ht
      omega
  have M2 := xc_drop (xc_drop M' (nb 1 (by decide) (by decide))) (nb 2 (by decide) (by decide))
  have g : ∀ x, x < k → upd (upd (xe_g2 go c d) k 0) (k + 1) 0 x = xe_g2 go c d x := fun x hx => by rw [pk_un (by omega), pk_un (by omega)]
  refine H' _ _ o' w' wt' lx ⟨xc_ext M2 (xd_setE hc hd), xe_G hG (fun x hx h1 h2 => ?_) (fun x hx => ?_) (fun x h1 h2 => ?_) hc hd, xe_K hK (fun z hz => by rw [pk_un (by omega), pk_un (by omega)]) (fun z h1 h2 => ⟨fun q => ?_, fun q => by omega⟩) (by omega) (by omega) (by omega)⟩ (by omega)
  · rw [g x hx, xe_g2b (by omega) (by omega)]
  · rw [g x (by omega), xe_g2a (by omega)]
  · rcases (by omega : x = k ∨ x = k + 1) with rfl | rfl
    · rw [pk_un (by omega), pk_us]
    · rw [pk_us]
  · rw [hkb]
    rcases q with rfl | rfl
    · rw [pk_un (by omega), pk_us]; rfl
    · rw [pk_us]; rfl
/-- a and b go through each other -/
theorem xe_com {post : SX → Prop} {a b : Nat} (hab : (a = c ∧ b = d) ∨ (a = d ∧ b = c)) (M : xa_M k (fun x => xc_A k lv x ∧ x ≠ nt_pt a 0 ∧ x ≠ nt_pt b 0) (nt_ap (0, nt_pt a 0, nt_pt b 0) s) ot w wa lx (e + 1)) (hG : xc_G k lv go) (hK : xc_K k kd ki) (hc : a < k) (hd : b < k) (hcd : a ≠ b) (lc : lv a = true) (ld : lv b = true) (hw : w < 980) (hk : k + 4 ≤ 490) (hka : kd a = 0) (hkb : kd b = 1) (H : xe_H post fc fk fd ft kx wi se qu k c d lv kd s w e) : wpX_commute post (fc, fk, nI k, fd, nI lx, ft, nI w, kx, wi, ki, xe_g2 go c d, ot, wa, se, qu) (nI a) (nI b) := by
  have ac : ∀ t, t < 3 → xc_A k lv (nt_pt a t) := fun t ht => (xc_A_pt ht).mpr ⟨hc, lc⟩
  have ad : ∀ t, t < 3 → xc_A k lv (nt_pt b t) := fun t ht => (xc_A_pt ht).mpr ⟨hd, ld⟩
  have H' := H a b hab (by omega)
  have ne : kd a ≠ kd b := by omega
  rw [xe_wC ne (by omega), xe_oC ne (by omega)] at H'
  refine xd_com M hc hd hcd hk (by simp [nt_pteq, ac]) (by simp [nt_pteq, ac]) (by simp [nt_pteq, ad]) (by simp [nt_pteq, ad]) (by omega) fun o' w' wt' M' hw' => ?_
  have g : ∀ x, x < k → upd (upd (upd (upd (xe_g2 go c d) k 0) (k + 1) 0) (k + 2) 0) (k + 3) 0 x = xe_g2 go c d x := fun x hx => by rw [pk_un (by omega), pk_un (by omega), pk_un (by omega), pk_un (by omega)]
  refine H' _ _ o' w' wt' lx ⟨xc_ext M' (xd_setC hc hd), xe_G hG (fun x hx h1 h2 => ?_) (fun x hx => ?_) (fun x h1 h2 => ?_) hc hd, xe_K hK (fun z hz => by rw [pk_un (by omega), pk_un (by omega), pk_un (by omega), pk_un (by omega)]) (fun z h1 h2 => ⟨fun q => ?_, fun q => ?_⟩) (by omega) (by omega) (by omega)⟩ (by omega)
  · rw [g x hx, xe_g2b (by omega) (by omega)]
  · rw [g x (by omega), xe_g2a (by omega)]
  · rcases (by omega : x = k ∨ x = k + 1 ∨ x = k + 2 ∨ x = k + 3) with rfl | rfl | rfl | rfl
    · rw [pk_un (by omega), pk_un (by omega), pk_un (by omega), pk_us]
    · rw [pk_un (by omega), pk_un (by omega), pk_us]
    · rw [pk_un (by omega), pk_us]
    · rw [pk_us]
  · rw [hkb]
    rcases q with rfl | rfl
    · rw [pk_un (by omega), pk_un (by omega), pk_un (by omega), pk_us]; rfl
    · rw [pk_un (by omega), pk_un (by omega), pk_us]; rfl
  · rw [hka]
    rcases q with rfl | rfl
    · rw [pk_un (by omega), pk_us]; rfl
    · rw [pk_us]; rfl
theorem xe_step {post : SX → Prop} (h : xd_J k lv kd s ki go ot (w + 1) wa lx e) (hw : wa w = nI c) (hc : c < k) (hd : d < k) (lc : lv c = true) (ld : lv d = true) (he : s.1 (nt_pt c 0) = some (nt_pt d 0)) (hE : ∀ x, x < k → lv x = true → kd x = 2 → s.1 (nt_pt x 1) = none ∧ s.1 (nt_pt x 2) = none) (hk : k + 4 ≤ 490) (hw9 : w < 980) (H : xe_H post fc fk fd ft kx wi se qu k c d lv kd s w e) : wpX_step post (fc, fk, nI k, fd, nI lx, ft, nI w, kx, wi, ki, go, ot, wa, se, qu) (nI c) (nI d) := by
  obtain ⟨hM, hG, hK⟩ := h
  have hcd : c ≠ d := fun z => (hM.2.1 _ _ he).2 (by rw [z])
  have M := xc_head hM he hw hc
  have nk : ∀ x, k ≤ x → ∀ t, t < 3 → s.1 (nt_pt x t) = none := fun x hx => xc_none hM hx
  have M' : xa_M k (fun x => xc_A k lv x ∧ x ≠ nt_pt d 0 ∧ x ≠ nt_pt c 0) (nt_ap (0, nt_pt d 0, nt_pt c 0) s) ot w wa lx (e + 1) := by
    rw [nt_ap0c hM.2.1]
    exact xc_ext M (fun x => by constructor <;> rintro ⟨h1, h2, h3⟩ <;> exact ⟨h1, h3, h2⟩)
  have c1 : (nI c).toNatClampNeg = c := nI_clamp (by omega)
  have d1 : (nI d).toNatClampNeg = d := nI_clamp (by omega)
  have ic : vp_in (nI c) 490 := vp_in_nI (by omega) (by decide)
  have id : vp_in (nI d) 490 := vp_in_nI (by omega) (by decide)
  obtain ⟨kc, kc2⟩ := hK c hc
  obtain ⟨kd', kd2⟩ := hK d hd
  have rc' : ki (nI c).toNatClampNeg = nI (kd c) := by rw [c1]; exact kc
  have rd' : ki (nI d).toNatClampNeg = nI (kd d) := by rw [d1]; exact kd'
  have q : ∀ a b, a ≤ 2 → b ≤ 2 → (nI a = nI b ↔ a = b) := fun a b h1 h2 => nI_eq (by omega) (by omega)
  refine ⟨ic, nm_r (e' := upd go c 1) (by rw [c1]; rfl) ⟨id, nm_r (e' := xe_g2 go c d) (by rw [d1]; rfl) ⟨ic, ?_⟩⟩⟩
  rw [rc']
  have rest : (kd c = 2 → kd d ≠ 2) → wX_step_35 post (nI c) (nI d) fc fk (nI k) fd (nI lx) ft (nI w) kx wi ki (xe_g2 go c d) ot wa se qu := by
    intro hh
    unfold wX_step_35
    refine ⟨ic, id, ?_⟩
    rw [rc', rd']
    by_cases e1 : kd c = kd d
    · refine br_t (by rw [e1]) ?_
      exact xe_ann M hG hK hc hd hcd lc ld hw9 e1 H
    · refine br_f (fun z => e1 ((q _ _ kc2 kd2).mp z)) ⟨ic, ?_⟩
      by_cases e2 : kd c = 2
      · refine br_t (by rw [e2]; rfl) ?_
        exact xe_er (Or.inr ⟨rfl, rfl⟩) M' hG hK hd hc hcd.symm hE nk ld lc hw9 hk (hh e2) e2 H
      · refine br_f (fun z => e2 ((q (kd c) 2 kc2 (by decide)).mp z)) ⟨id, ?_⟩
        by_cases e3 : kd d = 2
        · refine br_t (by rw [e3]; rfl) ?_
          exact xe_er (Or.inl ⟨rfl, rfl⟩) M hG hK hc hd hcd hE nk lc ld hw9 hk e2 e3 H
        · refine br_f (fun z => e3 ((q (kd d) 2 kd2 (by decide)).mp z)) ⟨ic, ?_⟩
          by_cases e4 : kd c = 0
          · refine br_t (by rw [e4]; rfl) ?_
            exact xe_com (Or.inl ⟨rfl, rfl⟩) M hG hK hc hd hcd lc ld hw9 hk e4 (by omega) H
          · refine br_f (fun z => e4 ((q (kd c) 0 kc2 (by decide)).mp z)) ?_
            exact xe_com (Or.inr ⟨rfl, rfl⟩) M' hG hK hd hc hcd.symm ld lc hw9 hk (by omega) (by omega) H
  by_cases e1 : kd c = 2
  · refine br_t (by rw [e1]; rfl) ⟨id, ?_⟩
    rw [rd']
    by_cases e2 : kd d = 2
    · refine br_t (by rw [e2]; rfl) ?_
      exact xe_two M hG hK hc hd hE lc ld e1 e2 H
    · exact br_f (fun z => e2 ((q (kd d) 2 kd2 (by decide)).mp z)) (rest fun _ => e2)
  · exact br_f (fun z => e1 ((q (kd c) 2 kc2 (by decide)).mp z)) (rest fun z => absurd z e1)
end
end
section
/-! the net as it was put together, its first form under names -/
def bs_KF (kb : Nat → Nat) (n : Nat) : Nat := if n < 10 then kb n else bs_KF kb ((n - 10) / 2)
termination_by n
decreasing_by omega
theorem bs_KF_lo {kb : Nat → Nat} {n : Nat} (h : n < 10) : bs_KF kb n = kb n := by
  rw [bs_KF, if_pos h]
theorem bs_KK (kb : Nat → Nat) : nt_KK (bs_KF kb) := by
  intro n
  refine ⟨?_, ?_⟩
  · rw [bs_KF, if_neg (by omega), show (2 * n + 10 - 10) / 2 = n by omega]
  · rw [bs_KF, if_neg (by omega), show (2 * n + 11 - 10) / 2 = n by omega]
def bs_v (n : Nat) (kb : Nat → Nat) (p : Nat) : Prop := p < 4 ∨ ∃ c s, s < 3 ∧ c < n ∧ (s = 0 ∨ kb c ≠ 2) ∧ p = nt_pt c s
def bs_B (n : Nat) (kb : Nat → Nat) (m : Nat → Option Nat) : Prop := n ≤ 10 ∧ nt_Mt m ∧ (∀ p q, m p = some q → bs_v n kb p) ∧ (∀ c, c < n → kb c ≤ 2)
theorem bs_v_pt {n : Nat} {kb : Nat → Nat} {c s : Nat} (hs : s < 3) : bs_v n kb (nt_pt c s) ↔ c < n ∧ (s = 0 ∨ kb c ≠ 2) := by
  constructor
  · rintro (h | ⟨c', s', h1, h2, h3, h4⟩)
    · unfold nt_pt at h; omega
    · rw [nt_pteq hs h1] at h4; rw [h4.1, h4.2]; exact ⟨h2, h3⟩
  · rintro ⟨h1, h2⟩; exact Or.inr ⟨c, s, hs, h1, h2, rfl⟩
theorem bs_v_lt {n : Nat} {kb : Nat → Nat} {p : Nat} (h : bs_v n kb p) : p < 4 + 3 * n := by
  rcases h with h | ⟨c, s, hs, hc, _, rfl⟩
  · omega
  · unfold nt_pt; omega
def bs_N (n : Nat) (m : Nat → Option Nat) : nt_N := (fun x => if x < n then 1 else 0, (m, 0))
theorem bs_inv {n : Nat} {kb : Nat → Nat} {m : Nat → Option Nat} (h : bs_B n kb m) : nt_Inv (bs_KF kb) (bs_N n m) := by
  obtain ⟨hn, hm, hv, hk⟩ := h
  have hv' : ∀ c s, s < 3 → m (nt_pt c s) ≠ none → c < n ∧ (s = 0 ∨ kb c ≠ 2) := by
    intro c s hs hne
    cases e : m (nt_pt c s) with
    | none => exact absurd e hne
    | some q => exact (bs_v_pt hs).mp (hv _ _ e)
  refine ⟨hm, ?_, ?_, ?_, ?_⟩
  · intro c s hs hne
    exact if_pos (hv' c s hs hne).1
  · intro c hne
    exact absurd (if_neg (by omega)) hne
  · intro c hne
    exact absurd (if_neg (by omega)) hne
  · intro c hc
    have nn : ∀ s, s < 3 → 0 < s → m (nt_pt c s) = none := by
      intro s h1 h2
      refine Decidable.byContradiction fun z => ?_
      have q := hv' c s h1 z
      rw [bs_KF_lo (by omega)] at hc
      omega
    exact ⟨nn 1 (by decide) (by decide), nn 2 (by decide) (by decide)⟩
theorem bs_Nm {n : Nat} {kb : Nat → Nat} {m : Nat → Option Nat} (h : bs_B n kb m) : nt_Nm (bs_KF kb) n (fun x => x) (fun _ => true) kb (m, 0) (bs_N n m) := by
  obtain ⟨hn, hm, hv, hk⟩ := h
  have hpi : ∀ p, nt_pi (fun x => x) p = p := by
    intro p
    rcases nt_port p with h | ⟨c, s, hs, rfl⟩
    · exact nt_pi_lo h
    · exact nt_pi_pt hs
  refine ⟨fun x y _ _ h => h, fun x hx => if_pos hx, ?_, fun x hx _ => (bs_KF_lo (by omega)).symm, ?_, ?_, rfl⟩
  · intro x hx
    refine ⟨x, Decidable.byContradiction fun z => ?_, rfl⟩
    exact hx (if_neg z)
  · intro p hp
    rw [hpi]
    show m p = Option.map _ (m p)
    cases e : m p with
    | none => rfl
    | some q => rw [Option.map_some, hpi]
  · intro p q e
    exact ⟨bs_v_lt (hv p q e), bs_v_lt (hv q p (hm p q e).1)⟩
/-- X's own keeping of it: end e at 30 + e, port s of cell c at 3 c + s -/
def bs_xi (p : Nat) : Nat := if p < 4 then 30 + p else p - 4
def bs_ex (z : Option Nat) : Int32 := match z with
  | none => -1
  | some q => nI (bs_xi q)
def bs_X (m : Nat → Option Nat) (wi : Nat → Int32) : Prop := ∀ p, p < 34 → wi (bs_xi p) = bs_ex (m p)
theorem bs_xi_lt {p : Nat} (h : p < 34) : bs_xi p < 34 := by unfold bs_xi; split <;> omega
theorem bs_xi_inj {p q : Nat} (hp : p < 34) (hq : q < 34) : bs_xi p = bs_xi q ↔ p = q := by
  unfold bs_xi; split <;> split <;> omega
theorem bs_xi_pt (c s : Nat) : bs_xi (nt_pt c s) = 3 * c + s := by
  unfold bs_xi nt_pt; rw [if_neg (by omega)]; omega
theorem bs_xi_of {x : Nat} (h : x < 34) : ∃ p, p < 34 ∧ bs_xi p = x := by
  by_cases h1 : x < 30
  · exact ⟨x + 4, by omega, by unfold bs_xi; rw [if_neg (by omega)]; omega⟩
  · exact ⟨x - 30, by omega, by unfold bs_xi; rw [if_pos (by omega)]; omega⟩
end
section
/-! X: faces, the copy of the net -/
section
variable {fc fk fm fd fl ft fw : Int32} {kx wi ki go ot wa se qu : Nat → Int32}
theorem xf_isHead {post : Int32 → Prop} {z : Option Nat} (hz : ∀ q, z = some q → q < 1474) (h1 : ∀ d, z = some (nt_pt d 0) → post 1) (h0 : (∀ d, z ≠ some (nt_pt d 0)) → post 0) : wpX_isHead post (fc, fk, fm, fd, fl, ft, fw, kx, wi, ki, go, ot, wa, se, qu) (xa_ex z) := by
  cases z with
  | none => exact br_t (by decide) (h0 fun d e => nomatch e)
  | some q =>
    refine xa_isHead (hz q rfl) (fun h => ?_) (fun h => ?_)
    · exact h1 ((q - 4) / 3) (by rw [← xa_hd_pt h])
    · exact h0 fun d e => h (by cases e; exact xa_pt_hd d)
theorem xf_faces {post : Int32 → Prop} {c : Nat} {z : Option Nat} (hc : c < 490) (hg : go c = 0 ∨ go c = 1) (ho : go c = 0 → ot (3 * c) = xa_ex z ∧ ∀ q, z = some q → q < 1474) (h1 : go c = 0 → ∀ d, z = some (nt_pt d 0) → post 1) (h0 : (go c = 0 → ∀ d, z ≠ some (nt_pt d 0)) → post 0) : wpX_faces post (fc, fk, fm, fd, fl, ft, fw, kx, wi, ki, go, ot, wa, se, qu) (nI c) := by
  have c1 : (nI c).toNatClampNeg = c := nI_clamp (by omega)
  refine ⟨vp_in_nI hc (by decide), ?_⟩
  rw [c1]
  rcases hg with hg | hg
  · obtain ⟨o1, o2⟩ := ho hg
    refine br_t hg ?_
    rw [xa_mul3, nI_clamp (by omega), o1]
    refine ⟨vp_in_nI (by omega) (by decide), ?_⟩
    exact xf_isHead o2 (fun d e => br_f (by decide) (h1 hg d e)) (fun h => br_t rfl (h0 fun _ => h))
  · exact br_f (by rw [hg]; decide) (h0 fun z => by rw [hg] at z; exact absurd z (by decide))
theorem xf_copyPort {post : Int32 → Prop} {z : Option Nat} (hz : ∀ q, z = some q → q < 34) (h : post (xa_ex z)) : wpX_copyPort post (fc, fk, fm, fd, fl, ft, fw, kx, wi, ki, go, ot, wa, se, qu) (bs_ex z) := by
  cases z with
  | none => exact br_t rfl h
  | some q =>
    have hq := hz q rfl
    have hx := bs_xi_lt hq
    refine br_f (xa_m1 (n := bs_xi q) (by omega)) ?_
    show (30 ≤ nI (bs_xi q) → post ((nI (bs_xi q) - 30) + 1470)) ∧ _
    change post (nI (xa_xi q)) at h
    by_cases h4 : q < 4
    · have e : bs_xi q = 30 + q := if_pos h4
      have e2 : xa_xi q = 1470 + q := if_pos h4
      refine br_t (by rw [e]; exact nI_le (a := 30) (by omega) (by omega)) ?_
      rw [e2] at h
      rw [e]
      have : nI (30 + q) - 30 + 1470 = nI (1470 + q) := by
        rw [show nI (30 + q) - 30 = nI q from by rw [show (30 : Int32) = nI 30 from rfl, pk_sub (by omega)]; exact congrArg nI (by omega)]
        rw [show (1470 : Int32) = nI 1470 from rfl, nI_add]
        exact congrArg nI (by omega)
      rw [this]; exact h
    · have e : bs_xi q = q - 4 := if_neg h4
      have e2 : xa_xi q = q - 4 := if_neg h4
      refine br_f (by rw [e]; exact nI_ge (b := 30) (by omega) (by omega)) ?_
      rw [e2] at h
      show post (nI (bs_xi q))
      rw [e]; exact h
/-- the third loop: cells that face another one are put on the stack -/
theorem xf_copy3 {post : SX → Prop} {n : Nat} {m : Nat → Option Nat} (hn : n ≤ 10) (hm : nt_Mt m) (hg : ∀ c, c < n → go c = 0) (ho : ∀ p, p < 34 → ot (xa_xi p) = xa_ex (m p)) (hb : ∀ p q, m p = some q → p < 4 + 3 * n) (H : ∀ w wt, w ≤ 10 → xa_P m w wt → xa_B n w wt → post (nI n, fk, fm, fd, fl, ft, nI w, kx, wi, ki, go, ot, wt, se, qu)) :
    ∀ (f i w : Nat) (wt : Nat → Int32), n + 1 ≤ f + i → i ≤ n → w ≤ i → (∀ c d, c < i → m (nt_pt c 0) = some (nt_pt d 0) → ∃ j, j < w ∧ wt j = nI c) → xa_B n w wt → wX_copyNet_101 post (nI n) fk fm fd fl ft f (nI i) (nI w) kx wi ki go ot wt se qu := by
  intro f
  induction f with
  | zero => intro i w wt h1 h2; omega
  | succ f ih =>
    intro i w wt h1 h2 h3 h4 h5
    refine pk_le n i (fun h => ?_) (fun h => ?_)
    · refine H w wt (by omega) ?_ h5
      intro c d e
      have : c < n := (nt_pt_lt (by decide)).mp (hb _ _ e)
      obtain ⟨j, hj, hw⟩ := h4 c d (by omega) e
      exact ⟨j, hj, Or.inl hw⟩
    · have e3 : ot (3 * i) = xa_ex (m (nt_pt i 0)) := by
        rw [← ho _ (by unfold nt_pt; omega), xa_xi_pt]; rfl
      refine xf_faces (z := m (nt_pt i 0)) (by omega) (Or.inl (hg i (by omega))) (fun _ => ⟨e3, fun q e => ?_⟩) (fun _ d e => ?_) (fun hne => ?_)
      · have := hb _ _ (hm _ _ e).1; omega
      · refine br_f (by decide) ⟨vp_in_nI (by omega) (by decide), nm_r (e' := upd wt w (nI i)) (by rw [nI_clamp (by omega)]) (nm_r (nI_1 w) (nm_r (nI_1 i) ?_))⟩
        refine ih (i + 1) (w + 1) _ (by omega) (by omega) (by omega) ?_ ?_
        · intro c d' hc e'
          by_cases ci : c = i
          · exact ⟨w, by omega, by rw [pk_us, ci]⟩
          · obtain ⟨j, hj, hw⟩ := h4 c d' (by omega) e'
            exact ⟨j, by omega, by rw [pk_un (by omega)]; exact hw⟩
        · intro j hj
          by_cases ji : j = w
          · exact ⟨i, by omega, by rw [ji, pk_us]⟩
          · obtain ⟨c, hc, hw⟩ := h5 j (by omega)
            exact ⟨c, hc, by rw [pk_un ji]; exact hw⟩
      · refine br_t rfl (nm_r (nI_1 i) ?_)
        refine ih (i + 1) w wt (by omega) (by omega) (by omega) ?_ h5
        intro c d' hc e'
        by_cases ci : c = i
        · rw [ci] at e'; exact absurd e' (hne (hg i (by omega)) d')
        · exact h4 c d' (by omega) e'
/-- the second loop: the wires -/
theorem xf_copy2 {post : SX → Prop} {n : Nat} {m : Nat → Option Nat} (hn : n ≤ 10) (hm : nt_Mt m) (hg : ∀ c, c < n → go c = 0) (hX : bs_X m wi) (hb : ∀ p q, m p = some q → p < 4 + 3 * n) (H : ∀ o w wt, (∀ p, p < 34 → o (xa_xi p) = xa_ex (m p)) → w ≤ 10 → xa_P m w wt → xa_B n w wt → post (nI n, fk, nI n, 0, 0, 0, nI w, kx, wi, ki, go, o, wt, se, qu)) :
    ∀ (f i : Nat) (o : Nat → Int32), 35 ≤ f + i → i ≤ 34 → (∀ p, p < 34 → bs_xi p < i → o (xa_xi p) = xa_ex (m p)) → wX_copyNet_37 post (nI n) fk fm fd fl ft fw f (nI i) kx wi ki go o wa se qu := by
  intro f
  induction f with
  | zero => intro i o h1 h2; omega
  | succ f ih =>
    intro i o h1 h2 h3
    refine pk_le 34 i (fun h => ?_) (fun h => ?_)
    · have h3' : ∀ p, p < 34 → o (xa_xi p) = xa_ex (m p) := fun p hp => h3 p hp (by have := bs_xi_lt hp; omega)
      refine ⟨n + 1, ?_⟩
      refine xf_copy3 hn hm hg h3' hb (fun w wt h1 h2 h3 => H o w wt h3' h1 h2 h3) (n + 1) 0 0 wa (by omega) (by omega) (by omega) ?_ ?_
      · intro c d hc; omega
      · intro j hj; omega
    · obtain ⟨p, hp, rfl⟩ := bs_xi_of h
      have bx := xa_xi_lt (show p < 1474 by omega)
      have bi := bs_xi_lt hp
      refine xf_copyPort (z := some p) (fun q e => by cases e; exact hp) ⟨vp_in_nI bi (by decide), ?_⟩
      rw [nI_clamp (by omega), hX p hp]
      refine xf_copyPort (fun q e => ?_) ⟨vp_in_nI bx (by decide), nm_r (e' := upd o (xa_xi p) (xa_ex (m p))) (by rw [xa_ex_some, nI_clamp (by omega)]) (nm_r (nI_1 _) ?_)⟩
      · have := hb _ _ (hm _ _ e).1; omega
      · refine ih _ _ (by omega) (by omega) ?_
        intro q hq hlt
        by_cases e : q = p
        · rw [e, pk_us]
        · have : bs_xi q ≠ bs_xi p := by rw [Ne, bs_xi_inj hq hp]; exact e
          rw [pk_un (by rw [Ne, xa_xi_inj (by omega) (by omega)]; exact e)]
          exact h3 q hq (by omega)
/-- the first loop: the cells -/
theorem xf_copy1 {post : SX → Prop} {n : Nat} (hn : n ≤ 10) (H : ∀ ki' go', (∀ c, c < n → ki' c = kx c ∧ go' c = 0) → ∃ f, wX_copyNet_37 post (nI n) fk fm fd fl ft fw f 0 kx wi ki' go' ot wa se qu) :
    ∀ (f i : Nat) (ki' go' : Nat → Int32), n + 1 ≤ f + i → i ≤ n → (∀ c, c < i → ki' c = kx c ∧ go' c = 0) → wX_copyNet_2 post (nI n) fk fm fd fl ft fw f (nI i) kx wi ki' go' ot wa se qu := by
  intro f
  induction f with
  | zero => intro i ki' go' h1 h2; omega
  | succ f ih =>
    intro i ki' go' h1 h2 h3
    refine pk_le n i (fun h => ?_) (fun h => ?_)
    · exact H ki' go' (fun c hc => h3 c (by omega))
    · have ci : (nI i).toNatClampNeg = i := nI_clamp (by omega)
      refine ⟨vp_in_nI (by omega) (by decide), vp_in_nI (by omega) (by decide), nm_r (e' := upd ki' i (kx i)) (by rw [ci]) ⟨vp_in_nI (by omega) (by decide), nm_r (e' := upd go' i 0) (by rw [ci]; rfl) (nm_r (nI_1 i) ?_)⟩⟩
      refine ih (i + 1) _ _ (by omega) (by omega) ?_
      intro c hc
      by_cases e : c = i
      · rw [e, pk_us, pk_us]; exact ⟨rfl, rfl⟩
      · rw [pk_un e, pk_un e]; exact h3 c (by omega)
def bs_K (n : Nat) (kb : Nat → Nat) (kx : Nat → Int32) : Prop := ∀ c, c < n → kx c = nI (kb c)
theorem xf_copy {post : SX → Prop} {n : Nat} {kb : Nat → Nat} {m : Nat → Option Nat} (hB : bs_B n kb m) (hk : bs_K n kb kx) (hX : bs_X m wi) (H : ∀ ki' go' o w wt, w ≤ 10 → xd_J n (fun _ => true) kb (m, 0) ki' go' o w wt 0 0 → post (nI n, fk, nI n, 0, 0, 0, nI w, kx, wi, ki', go', o, wt, se, qu)) : wpX_copyNet post (nI n, fk, fm, fd, fl, ft, fw, kx, wi, ki, go, ot, wa, se, qu) := by
  obtain ⟨hn, hm, hv, hk2⟩ := hB
  refine ⟨n + 1, ?_⟩
  refine xf_copy1 hn (fun ki' go' h => ⟨35, ?_⟩) (n + 1) 0 ki go (by omega) (by omega) (fun c hc => by omega)
  have hb : ∀ p q, m p = some q → p < 4 + 3 * n := fun p q e => bs_v_lt (hv p q e)
  refine xf_copy2 hn hm (fun c hc => (h c hc).2) hX hb (fun o w wt h1 h2 h3 h4 => ?_) 35 0 ot (by omega) (by omega) (fun p _ z => by omega)
  refine H ki' go' o w wt h2 ⟨⟨by omega, hm, ?_, ?_, h3, h4, rfl⟩, ?_, ?_⟩
  · intro p hp
    have : p < 4 + 3 * n := by
      rcases hp with z | ⟨c, s, z1, z2, _, rfl⟩
      · omega
      · exact (nt_pt_lt z1).mpr z2
    exact ⟨this, h1 p (by omega)⟩
  · have q : ∀ p, p < 4 + 3 * n → xc_A n (fun _ => true) p := by
      intro p hp
      rcases nt_port p with z | ⟨c, s, z1, rfl⟩
      · exact Or.inl z
      · exact (xc_A_pt z1).mpr ⟨(nt_pt_lt z1).mp hp, rfl⟩
    intro p p' e
    exact ⟨q p (hb _ _ e), q p' (hb _ _ (hm _ _ e).1)⟩
  · intro c hc
    exact ⟨fun _ => (h c hc).2, fun z => nomatch z⟩
  · intro c hc
    rw [(h c hc).1]
    exact ⟨hk c hc, hk2 c hc⟩
end
end
section
/-! X's run -/
def xg_D (K : Nat → Nat) (N0 : nt_N) (fm fd fl ft : Int32) (ki go o : Nat → Int32) : Prop :=
  (ft = 0 ∧ ∃ k lv kd s wt lx j v N, fm = nI k ∧ fd = nI j ∧ fl = nI lx ∧ xd_J k lv kd s ki go o 0 wt lx j ∧ nt_Nm K k v lv kd s N ∧ nt_stn K j N0 N ∧ nt_nf K N ∧ j ≤ 120) ∨ (ft = 1 ∧ ∃ N M, nt_stn K 120 N0 N ∧ nt_st K N M)
theorem xg_E {K : Nat → Nat} {k : Nat} {v : Nat → Nat} {lv : Nat → Bool} {kd : Nat → Nat} {s : nt_S} {N : nt_N} (hI : nt_Inv K N) (hN : nt_Nm K k v lv kd s N) : ∀ x, x < k → lv x = true → kd x = 2 → s.1 (nt_pt x 1) = none ∧ s.1 (nt_pt x 2) = none := by
  intro x hx hl hk
  obtain ⟨_, _, _, h4, hT⟩ := hN
  have q := hI.2.2.2.2 (v x) (by rw [← h4 x hx hl]; exact hk)
  have g : ∀ t, t < 3 → N.2.1 (nt_pt (v x) t) = none → s.1 (nt_pt x t) = none := by
    intro t ht e
    have := hT.1 (nt_pt x t) ((nt_pt_lt ht).mpr hx)
    rw [nt_pi_pt ht, e] at this
    cases z : s.1 (nt_pt x t) with
    | none => rfl
    | some y => rw [z] at this; cases this
  exact ⟨g 1 (by decide) q.1, g 2 (by decide) q.2⟩
/-- a pair of heads is a place for a step, one way round or the other -/
theorem xg_rdx {K : Nat → Nat} {k c d : Nat} {v : Nat → Nat} {lv : Nat → Bool} {kd : Nat → Nat} {s : nt_S} {N : nt_N} (hK : nt_KK K) (hI : nt_Inv K N) (hN : nt_Nm K k v lv kd s N) (hm : nt_Mt s.1) (hc : c < k) (hd : d < k) (lc : lv c = true) (ld : lv d = true) (he : s.1 (nt_pt c 0) = some (nt_pt d 0)) (k1 : kd c ≤ 2) (k2 : kd d ≤ 2) : ∃ M, nt_st K N M := by
  by_cases h : kd c ≤ kd d
  · exact ⟨_, _, _, (nt_sim hK hI hN hc hd lc ld he h k2).1, rfl⟩
  · exact ⟨_, _, _, (nt_sim hK hI hN hd hc ld lc (hm _ _ he).1 (by omega) k1).1, rfl⟩
section
variable {fc fk fm fd fl ft fw : Int32} {kx wi ki go ot wa se qu : Nat → Int32}
theorem xg_loop {post : SX → Prop} {K : Nat → Nat} {N0 : nt_N} (hK : nt_KK K) (H : ∀ fm fd fl ft fw ki go ot wa, xg_D K N0 fm fd fl ft ki go ot → post (fc, 1, fm, fd, fl, ft, fw, kx, wi, ki, go, ot, wa, se, qu)) :
    ∀ (n i k : Nat) (lv : Nat → Bool) (kd : Nat → Nat) (s : nt_S) (w lx j : Nat) (v : Nat → Nat) (N : nt_N) (ki go ot wa : Nat → Int32), 1000 < n + i → i + w ≤ 10 + 8 * j → j ≤ 120 → k ≤ 10 + 4 * j → xd_J k lv kd s ki go ot w wa lx j → nt_Nm K k v lv kd s N → nt_Inv K N → nt_stn K j N0 N → wX_run_14 post n (nI i) fc fk (nI k) (nI j) (nI lx) 0 (nI w) kx wi ki go ot wa se qu := by
  intro n
  induction n with
  | zero => intro i k lv kd s w lx j v N ki go ot wa h1 h2 h3; omega
  | succ n ih =>
    intro i k lv kd s w lx j v N ki go ot wa h1 h2 h3 h4 hJ hN hI hS
    obtain ⟨hM, hG, hKd⟩ := id hJ
    obtain ⟨m1, m2, m3, m4, m5, m6, m7⟩ := id hM
    refine pk_le 1000 i (fun h => by omega) (fun _ => ?_)
    refine pk_le w 0 (fun hw => ?_) (fun hw => ?_)
    · obtain rfl : w = 0 := by omega
      refine H _ _ _ _ _ _ _ _ _ (Or.inl ⟨rfl, k, lv, kd, s, wa, lx, j, v, N, rfl, rfl, rfl, hJ, hN, hS, ?_, h3⟩)
      refine nt_nfJ hN fun c d _ _ e => ?_
      obtain ⟨i, hi, _⟩ := m5 c d e
      omega
    · obtain ⟨w, rfl⟩ : ∃ w', w = w' + 1 := ⟨w - 1, by omega⟩
      obtain ⟨c, hc, ec⟩ := m6 w (by omega)
      refine nm_r (nI_pred w) ⟨vp_in_nI (by omega) (by decide), nm_r (e' := nI c) (by rw [nI_clamp (by omega)]; exact ec) ?_⟩
      have A1 : lv c = true → ot (3 * c) = xa_ex (s.1 (nt_pt c 0)) ∧ ∀ q, s.1 (nt_pt c 0) = some q → q < 1474 := by
        intro lc
        have a := m3 _ ((xc_A_pt (s := 0) (by decide)).mpr ⟨hc, lc⟩)
        rw [xa_xi_pt] at a
        refine ⟨a.2, fun q e => ?_⟩
        have := (m3 _ (m4 _ _ e).2).1
        omega
      have G := hG c hc
      have A2 : go c = 0 → lv c = true := by
        intro z
        cases l : lv c with
        | true => rfl
        | false => rw [G.2 l] at z; exact absurd z (by decide)
      have A3 : go c = 0 ∨ go c = 1 := by
        cases l : lv c with
        | true => exact Or.inl (G.1 l)
        | false => exact Or.inr (G.2 l)
      refine xf_faces (z := s.1 (nt_pt c 0)) (by omega) A3 (fun z => A1 (A2 z)) (fun z d e => ?_) (fun hne => ?_)
      · have lc := A2 z
        have ad := (m4 _ _ e).2
        rw [xc_A_pt (by decide)] at ad
        obtain ⟨hd, ld⟩ := ad
        refine br_f (by decide) ?_
        refine pk_eq j 120 (fun hj => ?_) (fun hj => ?_)
        · refine nm_r (nI_1 i) ?_
          obtain ⟨n, rfl⟩ : ∃ n', n = n' + 1 := ⟨n - 1, by omega⟩
          refine pk_le 1000 (i + 1) (fun h => by omega) (fun _ => ?_)
          refine br_t (by decide) ?_
          refine H _ _ _ _ _ _ _ _ _ (Or.inr ⟨rfl, N, ?_⟩)
          obtain ⟨M, hM'⟩ := xg_rdx hK hI hN m2 hc hd lc ld e (hKd c hc).2 (hKd d hd).2
          exact ⟨M, by rw [← hj]; exact hS, hM'⟩
        · refine nm_r (nI_1 j) ⟨?_, xa_3ne, ?_⟩
          · rw [xa_mul3]; exact vp_in_nI (by omega) (by decide)
          · have e3 : ot (3 * nI c).toNatClampNeg / 3 = nI d := by
              rw [xa_mul3, nI_clamp (by omega), (A1 lc).1, e, xa_ex_some, xa_xi_pt, xa_div3 (by omega)]
              exact congrArg nI (by omega)
            rw [e3]
            refine xe_step (s := s) hJ ec hc hd lc ld e (xg_E hI hN) (by omega) (by omega) ?_
            intro a b hab hkab ki' go' o' w' wt' lx' hJ' hw'
            refine nm_r (nI_1 i) ?_
            have hw4 : nt_w (kd a) (kd b) ≤ 4 := by unfold nt_w; split; omega; split <;> omega
            have e2 := (m2 _ _ e).1
            have sim : nt_rdx K (v a) (v b) N ∧ nt_Nm K (k + nt_w (kd a) (kd b)) (nt_nu k a b v) (nt_lv k (nt_w (kd a) (kd b)) a b lv) (nt_kd k (kd a) (kd b) kd) (nt_run (nt_ops (kd a) (kd b) a b k (k + 1) (k + 2) (k + 3)) s) (nt_fire K (v a) (v b) N) := by
              rcases hab with ⟨rfl, rfl⟩ | ⟨rfl, rfl⟩
              · exact nt_sim hK hI hN hc hd lc ld e hkab (hKd _ hd).2
              · exact nt_sim hK hI hN hd hc ld lc e2 hkab (hKd _ hc).2
            exact ih (i + 1) _ _ _ _ w' lx' (j + 1) _ _ ki' go' o' wt' (by omega) (by omega) (by omega) (by omega) hJ' sim.2 (nt_fire_inv hK hI sim.1) (nt_stn_snoc j _ _ _ hS ⟨_, _, sim.1, rfl⟩)
      · refine br_t rfl (nm_r (nI_1 i) ?_)
        refine ih (i + 1) k lv kd s w lx j v N ki go ot wa (by omega) (by omega) h3 h4 ⟨⟨m1, m2, m3, m4, ?_, fun i hi => m6 i (by omega), m7⟩, hG, hKd⟩ hN hI hS
        intro a b e
        obtain ⟨i, hi, hw2⟩ := m5 a b e
        refine ⟨i, ?_, hw2⟩
        have aa := (m4 _ _ e).1
        have ab := (m4 _ _ e).2
        rw [xc_A_pt (by decide)] at aa ab
        have : i ≠ w := by
          rintro rfl
          rw [ec] at hw2
          rcases hw2 with y | y
          · rw [nI_eq (by omega) (by omega)] at y
            subst y
            exact hne (G.1 aa.2) b e
          · rw [nI_eq (by omega) (by omega)] at y
            subst y
            exact hne (G.1 ab.2) a (m2 _ _ e).1
        omega
theorem xg_run {post : SX → Prop} {n : Nat} {kb : Nat → Nat} {m : Nat → Option Nat} (hB : bs_B n kb m) (hk : bs_K n kb kx) (hX : bs_X m wi) (hf : fk = 0 ∨ (fk = 1 ∧ xg_D (bs_KF kb) (bs_N n m) fm fd fl ft ki go ot)) (H : ∀ fm fd fl ft fw ki go ot wa, xg_D (bs_KF kb) (bs_N n m) fm fd fl ft ki go ot → post (nI n, 1, fm, fd, fl, ft, fw, kx, wi, ki, go, ot, wa, se, qu)) : wpX_run post (nI n, fk, fm, fd, fl, ft, fw, kx, wi, ki, go, ot, wa, se, qu) := by
  rcases hf with rfl | ⟨rfl, hD⟩
  · refine br_t rfl (xf_copy hB hk hX fun ki' go' o w wt hw hJ => ⟨1001, ?_⟩)
    exact xg_loop (bs_KK kb) H 1001 0 n _ _ _ w 0 0 _ _ ki' go' o wt (by omega) (by omega) (by omega) (by have := hB.1; omega) hJ (bs_Nm hB) (bs_inv hB) rfl
  · exact br_f (by decide) (H _ _ _ _ _ _ _ _ _ hD)
end
end
section
/-! Y's list of wires against a matching -/
def ya_W (m : Nat → Option Nat) (W : Nat) (F S : Nat → Int32) : Prop :=
  nt_Mt m ∧ (∀ p q, m p = some q → p < 2000) ∧ (∀ w, w < W → ∃ f g, F w = nI f ∧ S w = nI g ∧ m f = some g) ∧ (∀ p q, m p = some q → ∃ w, w < W ∧ ((F w = nI p ∧ S w = nI q) ∨ (F w = nI q ∧ S w = nI p))) ∧ (∀ w w', w < W → w' < W → w ≠ w' → F w ≠ F w' ∧ F w ≠ S w' ∧ S w ≠ S w')
theorem ya_nI {a b : Nat} (ha : a < 2000) (hb : b < 2000) (h : nI a = nI b) : a = b := (nI_eq (by omega) (by omega)).mp h
theorem ya_gen {m m' : Nat → Option Nat} {W W' : Nat} {F S F' S' : Nat → Int32} (h : ya_W m W F S) (g : Nat → Nat) (hm : nt_Mt m') (hF : ∀ u, u < W' → F' u = F (g u) ∧ S' u = S (g u)) (hg : ∀ u, u < W' → g u < W) (hgi : ∀ u u', u < W' → u' < W' → g u = g u' → u = u') (h1 : ∀ u, u < W' → ∀ f q, F (g u) = nI f → S (g u) = nI q → m f = some q → m' f = some q) (h2 : ∀ p q, m' p = some q → m p = some q) (h3 : ∀ p q, m' p = some q → ∀ w, w < W → ((F w = nI p ∧ S w = nI q) ∨ (F w = nI q ∧ S w = nI p)) → ∃ u, u < W' ∧ g u = w) : ya_W m' W' F' S' := by
  obtain ⟨a1, a2, a3, a4, a5⟩ := h
  refine ⟨hm, fun p q e => a2 p q (h2 p q e), ?_, ?_, ?_⟩
  · intro u hu
    obtain ⟨f, q, e1, e2, e3⟩ := a3 (g u) (hg u hu)
    exact ⟨f, q, by rw [(hF u hu).1]; exact e1, by rw [(hF u hu).2]; exact e2, h1 u hu f q e1 e2 e3⟩
  · intro p q e
    obtain ⟨w, hw, hh⟩ := a4 p q (h2 p q e)
    obtain ⟨u, hu, rfl⟩ := h3 p q e w hw hh
    refine ⟨u, hu, ?_⟩
    rw [(hF u hu).1, (hF u hu).2]; exact hh
  · intro u u' hu hu' hne
    rw [(hF u hu).1, (hF u hu).2, (hF u' hu').1, (hF u' hu').2]
    exact a5 _ _ (hg u hu) (hg u' hu') (fun z => hne (hgi u u' hu hu' z))
theorem ya_fz {p q : Nat} {m : Nat → Option Nat} (h : nt_Mt m) (e : m p = some q) : ∀ x, nt_fz p q m x = if x = p ∨ x = q then none else m x := by
  intro x
  unfold nt_fz
  by_cases hx : x = p ∨ x = q
  · rw [if_pos hx, if_pos hx]
  · rw [if_neg hx, if_neg hx, if_neg (fun z => by have := (h _ _ z).1; rw [e] at this; cases this; exact hx (Or.inr rfl)), if_neg (fun z => by have := (h _ _ z).1; rw [(h _ _ e).1] at this; cases this; exact hx (Or.inl rfl))]
theorem ya_take {m : Nat → Option Nat} {W w p q : Nat} {F S : Nat → Int32} (h : ya_W m (W + 1) F S) (hw : w < W + 1) (e : m p = some q) (hh : (F w = nI p ∧ S w = nI q) ∨ (F w = nI q ∧ S w = nI p)) : ya_W (nt_fz p q m) W (upd F w (F W)) (upd S w (S W)) := by
  obtain ⟨a1, a2, a3, a4, a5⟩ := id h
  have bq := a2 _ _ (a1 _ _ e).1
  have bp := a2 _ _ e
  have fz := ya_fz a1 e
  have other : ∀ u, u < W + 1 → u ≠ w → F u ≠ nI p ∧ F u ≠ nI q ∧ S u ≠ nI p ∧ S u ≠ nI q := by
    intro u hu hne
    have x1 := a5 u w hu hw hne
    have x2 := a5 w u hw hu (Ne.symm hne)
    rcases hh with ⟨h1, h2⟩ | ⟨h1, h2⟩ <;> rw [h1, h2] at x1 x2
    · exact ⟨x1.1, x1.2.1, Ne.symm x2.2.1, x1.2.2⟩
    · exact ⟨x1.2.1, x1.1, x1.2.2, Ne.symm x2.2.1⟩
  refine ya_gen h (fun u => if u = w then W else u) (nt_mt_fz a1 (a1 _ _ e).2) ?_ ?_ ?_ ?_ ?_ ?_
  · intro u hu
    by_cases uw : u = w
    · rw [if_pos uw, uw, pk_us, pk_us]; exact ⟨rfl, rfl⟩
    · rw [if_neg uw, pk_un uw, pk_un uw]; exact ⟨rfl, rfl⟩
  · intro u hu; split <;> omega
  · intro u u' hu hu' z
    split at z <;> split at z <;> omega
  · intro u hu f g e1 e2 e3
    have gw : (if u = w then W else u) ≠ w := by split <;> omega
    have gb : (if u = w then W else u) < W + 1 := by split <;> omega
    have o := other _ gb gw
    rw [e1, e2] at o
    rw [fz, if_neg (fun z => by rcases z with rfl | rfl; exact o.1 rfl; exact o.2.1 rfl)]
    exact e3
  · intro x y z
    rw [fz] at z
    split at z
    · cases z
    · exact z
  · intro x y z u hu hh2
    rw [fz] at z
    split at z
    · cases z
    · rename_i nx
      have bx := a2 _ _ z
      have b2 := a2 _ _ (a1 _ _ z).1
      have uw : u ≠ w := by
        rintro rfl
        rcases hh with ⟨h1, h2⟩ | ⟨h1, h2⟩ <;> rw [h1, h2] at hh2 <;> rcases hh2 with ⟨h3, h4⟩ | ⟨h3, h4⟩
        · exact nx (Or.inl (ya_nI bp bx h3).symm)
        · exact nx (Or.inr (ya_nI bq bx h4).symm)
        · exact nx (Or.inr (ya_nI bq bx h3).symm)
        · exact nx (Or.inl (ya_nI bp bx h4).symm)
      by_cases uW : u = W
      · exact ⟨w, by omega, by rw [if_pos rfl, uW]⟩
      · exact ⟨u, by omega, by rw [if_neg uw]⟩
theorem ya_add {m : Nat → Option Nat} {W p q : Nat} {F S : Nat → Int32} (h : ya_W m W F S) (hp : p < 2000) (hq : q < 2000) (hpq : p ≠ q) (e1 : m p = none) (e2 : m q = none) : ya_W (nt_ad p q m) (W + 1) (upd F W (nI p)) (upd S W (nI q)) := by
  obtain ⟨a1, a2, a3, a4, a5⟩ := id h
  have fp : nt_ad p q m p = some q := by unfold nt_ad; rw [if_pos rfl]
  have fq : nt_ad p q m q = some p := by unfold nt_ad; rw [if_neg (Ne.symm hpq), if_pos rfl]
  have fx : ∀ z, z ≠ p → z ≠ q → nt_ad p q m z = m z := by
    intro z h1 h2; unfold nt_ad; rw [if_neg h1, if_neg h2]
  have old : ∀ w, w < W → F w ≠ nI p ∧ F w ≠ nI q ∧ S w ≠ nI p ∧ S w ≠ nI q := by
    intro w hw
    obtain ⟨f, g, x1, x2, x3⟩ := a3 w hw
    have bf := a2 _ _ x3
    have x4 := (a1 _ _ x3).1
    have bg := a2 _ _ x4
    rw [x1, x2]
    refine ⟨fun z => ?_, fun z => ?_, fun z => ?_, fun z => ?_⟩
    · rw [ya_nI bf hp z, e1] at x3; cases x3
    · rw [ya_nI bf hq z, e2] at x3; cases x3
    · rw [ya_nI bg hp z, e1] at x4; cases x4
    · rw [ya_nI bg hq z, e2] at x4; cases x4
  refine ⟨nt_mt_ad a1 hpq e1 e2, ?_, ?_, ?_, ?_⟩
  · intro x y e
    by_cases xp : x = p
    · omega
    · by_cases xq : x = q
      · omega
      · rw [fx x xp xq] at e; exact a2 _ _ e
  · intro w hw
    by_cases e : w = W
    · exact ⟨p, q, by rw [e, pk_us], by rw [e, pk_us], fp⟩
    · obtain ⟨f, g, x1, x2, x3⟩ := a3 w (by omega)
      refine ⟨f, g, by rw [pk_un e]; exact x1, by rw [pk_un e]; exact x2, ?_⟩
      rw [fx f (fun z => by rw [z, e1] at x3; cases x3) (fun z => by rw [z, e2] at x3; cases x3)]
      exact x3
  · intro x y e
    by_cases xp : x = p
    · rw [xp, fp] at e; cases e
      exact ⟨W, by omega, Or.inl ⟨by rw [pk_us, xp], by rw [pk_us]⟩⟩
    · by_cases xq : x = q
      · rw [xq, fq] at e; cases e
        exact ⟨W, by omega, Or.inr ⟨by rw [pk_us], by rw [pk_us, xq]⟩⟩
      · rw [fx x xp xq] at e
        obtain ⟨w, hw, hh⟩ := a4 x y e
        exact ⟨w, by omega, by rw [pk_un (by omega), pk_un (by omega)]; exact hh⟩
  · intro w w' hw hw' hne
    have npq : nI p ≠ nI q := fun z => hpq (ya_nI hp hq z)
    by_cases x : w = W
    · have y : w' ≠ W := by omega
      have o := old w' (by omega)
      rw [x, pk_us, pk_us, pk_un y, pk_un y]
      exact ⟨Ne.symm o.1, Ne.symm o.2.2.1, Ne.symm o.2.2.2⟩
    · rw [pk_un x, pk_un x]
      have o := old w (by omega)
      by_cases y : w' = W
      · rw [y, pk_us, pk_us]
        exact ⟨o.1, o.2.1, o.2.2.2⟩
      · rw [pk_un y, pk_un y]; exact a5 w w' (by omega) (by omega) hne
/-- a wire's end at p is put to q -/
theorem ya_move {m : Nat → Option Nat} {W w p q t : Nat} {F S F' S' : Nat → Int32} (h : ya_W m W F S) (hw : w < W) (hq : q < 2000) (hpq : p ≠ q) (e1 : m p = some t) (e2 : m q = none) (hh : (F w = nI p ∧ S w = nI t ∧ F' = upd F w (nI q) ∧ S' = S) ∨ (F w = nI t ∧ S w = nI p ∧ F' = F ∧ S' = upd S w (nI q))) : ya_W (nt_rn p q m) W F' S' := by
  obtain ⟨a1, a2, a3, a4, a5⟩ := id h
  have e1' := (a1 _ _ e1).1
  have npt := (a1 _ _ e1).2
  have bp := a2 _ _ e1
  have bt := a2 _ _ e1'
  have ntq : t ≠ q := fun z => by rw [z, e2] at e1'; cases e1'
  have fp : nt_rn p q m p = none := by unfold nt_rn; rw [if_pos rfl]
  have fq : nt_rn p q m q = some t := by unfold nt_rn; rw [if_neg (Ne.symm hpq), if_pos rfl]; exact e1
  have ft : nt_rn p q m t = some q := by unfold nt_rn; rw [if_neg (Ne.symm npt), if_neg ntq, if_pos e1']
  have fx : ∀ z, z ≠ p → z ≠ q → z ≠ t → nt_rn p q m z = m z := by
    intro z h1 h2 h3; unfold nt_rn; rw [if_neg h1, if_neg h2, if_neg (fun y => by have := (a1 _ _ y).1; rw [e1] at this; cases this; exact h3 rfl)]
  have Fw : (F' w = nI q ∧ S' w = nI t) ∨ (F' w = nI t ∧ S' w = nI q) := by
    rcases hh with ⟨h1, h2, rfl, rfl⟩ | ⟨h1, h2, rfl, rfl⟩
    · exact Or.inl ⟨pk_us, h2⟩
    · exact Or.inr ⟨h1, pk_us⟩
  have Fo : ∀ u, u ≠ w → F' u = F u ∧ S' u = S u := by
    intro u hu
    rcases hh with ⟨h1, h2, rfl, rfl⟩ | ⟨h1, h2, rfl, rfl⟩
    · exact ⟨pk_un hu, rfl⟩
    · exact ⟨rfl, pk_un hu⟩
  have old : ∀ u, u < W → u ≠ w → (F u ≠ nI p ∧ S u ≠ nI p) ∧ (F u ≠ nI t ∧ S u ≠ nI t) ∧ (F u ≠ nI q ∧ S u ≠ nI q) := by
    intro u hu hne
    have x1 := a5 u w hu hw hne
    have x2 := a5 w u hw hu (Ne.symm hne)
    obtain ⟨f, g, y1, y2, y3⟩ := a3 u hu
    have bf := a2 _ _ y3
    have y4 := (a1 _ _ y3).1
    have bg := a2 _ _ y4
    refine ⟨?_, ?_, ?_⟩
    · rcases hh with ⟨h1, h2, _⟩ | ⟨h1, h2, _⟩ <;> rw [h1, h2] at x1 x2
      · exact ⟨x1.1, Ne.symm x2.2.1⟩
      · exact ⟨x1.2.1, x1.2.2⟩
    · rcases hh with ⟨h1, h2, _⟩ | ⟨h1, h2, _⟩ <;> rw [h1, h2] at x1 x2
      · exact ⟨x1.2.1, x1.2.2⟩
      · exact ⟨x1.1, Ne.symm x2.2.1⟩
    · rw [y1, y2]
      refine ⟨fun z => ?_, fun z => ?_⟩
      · rw [ya_nI bf hq z, e2] at y3; cases y3
      · rw [ya_nI bg hq z, e2] at y4; cases y4
  refine ⟨nt_mt_rn a1 hpq e2, ?_, ?_, ?_, ?_⟩
  · intro x y e
    by_cases x1 : x = q
    · omega
    · by_cases x2 : x = t
      · omega
      · by_cases x3 : x = p
        · omega
        · rw [fx x x3 x1 x2] at e; exact a2 _ _ e
  · intro u hu
    by_cases uw : u = w
    · rw [uw]
      rcases Fw with ⟨h1, h2⟩ | ⟨h1, h2⟩
      · exact ⟨q, t, h1, h2, fq⟩
      · exact ⟨t, q, h1, h2, ft⟩
    · obtain ⟨f, g, y1, y2, y3⟩ := a3 u hu
      have o := old u hu uw
      rw [y1, y2] at o
      refine ⟨f, g, by rw [(Fo u uw).1]; exact y1, by rw [(Fo u uw).2]; exact y2, ?_⟩
      rw [fx f (fun z => o.1.1 (by rw [z])) (fun z => o.2.2.1 (by rw [z])) (fun z => o.2.1.1 (by rw [z]))]
      exact y3
  · intro x y e
    by_cases x1 : x = q
    · rw [x1, fq] at e; cases e
      rw [x1]
      exact ⟨w, hw, Fw⟩
    · by_cases x2 : x = t
      · rw [x2, ft] at e; cases e
        rw [x2]
        exact ⟨w, hw, Fw.symm⟩
      · by_cases x3 : x = p
        · rw [x3, fp] at e; cases e
        · rw [fx x x3 x1 x2] at e
          obtain ⟨u, hu, hh2⟩ := a4 x y e
          have bx := a2 _ _ e
          have by' := a2 _ _ (a1 _ _ e).1
          have uw : u ≠ w := by
            rintro rfl
            rcases hh with ⟨h1, h2, _⟩ | ⟨h1, h2, _⟩ <;> rw [h1, h2] at hh2 <;> rcases hh2 with ⟨h3, h4⟩ | ⟨h3, h4⟩
            · exact x3 (ya_nI bp bx h3).symm
            · exact x2 (ya_nI bt bx h4).symm
            · exact x2 (ya_nI bt bx h3).symm
            · exact x3 (ya_nI bp bx h4).symm
          refine ⟨u, hu, ?_⟩
          rw [(Fo u uw).1, (Fo u uw).2]; exact hh2
  · have key : ∀ u, u < W → u ≠ w → (F' w ≠ F u ∧ F' w ≠ S u ∧ S' w ≠ S u) ∧ (F u ≠ F' w ∧ F u ≠ S' w ∧ S u ≠ S' w) := by
      intro u hu hne
      obtain ⟨⟨o1, o2⟩, ⟨o3, o4⟩, o5, o6⟩ := old u hu hne
      rcases Fw with ⟨h1, h2⟩ | ⟨h1, h2⟩ <;> rw [h1, h2]
      · exact ⟨⟨Ne.symm o5, Ne.symm o6, Ne.symm o4⟩, o5, o3, o4⟩
      · exact ⟨⟨Ne.symm o3, Ne.symm o4, Ne.symm o6⟩, o3, o5, o6⟩
    intro u u' hu hu' hne
    by_cases x : u = w
    · have y : u' ≠ w := by omega
      rw [x, (Fo u' y).1, (Fo u' y).2]; exact (key u' hu' y).1
    · rw [(Fo u x).1, (Fo u x).2]
      by_cases y : u' = w
      · rw [y]; exact (key u hu x).2
      · rw [(Fo u' y).1, (Fo u' y).2]; exact a5 u u' hu hu' hne
theorem ya_rn0 {m : Nat → Option Nat} {p q : Nat} (h : nt_Mt m) (e1 : m p = none) (e2 : m q = none) : nt_rn p q m = m := by
  funext z
  unfold nt_rn
  by_cases z1 : z = p
  · rw [if_pos z1, z1, e1]
  · rw [if_neg z1]
    by_cases z2 : z = q
    · rw [if_pos z2, z2, e1, e2]
    · rw [if_neg z2, if_neg (fun y => by have := (h _ _ y).1; rw [e1] at this; cases this)]
end
section
/-! Y's small methods over the list of wires -/
section
variable {gc gw rc rw gl gs : Int32} {ky fi sn rk rf rs me : Nat → Int32}
theorem yb_rwoL {post : Int32 → Prop} {m : Nat → Option Nat} {W p : Nat} (h : ya_W m W rf rs) (hp : p < 2000) (hW : W ≤ 520) (h0 : m p = none → post (-1)) (h1 : ∀ q w, m p = some q → w < W → ((rf w = nI p ∧ rs w = nI q) ∨ (rf w = nI q ∧ rs w = nI p)) → post (nI w)) :
    ∀ (f i : Nat), W + 1 ≤ f + i → i ≤ W → (∀ w, w < i → rf w ≠ nI p ∧ rs w ≠ nI p) → wY_runWireOf_2 post (nI p) gc gw rc (nI W) gl gs ky fi sn rk rf rs me f (nI i) := by
  obtain ⟨a1, a2, a3, a4, a5⟩ := id h
  intro f
  induction f with
  | zero => intro i h1 h2; omega
  | succ f ih =>
    intro i l1 l2 l3
    refine pk_le W i (fun z => ?_) (fun z => ?_)
    · refine h0 ?_
      cases e : m p with
      | none => rfl
      | some q =>
        exfalso
        obtain ⟨w, hw, hh⟩ := a4 p q e
        have := l3 w (by omega)
        rcases hh with ⟨x, _⟩ | ⟨_, x⟩
        · exact this.1 x
        · exact this.2 x
    · have ci : (nI i).toNatClampNeg = i := nI_clamp (by omega)
      obtain ⟨x, y, e1, e2, e3⟩ := a3 i z
      have bx := a2 _ _ e3
      have e4 := (a1 _ _ e3).1
      have by' := a2 _ _ e4
      refine ⟨vp_in_nI (by omega) (by decide), ?_⟩
      rw [ci, e1]
      by_cases q : x = p
      · subst q
        exact br_t rfl (h1 y i e3 z (Or.inl ⟨e1, e2⟩))
      · refine br_f (fun t => q (ya_nI bx hp t)) ⟨vp_in_nI (by omega) (by decide), ?_⟩
        rw [e2]
        by_cases q2 : y = p
        · subst q2
          exact br_t rfl (h1 x i e4 z (Or.inr ⟨e1, e2⟩))
        · refine br_f (fun t => q2 (ya_nI by' hp t)) (nm_r (nI_1 i) (ih (i + 1) (by omega) (by omega) ?_))
          intro w hw
          by_cases wi : w = i
          · rw [wi, e1, e2]
            exact ⟨fun t => q (ya_nI bx hp t), fun t => q2 (ya_nI by' hp t)⟩
          · exact l3 w (by omega)
theorem yb_rwo {post : Int32 → Prop} {m : Nat → Option Nat} {W p : Nat} {x : Int32} (h : ya_W m W rf rs) (hx : x = nI p) (hp : p < 2000) (hW : W ≤ 520) (h0 : m p = none → post (-1)) (h1 : ∀ q w, m p = some q → w < W → ((rf w = nI p ∧ rs w = nI q) ∨ (rf w = nI q ∧ rs w = nI p)) → post (nI w)) : wpY_runWireOf post (gc, gw, rc, nI W, gl, gs, ky, fi, sn, rk, rf, rs, me) x := by
  subst hx
  exact ⟨W + 1, yb_rwoL h hp hW h0 h1 (W + 1) 0 (by omega) (by omega) (fun w hw => by omega)⟩
theorem yb_across {post : Int32 → Prop} {m : Nat → Option Nat} {W p : Nat} {x : Int32} (h : ya_W m W rf rs) (hx : x = nI p) (hp : p < 2000) (hW : W ≤ 520) (h0 : m p = none → post (-1)) (h1 : ∀ q, m p = some q → post (nI q)) : wpY_across post (gc, gw, rc, nI W, gl, gs, ky, fi, sn, rk, rf, rs, me) x := by
  subst hx
  unfold wpY_across
  refine yb_rwo h rfl hp hW (fun e => br_f (by decide) (h0 e)) (fun q w e hw hh => ?_)
  have cw : (nI w).toNatClampNeg = w := nI_clamp (by omega)
  have iw : vp_in (nI w) 520 := vp_in_nI (by omega) (by decide)
  obtain ⟨a1, a2, _⟩ := id h
  have bq := a2 _ _ (a1 _ _ e).1
  refine br_t (nI_pos' (by omega)) ⟨iw, ?_⟩
  rw [cw]
  rcases hh with ⟨e1, e2⟩ | ⟨e1, e2⟩
  · refine br_t e1 ⟨iw, ?_⟩
    rw [e2]; exact h1 q e
  · refine br_f ?_ ⟨iw, ?_⟩
    · rw [e1]; intro z; exact (a1 _ _ e).2 (ya_nI bq hp z).symm
    · rw [e1]; exact h1 q e
theorem yb_takeWire {post : SY → Prop} {W w : Nat} (hw : w < W + 1) (hW : W + 1 ≤ 520) (H : post (gc, gw, rc, nI W, gl, gs, ky, fi, sn, rk, upd rf w (rf W), upd rs w (rs W), me)) : wpY_takeWire post (gc, gw, rc, nI (W + 1), gl, gs, ky, fi, sn, rk, rf, rs, me) (nI w) := by
  have cw : (nI w).toNatClampNeg = w := nI_clamp (by omega)
  have cW : (nI W).toNatClampNeg = W := nI_clamp (by omega)
  refine nm_r (nI_pred W) ⟨vp_in_nI (by omega) (by decide), vp_in_nI (by omega) (by decide), nm_r (e' := upd rf w (rf W)) (by rw [cw, cW]) ⟨vp_in_nI (by omega) (by decide), vp_in_nI (by omega) (by decide), nm_r (e' := upd rs w (rs W)) (by rw [cw, cW]) H⟩⟩
theorem yb_addWire {post : SY → Prop} {W : Nat} {x y : Int32} (hW : W < 520) (H : post (gc, gw, rc, nI (W + 1), gl, gs, ky, fi, sn, rk, upd rf W x, upd rs W y, me)) : wpY_addWire post (gc, gw, rc, nI W, gl, gs, ky, fi, sn, rk, rf, rs, me) x y := by
  have cW : (nI W).toNatClampNeg = W := nI_clamp (by omega)
  exact ⟨vp_in_nI (by omega) (by decide), nm_r (e' := upd rf W x) (by rw [cW]) ⟨vp_in_nI (by omega) (by decide), nm_r (e' := upd rs W y) (by rw [cW]) (nm_r (nI_1 W) H)⟩⟩
theorem yb_make {post : Int32 → SY → Prop} {k : Nat} {x : Int32} (hk : k < 500) (H : post (nI k) (gc, gw, nI (k + 1), rw, gl, gs, ky, fi, sn, upd rk k x, rf, rs, me)) : wpY_make post (gc, gw, nI k, rw, gl, gs, ky, fi, sn, rk, rf, rs, me) x := by
  have ck : (nI k).toNatClampNeg = k := nI_clamp (by omega)
  refine ⟨vp_in_nI (by omega) (by decide), nm_r (e' := upd rk k x) (by rw [ck]) (nm_r (nI_1 k) ?_)⟩
  rw [nI_pred]; exact H
/-- move: the wire of p goes to q -/
theorem yb_move {post : SY → Prop} {s : nt_S} {W p q : Nat} {x y : Int32} (h : ya_W s.1 W rf rs) (hx : x = nI p) (hy : y = nI q) (hp : p < 2000) (hq : q < 2000) (ho : nt_ok (1, p, q) s.1) (hW : W ≤ 520) (H : ∀ rf' rs', ya_W (nt_ap (1, p, q) s).1 W rf' rs' → post (gc, gw, rc, nI W, gl, gs, ky, fi, sn, rk, rf', rs', me)) : wpY_move post (gc, gw, rc, nI W, gl, gs, ky, fi, sn, rk, rf, rs, me) x y := by
  subst hx hy
  have hpq : p ≠ q := ho.1
  have e2 : s.1 q = none := ho.2.1 (show 1 ≠ 0 by decide)
  unfold wpY_move
  refine yb_rwo h rfl hp hW (fun e => ?_) (fun t w e hw hh => ?_)
  · refine br_t (by decide) (br_t (by decide) (H rf rs ?_))
    rw [nt_ap1]
    show ya_W (nt_rn p q s.1) W rf rs
    rw [ya_rn0 h.1 e e2]; exact h
  · have cw : (nI w).toNatClampNeg = w := nI_clamp (by omega)
    have iw : vp_in (nI w) 520 := vp_in_nI (by omega) (by decide)
    have bt := h.2.1 _ _ (h.1 _ _ e).1
    have nw : ¬ nI w < 0 := nI_pos (by omega)
    refine br_f nw ⟨iw, ?_⟩
    rw [cw]
    rcases hh with ⟨e3, e4⟩ | ⟨e3, e4⟩
    · exact br_t e3 ⟨iw, nm_e (H _ _ (ya_move h hw hq hpq e e2 (Or.inl ⟨e3, e4, rfl, rfl⟩)))⟩
    · refine br_f ?_ (br_f nw ⟨iw, nm_r (e' := upd rs w (nI q)) (by rw [cw]) (H _ _ (ya_move h hw hq hpq e e2 (Or.inr ⟨e3, e4, rfl, rfl⟩)))⟩)
      rw [e3]; intro z; exact (h.1 _ _ e).2 (ya_nI bt hp z).symm
/-- melt: the wires of p and q become one -/
theorem yb_melt {post : SY → Prop} {s : nt_S} {W p q ly e : Nat} {x y : Int32} (h : ya_W s.1 W rf rs) (hl : s.2 = ly + e) (hx : x = nI p) (hy : y = nI q) (hp : p < 2000) (hq : q < 2000) (hpq : p ≠ q) (hW : W ≤ 500) (H : ∀ W' rf' rs' ly', W' ≤ W → ya_W (nt_ap (0, p, q) s).1 W' rf' rs' → (nt_ap (0, p, q) s).2 = ly' + e → post (gc, gw, rc, nI W', nI ly', gs, ky, fi, sn, rk, rf', rs', me)) : wpY_melt post (gc, gw, rc, nI W, nI ly, gs, ky, fi, sn, rk, rf, rs, me) x y := by
  subst hx hy
  obtain ⟨m, l⟩ := s
  dsimp only at h hl
  obtain ⟨a1, a2, a3, a4, a5⟩ := id h
  have sy : ∀ x y, m x = some y → m y = some x := fun x y z => (a1 x y z).1
  change ∀ W' rf' rs' ly', W' ≤ W → ya_W (nt_fz p q m) W' rf' rs' → (if m p = some q then l + 1 else l) = ly' + e → post (gc, gw, rc, nI W', nI ly', gs, ky, fi, sn, rk, rf', rs', me) at H
  unfold wpY_melt
  cases ep : m p with
  | none =>
    have H' : ∀ W' rf' rs', W' ≤ W → ya_W (nt_fz p q m) W' rf' rs' → post (gc, gw, rc, nI W', nI ly, gs, ky, fi, sn, rk, rf', rs', me) := fun W' rf' rs' w1 w2 => H W' rf' rs' ly w1 w2 (by rw [ep, if_neg (fun z => nomatch z)]; exact hl)
    refine yb_across h rfl hp (by omega) (fun _ => ?_) (fun t z => by rw [ep] at z; cases z)
    cases eq : m q with
    | none =>
      have ef : nt_fz p q m = m := by
        have := congrArg Prod.fst (xc_ap0 (s := (m, l)) a1 ep eq)
        exact this
      refine yb_across h rfl hq (by omega) (fun _ => ?_) (fun t z => by rw [eq] at z; cases z)
      refine yb_rwo h rfl hp (by omega) (fun _ => ?_) (fun t w z => by rw [ep] at z; cases z)
      refine br_t (by decide) ?_
      unfold wY_melt_31
      refine br_f (fun z => xa_m1 (n := q) (by omega) z.symm) ?_
      refine yb_rwo h rfl hq (by omega) (fun _ => ?_) (fun t w z => by rw [eq] at z; cases z)
      refine br_t (by decide) (br_t (by decide) (H' W rf rs (by omega) (by rw [ef]; exact h)))
    | some b =>
      have eb := sy _ _ eq
      have bb := a2 _ _ eb
      have ef : nt_fz p q m = nt_fz q b m := by
        funext x
        rw [ya_fz a1 eq]
        unfold nt_fz
        by_cases x1 : x = p ∨ x = q
        · rw [if_pos x1]
          by_cases x2 : x = q ∨ x = b
          · rw [if_pos x2]
          · rw [if_neg x2]
            have : x = p := by omega
            rw [this, ep]
        · rw [if_neg x1, if_neg (fun z => by have := sy _ _ z; rw [ep] at this; cases this)]
          by_cases x2 : x = b
          · rw [x2, if_pos eb, if_pos (Or.inr rfl)]; exact ep
          · rw [if_neg (fun z => by have := sy _ _ z; rw [eq] at this; cases this; exact x2 rfl), if_neg (by omega)]
      refine yb_across h rfl hq (by omega) (fun z => by rw [eq] at z; cases z) (fun t z => ?_)
      rw [eq] at z; cases z
      refine yb_rwo h rfl hp (by omega) (fun _ => ?_) (fun t w z => by rw [ep] at z; cases z)
      refine br_t (by decide) ?_
      unfold wY_melt_31
      refine br_f (fun z => xa_m1 (n := q) (by omega) z.symm) ?_
      refine yb_rwo h rfl hq (by omega) (fun z => by rw [eq] at z; cases z) (fun t w z hw hh => ?_)
      rw [eq] at z; cases z
      refine br_f (nI_pos (by omega)) ?_
      obtain ⟨W, rfl⟩ : ∃ W', W = W' + 1 := ⟨W - 1, by omega⟩
      refine yb_takeWire hw (by omega) ?_
      refine br_t (by decide) (H' W _ _ (by omega) ?_)
      rw [ef]; exact ya_take h hw eq hh
  | some a =>
    have ea := sy _ _ ep
    have ba := a2 _ _ ea
    refine yb_across h rfl hp (by omega) (fun z => by rw [ep] at z; cases z) (fun t z => ?_)
    rw [ep] at z; cases z
    by_cases aq : a = q
    · subst aq
      refine yb_across h rfl hq (by omega) (fun z => by rw [ea] at z; cases z) (fun t z => ?_)
      refine yb_rwo h rfl hp (by omega) (fun z => by rw [ep] at z; cases z) (fun t2 w z2 hw hh => ?_)
      rw [ep] at z2; cases z2
      refine br_f (nI_pos (by omega)) ?_
      obtain ⟨W, rfl⟩ : ∃ W', W = W' + 1 := ⟨W - 1, by omega⟩
      refine yb_takeWire hw (by omega) ?_
      refine br_t rfl (nm_r (nI_1 ly) (H W _ _ (ly + 1) (by omega) (ya_take h hw ep hh) ?_))
      rw [ep, if_pos rfl]; omega
    · have naq : ¬ nI a = nI q := fun z => aq (ya_nI ba hq z)
      have H' : ∀ W' rf' rs', W' ≤ W → ya_W (nt_fz p q m) W' rf' rs' → post (gc, gw, rc, nI W', nI ly, gs, ky, fi, sn, rk, rf', rs', me) := fun W' rf' rs' w1 w2 => H W' rf' rs' ly w1 w2 (by rw [ep, if_neg (fun z => by cases z; exact aq rfl)]; exact hl)
      have z1 : ∀ x, nt_fz p a m x = if x = p ∨ x = a then none else m x := ya_fz a1 ep
      cases eq : m q with
      | none =>
        have ef : nt_fz p q m = nt_fz p a m := by
          funext x
          rw [z1]
          unfold nt_fz
          by_cases x1 : x = p ∨ x = q
          · rw [if_pos x1]
            by_cases x2 : x = p ∨ x = a
            · rw [if_pos x2]
            · rw [if_neg x2]
              have : x = q := by omega
              rw [this, eq]
          · rw [if_neg x1]
            by_cases x2 : x = a
            · rw [x2, if_pos ea, if_pos (Or.inr rfl)]; exact eq
            · rw [if_neg (fun z => by have := sy _ _ z; rw [ep] at this; cases this; exact x2 rfl), if_neg (fun z => by have := sy _ _ z; rw [eq] at this; cases this), if_neg (by omega)]
        refine yb_across h rfl hq (by omega) (fun _ => ?_) (fun t z => by rw [eq] at z; cases z)
        refine yb_rwo h rfl hp (by omega) (fun z => by rw [ep] at z; cases z) (fun t2 w z2 hw hh => ?_)
        rw [ep] at z2; cases z2
        refine br_f (nI_pos (by omega)) ?_
        obtain ⟨W, rfl⟩ : ∃ W', W = W' + 1 := ⟨W - 1, by omega⟩
        refine yb_takeWire hw (by omega) ?_
        have h2 := ya_take h hw ep hh
        have eq2 : nt_fz p a m q = none := by rw [z1, if_neg (by omega)]; exact eq
        refine br_f naq ?_
        refine yb_rwo h2 rfl hq (by omega) (fun _ => ?_) (fun t w z => by rw [eq2] at z; cases z)
        refine br_t (by decide) ?_
        unfold wY_melt_65
        refine br_f (nI_pos (by omega)) (br_t (by decide) (H' W _ _ (by omega) ?_))
        rw [ef]; exact h2
      | some b =>
        have eb := sy _ _ eq
        have bb := a2 _ _ eb
        have nbq := (a1 _ _ eq).2
        have nbp : b ≠ p := fun z => by rw [z] at eb; rw [ep] at eb; cases eb; exact aq rfl
        have nab : a ≠ b := fun z => by rw [z] at ea; rw [ea] at eb; cases eb; exact hpq rfl
        have nap := (a1 _ _ ep).2
        refine yb_across h rfl hq (by omega) (fun z => by rw [eq] at z; cases z) (fun t z => ?_)
        rw [eq] at z; cases z
        refine yb_rwo h rfl hp (by omega) (fun z => by rw [ep] at z; cases z) (fun t2 w z2 hw hh => ?_)
        rw [ep] at z2; cases z2
        refine br_f (nI_pos (by omega)) ?_
        obtain ⟨W, rfl⟩ : ∃ W', W = W' + 1 := ⟨W - 1, by omega⟩
        refine yb_takeWire hw (by omega) ?_
        have h2 := ya_take h hw ep hh
        have eq2 : nt_fz p a m q = some b := by rw [z1, if_neg (by omega)]; exact eq
        refine br_f naq ?_
        refine yb_rwo h2 rfl hq (by omega) (fun z => by rw [eq2] at z; cases z) (fun t3 w3 z3 hw3 hh3 => ?_)
        rw [eq2] at z3; cases z3
        refine br_f (nI_pos (by omega)) ?_
        obtain ⟨W, rfl⟩ : ∃ W', W = W' + 1 := ⟨W - 1, by omega⟩
        refine yb_takeWire hw3 (by omega) ?_
        have h3 := ya_take h2 hw3 eq2 hh3
        have z2 : ∀ x, nt_fz q b (nt_fz p a m) x = if x = q ∨ x = b then none else if x = p ∨ x = a then none else m x := by
          intro x; rw [ya_fz h2.1 eq2, z1]
        refine br_f (nI_pos (by omega)) (br_f (nI_pos (by omega)) ?_)
        refine yb_addWire (by omega) ?_
        refine H' (W + 1) _ _ (by omega) ?_
        have h4 := ya_add h3 ba bb nab (by rw [z2, if_neg (by omega), if_pos (Or.inr rfl)]) (by rw [z2, if_pos (Or.inr rfl)])
        have ef : nt_fz p q m = nt_ad a b (nt_fz q b (nt_fz p a m)) := by
          funext x
          unfold nt_ad
          rw [z2]
          unfold nt_fz
          by_cases xa : x = a
          · rw [if_pos xa, xa, if_neg (by omega), if_pos ea]; exact eq
          · rw [if_neg xa]
            by_cases xb : x = b
            · rw [if_pos xb, xb, if_neg (by omega), if_neg (by rw [eb]; intro z; cases z; exact hpq rfl), if_pos eb]; exact ep
            · rw [if_neg xb]
              by_cases x1 : x = p ∨ x = q
              · rw [if_pos x1]
                by_cases x2 : x = q
                · rw [if_pos (Or.inl x2)]
                · rw [if_neg (by omega), if_pos (by omega)]
              · have y1 : ¬ m x = some p := fun z => by have := sy _ _ z; rw [ep] at this; cases this; exact xa rfl
                have y2 : ¬ m x = some q := fun z => by have := sy _ _ z; rw [eq] at this; cases this; exact xb rfl
                rw [if_neg x1, if_neg y1, if_neg y2, if_neg (by omega), if_neg (by omega)]
        rw [ef]; exact h4
end
end
section
/-! Y's step -/
theorem yc_pt (c t : Nat) : 4 + 3 * nI c + nI t = nI (nt_pt c t) := by
  rw [xa_mul3, show (4 : Int32) = nI 4 from rfl, nI_add, nI_add]; rfl
theorem yc_pt0 (c : Nat) : 4 + 3 * nI c + 0 = nI (nt_pt c 0) := yc_pt c 0
theorem yc_pt1 (c : Nat) : 4 + 3 * nI c + 1 = nI (nt_pt c 1) := yc_pt c 1
theorem yc_pt2 (c : Nat) : 4 + 3 * nI c + 2 = nI (nt_pt c 2) := yc_pt c 2
theorem yc_pt11 (c : Nat) : 4 + 3 * nI c + 1 + 1 = nI (nt_pt c 2) := by rw [yc_pt1, nI_1]; rfl
theorem yc_cell {c : Nat} (h : c < 2000) : (nI (nt_pt c 0) - 4) / 3 = nI c := by
  rw [show (4 : Int32) = nI 4 from rfl, pk_sub (by unfold nt_pt; omega), xa_div3 (by unfold nt_pt; omega)]
  exact congrArg nI (by unfold nt_pt; omega)
def yc_K (k : Nat) (lv : Nat → Bool) (kd : Nat → Nat) (rk : Nat → Int32) : Prop := ∀ c, c < k → (lv c = true → rk c = nI (kd c)) ∧ (lv c = false → rk c = -1) ∧ kd c ≤ 2
def yc_J (k : Nat) (lv : Nat → Bool) (kd : Nat → Nat) (s : nt_S) (rk F S : Nat → Int32) (W ly e : Nat) : Prop := k ≤ 490 ∧ ya_W s.1 W F S ∧ yc_K k lv kd rk ∧ s.2 = ly + e
theorem yc_KK {k w a b x y : Nat} {lv : Nat → Bool} {kd : Nat → Nat} {rk rk' : Nat → Int32} (h : yc_K k lv kd rk) (h1 : ∀ z, z < k → z ≠ a → z ≠ b → rk' z = rk z) (h2 : ∀ z, (z = a ∨ z = b) → rk' z = -1) (h3 : ∀ z, k ≤ z → z < k + w → (z = k ∨ z = k + 1 → rk' z = nI y) ∧ (z = k + 2 ∨ z = k + 3 → rk' z = nI x)) (hw : w ≤ 4) (hx : x ≤ 2) (hy : y ≤ 2) (ha : a < k) (hb : b < k) : yc_K (k + w) (nt_lv k w a b lv) (nt_kd k x y kd) rk' := by
  intro z hz
  have k2 : nt_kd k x y kd z ≤ 2 := by
    unfold nt_kd
    split
    · exact hy
    · split
      · exact hx
      · exact (h z (by omega)).2.2
  refine ⟨fun hl => ?_, fun hl => ?_, k2⟩
  · obtain ⟨q1, q2, q3⟩ := xc_lv.mp hl
    unfold nt_kd
    by_cases zk : z < k
    · rw [if_neg (by omega), if_neg (by omega), h1 z zk q1 q2]
      rcases q3 with q3 | q3
      · omega
      · exact (h z zk).1 q3
    · by_cases q : z = k ∨ z = k + 1
      · rw [if_pos q]; exact (h3 z (by omega) hz).1 q
      · rw [if_neg q, if_pos (by omega)]; exact (h3 z (by omega) hz).2 (by omega)
  · unfold nt_lv at hl
    split at hl
    · rename_i q; exact h2 z q
    · rename_i q
      split at hl
      · cases hl
      · rw [h1 z (by omega) (by omega) (by omega)]
        exact (h z (by omega)).2.1 hl
def yc_k2 (rk : Nat → Int32) (c d : Nat) : Nat → Int32 := upd (upd rk c (-1)) d (-1)
theorem yc_k2a {rk : Nat → Int32} {c d x : Nat} (h : x = c ∨ x = d) : yc_k2 rk c d x = -1 := by
  unfold yc_k2
  by_cases e : x = d
  · rw [e, pk_us]
  · rw [pk_un e]
    rcases h with rfl | h
    · exact pk_us
    · exact absurd h e
theorem yc_k2b {rk : Nat → Int32} {c d x : Nat} (h1 : x ≠ c) (h2 : x ≠ d) : yc_k2 rk c d x = rk x := by
  unfold yc_k2; rw [pk_un h2, pk_un h1]
theorem yc_lt {c t k : Nat} (ht : t < 3) (h : c < k) (hk : k ≤ 490) : nt_pt c t < 2000 := by unfold nt_pt; omega
section
variable {gc gw rc rw gl gs : Int32} {ky fi sn rk rf rs me : Nat → Int32}
variable {k c d : Nat} {lv : Nat → Bool} {kd : Nat → Nat} {s : nt_S} {W ly e : Nat}
def yc_H (post : SY → Prop) (gc gw gs : Int32) (ky fi sn me : Nat → Int32) (k c d : Nat) (lv : Nat → Bool) (kd : Nat → Nat) (s : nt_S) (W e : Nat) : Prop := ∀ a b, ((a = c ∧ b = d) ∨ (a = d ∧ b = c)) → kd a ≤ kd b → ∀ rk' rf' rs' W' ly', yc_J (k + nt_w (kd a) (kd b)) (nt_lv k (nt_w (kd a) (kd b)) a b lv) (nt_kd k (kd a) (kd b) kd) (nt_run (nt_ops (kd a) (kd b) a b k (k + 1) (k + 2) (k + 3)) s) rk' rf' rs' W' ly' (e + 1) → W' ≤ W + 4 → post (gc, gw, nI (k + nt_w (kd a) (kd b)), nI W', nI ly', gs, ky, fi, sn, rk', rf', rs', me)
theorem yc_ann {post : SY → Prop} (hW : ya_W (nt_ap (0, nt_pt c 0, nt_pt d 0) s).1 W rf rs) (hl : (nt_ap (0, nt_pt c 0, nt_pt d 0) s).2 = ly + (e + 1)) (hK : yc_K k lv kd rk) (hc : c < k) (hd : d < k) (hcd : c ≠ d) (hk4 : k + 4 ≤ 490) (hW5 : W ≤ 496) (hk : kd c = kd d) (H : yc_H post gc gw gs ky fi sn me k c d lv kd s W e) : wpY_melt (fun u => match u with | (gc, gw, rc, rw, gl, gs, ky, fi, sn, rk, rf, rs, me) => wpY_melt post (gc, gw, rc, rw, gl, gs, ky, fi, sn, rk, rf, rs, me) ((4 + (3 * nI c)) + 2) ((4 + (3 * nI d)) + 2)) (gc, gw, nI k, nI W, nI ly, gs, ky, fi, sn, yc_k2 rk c d, rf, rs, me) ((4 + (3 * nI c)) + 1) ((4 + (3 * nI d)) + 1) := by
  have H' := H c d (Or.inl ⟨rfl, rfl⟩) (by omega)
  rw [xe_wA hk, xe_oA hk] at H'
  refine yb_melt hW hl (yc_pt1 c) (yc_pt1 d) (yc_lt (by decide) hc (by omega)) (yc_lt (by decide) hd (by omega)) (by rw [Ne, nt_pteq (by decide) (by decide)]; omega) (by omega) fun W1 f1 s1 l1 w1 h1 e1 => ?_
  refine yb_melt h1 e1 (yc_pt2 c) (yc_pt2 d) (yc_lt (by decide) hc (by omega)) (yc_lt (by decide) hd (by omega)) (by rw [Ne, nt_pteq (by decide) (by decide)]; omega) (by omega) fun W2 f2 s2 l2 w2 h2 e2 => ?_
  refine H' (yc_k2 rk c d) f2 s2 W2 l2 ⟨by omega, h2, ?_, e2⟩ (by omega)
  exact yc_KK hK (fun x _ h1 h2 => yc_k2b h1 h2) (fun x h => yc_k2a h) (fun z h1 h2 => by omega) (by omega) (hK c hc).2.2 (hK d hd).2.2 hc hd
theorem yc_two {post : SY → Prop} (hW : ya_W (nt_ap (0, nt_pt c 0, nt_pt d 0) s).1 W rf rs) (hl : (nt_ap (0, nt_pt c 0, nt_pt d 0) s).2 = ly + (e + 1)) (hK : yc_K k lv kd rk) (hc : c < k) (hd : d < k) (hk4 : k + 4 ≤ 490) (hE : ∀ x, x < k → lv x = true → kd x = 2 → s.1 (nt_pt x 1) = none ∧ s.1 (nt_pt x 2) = none) (lc : lv c = true) (ld : lv d = true) (hkc : kd c = 2) (hkd : kd d = 2) (H : yc_H post gc gw gs ky fi sn me k c d lv kd s W e) : post (gc, gw, nI k, nI W, nI ly, gs, ky, fi, sn, yc_k2 rk c d, rf, rs, me) := by
  have H' := H c d (Or.inl ⟨rfl, rfl⟩) (by omega)
  have hk : kd c = kd d := by omega
  rw [xe_wA hk, xe_oA hk] at H'
  have nn : ∀ x t, x < k → lv x = true → kd x = 2 → 0 < t → t < 3 → (nt_ap (0, nt_pt c 0, nt_pt d 0) s).1 (nt_pt x t) = none := by
    intro x t h1 h2 h3 h4 h5
    refine nt_np ?_ (fun z => z.1 rfl)
    rcases (by omega : t = 1 ∨ t = 2) with rfl | rfl
    · exact (hE x h1 h2 h3).1
    · exact (hE x h1 h2 h3).2
  have er : nt_run (nt_opA c d) s = nt_ap (0, nt_pt c 0, nt_pt d 0) s := by
    show nt_ap (0, nt_pt c 2, nt_pt d 2) (nt_ap (0, nt_pt c 1, nt_pt d 1) (nt_ap (0, nt_pt c 0, nt_pt d 0) s)) = _
    rw [xc_ap0 (s := nt_ap (0, nt_pt c 0, nt_pt d 0) s) hW.1 (nn c 1 hc lc hkc (by decide) (by decide)) (nn d 1 hd ld hkd (by decide) (by decide))]
    rw [xc_ap0 hW.1 (nn c 2 hc lc hkc (by decide) (by decide)) (nn d 2 hd ld hkd (by decide) (by decide))]
  rw [er] at H'
  refine H' (yc_k2 rk c d) rf rs W ly ⟨by omega, hW, ?_, hl⟩ (by omega)
  exact yc_KK hK (fun x _ h1 h2 => yc_k2b h1 h2) (fun x h => yc_k2a h) (fun z h1 h2 => by omega) (by omega) (hK c hc).2.2 (hK d hd).2.2 hc hd
theorem yc_er {post : SY → Prop} {a b : Nat} (hab : (a = c ∧ b = d) ∨ (a = d ∧ b = c)) (hW : ya_W (nt_ap (0, nt_pt a 0, nt_pt b 0) s).1 W rf rs) (hl : (nt_ap (0, nt_pt a 0, nt_pt b 0) s).2 = ly + (e + 1)) (hK : yc_K k lv kd rk) (hc : a < k) (hd : b < k) (hcd : a ≠ b) (nk : ∀ x, k ≤ x → ∀ t, t < 3 → s.1 (nt_pt x t) = none) (hk4 : k + 4 ≤ 490) (hW5 : W ≤ 496) (hka : kd a ≠ 2) (hkb : kd b = 2) (H : yc_H post gc gw gs ky fi sn me k c d lv kd s W e) : wpY_erase post (gc, gw, nI k, nI W, nI ly, gs, ky, fi, sn, yc_k2 rk c d, rf, rs, me) (nI a) := by
  have ka := (hK a hc).2.2
  have H' := H a b hab (by omega)
  have ne : kd a ≠ kd b := by omega
  rw [xe_wE ne hkb, xe_oE ne hkb] at H'
  have D := xc_D6 hc hd hcd
  have okl : nt_okL (nt_opE a b k (k + 1)) s := by
    have O := nt_opsO (x := 0) (y := 2) (m := s.1) D (nk _ (by omega)) (nk _ (by omega)) (nk _ (by omega)) (nk _ (by omega))
    have P := nt_opsP (x := 0) (y := 2) D
    exact nt_okP _ _ O P
  obtain ⟨_, o1, o2, _⟩ := okl
  refine ⟨3, ?_⟩
  refine br_f (by decide) ?_
  refine yb_make (by omega) ?_
  refine yb_move hW (yc_pt1 a) (yc_pt0 k) (yc_lt (by decide) hc (by omega)) (yc_lt (k := k + 1) (by decide) (by omega) (by omega)) o1 (by omega) fun f1 s1 h1 => ?_
  refine nm_r (e' := nI 2) rfl (br_f (by decide) ?_)
  refine yb_make (by omega) ?_
  refine yb_move h1 (yc_pt2 a) (yc_pt0 (k + 1)) (yc_lt (by decide) hc (by omega)) (yc_lt (k := k + 2) (by decide) (by omega) (by omega)) o2 (by omega) fun f2 s2 h2 => ?_
  refine nm_r (e' := nI 3) rfl (br_t (by decide) ?_)
  have g : ∀ x, x < k → upd (upd (yc_k2 rk c d) k 2) (k + 1) 2 x = yc_k2 rk c d x := fun x hx => by rw [pk_un (by omega), pk_un (by omega)]
  refine H' _ f2 s2 W ly ⟨by omega, h2, ?_, hl⟩ (by omega)
  refine yc_KK hK (fun x hx h1 h2 => ?_) (fun x h => ?_) (fun z h1 h2 => ⟨fun q => ?_, fun q => by omega⟩) (by omega) (by omega) (by omega) hc hd
  · rw [g x hx, yc_k2b (by omega) (by omega)]
  · rw [g x (by omega), yc_k2a (by omega)]
  · rw [hkb]
    rcases q with rfl | rfl
    · rw [pk_un (by omega), pk_us]; rfl
    · rw [pk_us]; rfl
theorem yc_port {post : Int32 → Prop} {x y : Int32} (h : post ((4 + (3 * x)) + y)) : wpY_port post (gc, gw, rc, rw, gl, gs, ky, fi, sn, rk, rf, rs, me) x y := h
theorem yc_com {post : SY → Prop} {a b : Nat} (hab : (a = c ∧ b = d) ∨ (a = d ∧ b = c)) (hW : ya_W (nt_ap (0, nt_pt a 0, nt_pt b 0) s).1 W rf rs) (hl : (nt_ap (0, nt_pt a 0, nt_pt b 0) s).2 = ly + (e + 1)) (hM : nt_Mt s.1) (hK : yc_K k lv kd rk) (hc : a < k) (hd : b < k) (hcd : a ≠ b) (nk : ∀ x, k ≤ x → ∀ t, t < 3 → s.1 (nt_pt x t) = none) (hk4 : k + 4 ≤ 490) (hW5 : W ≤ 496) (hka : kd a = 0) (hkb : kd b = 1) (H : yc_H post gc gw gs ky fi sn me k c d lv kd s W e) : wpY_copyEachOther post (gc, gw, nI k, nI W, nI ly, gs, ky, fi, sn, yc_k2 rk c d, rf, rs, me) (nI a) (nI b) := by
  have H' := H a b hab (by omega)
  have ne : kd a ≠ kd b := by omega
  rw [xe_wC ne (by omega), xe_oC ne (by omega)] at H'
  have D := xc_D6 hc hd hcd
  have O := nt_opsO (x := 0) (y := 1) (m := s.1) D (nk _ (by omega)) (nk _ (by omega)) (nk _ (by omega)) (nk _ (by omega))
  have P := nt_opsP (x := 0) (y := 1) D
  have okl : nt_okL (nt_opC a b k (k + 1) (k + 2) (k + 3)) s := nt_okP _ _ O P
  obtain ⟨o0, o1, o2, o3, o4, o5, o6, o7, o8, _⟩ := okl
  have dj : nt_dj (1, nt_pt a 2, nt_pt (k + 1) 0) (1, nt_pt b 1, nt_pt (k + 2) 0) := by
    have x1 : a ≠ k + 2 := by omega
    have x2 : k + 1 ≠ b := by omega
    simp [nt_dj, nt_pteq, hcd, x1, x2]
  have M1 := nt_ap_mt hM o0
  have M2 := nt_ap_mt M1 o1
  have o3' : nt_ok (1, nt_pt b 1, nt_pt (k + 2) 0) (nt_ap (1, nt_pt a 1, nt_pt k 0) (nt_ap (0, nt_pt a 0, nt_pt b 0) s)).1 := by
    have q := O (1, nt_pt b 1, nt_pt (k + 2) 0) (by show _ ∈ nt_opC a b k (k + 1) (k + 2) (k + 3); simp [nt_opC])
    have x1 : a ≠ k + 2 := by omega
    have x2 : k ≠ b := by omega
    have x3 : b ≠ k + 2 := by omega
    refine nt_ok_ap (nt_ok_ap q ?_) ?_
    · simp [nt_dj, nt_pteq, hcd, x1, x3]
    · simp [nt_dj, nt_pteq, hcd, x1, x2]
  have o2' := nt_ok_ap o2 (s := nt_ap (1, nt_pt a 1, nt_pt k 0) (nt_ap (0, nt_pt a 0, nt_pt b 0) s)) (o := (1, nt_pt b 1, nt_pt (k + 2) 0)) ⟨dj.1.symm, dj.2.2.1.symm, dj.2.1.symm, dj.2.2.2.symm⟩
  have sw := nt_sw M2 o2 o3' dj
  unfold wpY_copyEachOther
  refine yb_make (by omega) ?_
  refine yb_make (by omega) ?_
  refine yb_make (by omega) ?_
  refine yb_make (by omega) ⟨3, ?_⟩
  refine br_f (by decide) (br_t rfl ?_)
  refine br_t rfl ?_
  refine yb_move hW (yc_pt1 a) (yc_pt0 k) (yc_lt (by decide) hc (by omega)) (yc_lt (k := k + 4) (by decide) (by omega) (by omega)) o1 (by omega) fun f1 s1 h1 => ?_
  refine yb_move h1 (yc_pt1 b) (yc_pt0 (k + 2)) (yc_lt (by decide) hd (by omega)) (yc_lt (k := k + 4) (by decide) (by omega) (by omega)) o3' (by omega) fun f2 s2 h2 => ?_
  refine nm_r (e' := nI 2) rfl (br_f (by decide) (br_f (by decide) ?_))
  refine br_f (by decide) ?_
  refine yb_move h2 (yc_pt2 a) (yc_pt0 (k + 1)) (yc_lt (by decide) hc (by omega)) (yc_lt (k := k + 4) (by decide) (by omega) (by omega)) o2' (by omega) fun f3 s3 h3 => ?_
  rw [← sw] at h3
  refine yb_move h3 (yc_pt2 b) (yc_pt0 (k + 3)) (yc_lt (by decide) hd (by omega)) (yc_lt (k := k + 4) (by decide) (by omega) (by omega)) o4 (by omega) fun f4 s4 h4 => ?_
  refine nm_r (e' := nI 3) rfl (br_t (by decide) ?_)
  have AD : ∀ {m : Nat → Option Nat} {V x y x' y' : Nat} {F S : Nat → Int32}, ya_W m V F S → x < k + 4 → y < k + 4 → x' < 3 → y' < 3 → nt_ok (2, nt_pt x x', nt_pt y y') m → ya_W (nt_ad (nt_pt x x') (nt_pt y y') m) (V + 1) (upd F V (nI (nt_pt x x'))) (upd S V (nI (nt_pt y y'))) := by
    intro m V x y x' y' F S h0 hx hy hx' hy' ho
    exact ya_add h0 (yc_lt hx' hx (by omega)) (yc_lt hy' hy (by omega)) ho.1 (ho.2.2 (show 2 ≠ 0 by decide) (show 2 ≠ 1 by decide)) (ho.2.1 (show 2 ≠ 0 by decide))
  have h5 := AD h4 (by omega) (by omega) (by decide) (by decide) o5
  have h6 := AD (m := (nt_ap (2, nt_pt k 1, nt_pt (k + 2) 1) _).1) h5 (by omega) (by omega) (by decide) (by decide) o6
  have h7 := AD (m := (nt_ap (2, nt_pt k 2, nt_pt (k + 3) 1) _).1) h6 (by omega) (by omega) (by decide) (by decide) o7
  have h8 := AD (m := (nt_ap (2, nt_pt (k + 1) 1, nt_pt (k + 2) 2) _).1) h7 (by omega) (by omega) (by decide) (by decide) o8
  refine yc_port ?_
  refine yc_port ?_
  refine yc_port ?_
  refine yc_port ?_
  refine yb_addWire (W := W) (by omega) ?_
  refine yb_addWire (W := W + 1) (by omega) ?_
  refine yb_addWire (W := W + 2) (by omega) ?_
  refine yb_addWire (W := W + 3) (by omega) ?_
  rw [yc_pt11, yc_pt11, yc_pt11, yc_pt11, yc_pt1, yc_pt1, yc_pt1, yc_pt1]
  have g : ∀ x, x < k → upd (upd (upd (upd (yc_k2 rk c d) k 1) (k + 1) 1) (k + 2) 0) (k + 3) 0 x = yc_k2 rk c d x := fun x hx => by rw [pk_un (by omega), pk_un (by omega), pk_un (by omega), pk_un (by omega)]
  refine H' _ _ _ (W + 4) ly ⟨by omega, h8, ?_, hl⟩ (by omega)
  refine yc_KK hK (fun x hx h1 h2 => ?_) (fun x h => ?_) (fun z h1 h2 => ⟨fun q => ?_, fun q => ?_⟩) (by omega) (by omega) (by omega) hc hd
  · rw [g x hx, yc_k2b (by omega) (by omega)]
  · rw [g x (by omega), yc_k2a (by omega)]
  · rw [hkb]
    rcases q with rfl | rfl
    · rw [pk_un (by omega), pk_un (by omega), pk_un (by omega), pk_us]; rfl
    · rw [pk_un (by omega), pk_un (by omega), pk_us]; rfl
  · rw [hka]
    rcases q with rfl | rfl
    · rw [pk_un (by omega), pk_us]; rfl
    · rw [pk_us]; rfl
end
end
section
/-! Y's step, whole, and its run -/
section
variable {gc gw rc rw gl gs : Int32} {ky fi sn rk rf rs me : Nat → Int32}
variable {k c d : Nat} {lv : Nat → Bool} {kd : Nat → Nat} {s : nt_S} {W ly e : Nat}
theorem yd_step {post : SY → Prop} {w : Nat} (h : yc_J k lv kd s rk rf rs (W + 1) ly e) (hw : w < W + 1) (hf : rf w = nI (nt_pt c 0)) (hs : rs w = nI (nt_pt d 0)) (hc : c < k) (hd : d < k) (lc : lv c = true) (ld : lv d = true) (he : s.1 (nt_pt c 0) = some (nt_pt d 0)) (hE : ∀ x, x < k → lv x = true → kd x = 2 → s.1 (nt_pt x 1) = none ∧ s.1 (nt_pt x 2) = none) (nk : ∀ x, k ≤ x → ∀ t, t < 3 → s.1 (nt_pt x t) = none) (hk : k + 4 ≤ 490) (hW : W ≤ 496) (H : yc_H post gc gw gs ky fi sn me k c d lv kd s W e) : wpY_step post (gc, gw, nI k, nI (W + 1), nI ly, gs, ky, fi, sn, rk, rf, rs, me) (nI w) := by
  obtain ⟨_, hY, hK, hl⟩ := h
  have hm := hY.1
  have hcd : c ≠ d := fun z => (hm _ _ he).2 (by rw [z])
  have cw : (nI w).toNatClampNeg = w := nI_clamp (by omega)
  have iw : vp_in (nI w) 520 := vp_in_nI (by omega) (by decide)
  have c1 : (nI c).toNatClampNeg = c := nI_clamp (by omega)
  have d1 : (nI d).toNatClampNeg = d := nI_clamp (by omega)
  have ic : vp_in (nI c) 500 := vp_in_nI (by omega) (by decide)
  have id : vp_in (nI d) 500 := vp_in_nI (by omega) (by decide)
  obtain ⟨kc, _, kc2⟩ := hK c hc
  obtain ⟨kd', _, kd2⟩ := hK d hd
  have kc := kc lc
  have kd' := kd' ld
  have q : ∀ a b, a ≤ 2 → b ≤ 2 → (nI a = nI b ↔ a = b) := fun a b h1 h2 => nI_eq (by omega) (by omega)
  have Y1 : ya_W (nt_ap (0, nt_pt c 0, nt_pt d 0) s).1 W (upd rf w (rf W)) (upd rs w (rs W)) := ya_take hY hw he (Or.inl ⟨hf, hs⟩)
  have l1 : (nt_ap (0, nt_pt c 0, nt_pt d 0) s).2 = ly + (e + 1) := by
    show (if s.1 (nt_pt c 0) = some (nt_pt d 0) then s.2 + 1 else s.2) = _
    rw [if_pos he]; omega
  have Y2 : ya_W (nt_ap (0, nt_pt d 0, nt_pt c 0) s).1 W (upd rf w (rf W)) (upd rs w (rs W)) := by rw [nt_ap0c hm]; exact Y1
  have l2 : (nt_ap (0, nt_pt d 0, nt_pt c 0) s).2 = ly + (e + 1) := by rw [nt_ap0c hm]; exact l1
  refine ⟨iw, xa_3ne, nm_r (e' := nI c) (by rw [cw, hf]; exact yc_cell (by omega)) ⟨iw, xa_3ne, nm_r (e' := nI d) (by rw [cw, hs]; exact yc_cell (by omega)) ⟨ic, nm_r (e' := nI (kd c)) (by rw [c1]; exact kc) ⟨id, nm_r (e' := nI (kd d)) (by rw [d1]; exact kd') ?_⟩⟩⟩⟩
  refine yb_takeWire hw (by omega) ?_
  refine ⟨ic, nm_r (e' := upd rk c (-1)) (by rw [c1]) ⟨id, nm_r (e' := yc_k2 rk c d) (by rw [d1]; rfl) ?_⟩⟩
  have rest : ¬ (kd c = kd d ∧ kd c < 2) → wY_step_109 post (nI c) (nI d) (nI (kd c)) (nI (kd d)) gc gw (nI k) (nI W) (nI ly) gs ky fi sn (yc_k2 rk c d) (upd rf w (rf W)) (upd rs w (rs W)) me := by
    intro hn
    unfold wY_step_109
    refine pk_le 2 (kd c) (fun h2 => ?_) (fun h2 => ?_)
    · unfold wY_step_148
      by_cases e1 : kd c = kd d
      · refine br_t (by rw [e1]) ?_
        exact yc_two Y1 l1 hK hc hd hk hE lc ld (by omega) (by omega) H
      · refine br_f (fun z => e1 ((q _ _ kc2 kd2).mp z)) (br_t (by rw [show kd c = 2 by omega]; rfl) ?_)
        unfold wY_step_167
        exact yc_er (Or.inr ⟨rfl, rfl⟩) Y2 l2 hK hd hc hcd.symm nk hk hW (by omega) (by omega) H
    · refine pk_le 2 (kd d) (fun h3 => ?_) (fun h3 => ?_)
      · unfold wY_step_148
        refine br_f (fun z => by have := (q _ _ kc2 kd2).mp z; omega) (br_f (fun z => by have := (q (kd c) 2 kc2 (by decide)).mp z; omega) ?_)
        unfold wY_step_167
        exact yc_er (Or.inl ⟨rfl, rfl⟩) Y1 l1 hK hc hd hcd nk hk hW (by omega) (by omega) H
      · by_cases e4 : kd c = 0
        · refine br_t (by rw [e4]; rfl) ?_
          unfold wY_step_132
          refine br_t (by rw [e4]; rfl) ?_
          unfold wY_step_142
          exact yc_com (Or.inl ⟨rfl, rfl⟩) Y1 l1 hm hK hc hd hcd nk hk hW e4 (by omega) H
        · have z4 : ¬ nI (kd c) = 0 := fun z => e4 ((q (kd c) 0 kc2 (by decide)).mp z)
          refine br_f z4 ?_
          unfold wY_step_132
          refine br_f z4 ?_
          unfold wY_step_142
          exact yc_com (Or.inr ⟨rfl, rfl⟩) Y2 l2 hm hK hd hc hcd.symm nk hk hW (by omega) (by omega) H
  by_cases e1 : kd c = kd d
  · refine br_t (by rw [e1]) (pk_le 2 (kd c) (fun h2 => rest (by omega)) (fun h2 => ?_))
    exact yc_ann Y1 l1 hK hc hd hcd hk hW e1 H
  · exact br_f (fun z => e1 ((q _ _ kc2 kd2).mp z)) (rest fun z => e1 z.1)
theorem yd_isHead {post : Int32 → Prop} {p : Nat} (hp : p < 2000) (h1 : xa_hd p → post 1) (h0 : ¬ xa_hd p → post 0) : wpY_isHead post (gc, gw, rc, rw, gl, gs, ky, fi, sn, rk, rf, rs, me) (nI p) := by
  refine pk_le p 3 (fun h => h0 fun z => by unfold xa_hd at z; omega) (fun h => ⟨xa_3ne, ?_⟩)
  have e : nI p - 4 = nI (p - 4) := by rw [show (4 : Int32) = nI 4 from rfl, pk_sub (by omega)]
  rw [e, xa_rem3 (by omega)]
  by_cases hh : (p - 4) % 3 = 0
  · exact br_t (by rw [hh]; rfl) (h1 ⟨by omega, hh⟩)
  · exact br_f (nI_ne0 (by omega) (by omega)) (h0 fun z => hh z.2)
theorem yd_ffL {post : Int32 → Prop} {m : Nat → Option Nat} (h : ya_W m W rf rs) (hW : W ≤ 520) (h1 : ∀ w c d, w < W → rf w = nI (nt_pt c 0) → rs w = nI (nt_pt d 0) → m (nt_pt c 0) = some (nt_pt d 0) → post (nI w)) (h0 : (∀ c d, m (nt_pt c 0) ≠ some (nt_pt d 0)) → post (-1)) :
    ∀ (f i : Nat), W + 1 ≤ f + i → i ≤ W → (∀ w c d, w < i → rf w = nI (nt_pt c 0) → rs w = nI (nt_pt d 0) → m (nt_pt c 0) ≠ some (nt_pt d 0)) → wY_findFacing_2 post gc gw rc (nI W) gl gs ky fi sn rk rf rs me f (nI i) := by
  obtain ⟨a1, a2, a3, a4, a5⟩ := id h
  intro f
  induction f with
  | zero => intro i h1 h2; omega
  | succ f ih =>
    intro i l1 l2 l3
    refine pk_le W i (fun z => ?_) (fun z => ?_)
    · refine h0 fun c d e => ?_
      obtain ⟨w, hw, hh⟩ := a4 _ _ e
      rcases hh with ⟨x1, x2⟩ | ⟨x1, x2⟩
      · exact l3 w c d (by omega) x1 x2 e
      · exact l3 w d c (by omega) x1 x2 (a1 _ _ e).1
    · have ci : (nI i).toNatClampNeg = i := nI_clamp (by omega)
      obtain ⟨x, y, e1, e2, e3⟩ := a3 i z
      have bx := a2 _ _ e3
      have by' := a2 _ _ (a1 _ _ e3).1
      have nx : ¬ (xa_hd x ∧ xa_hd y) → wY_findFacing_2 post gc gw rc (nI W) gl gs ky fi sn rk rf rs me f (nI (i + 1)) := by
        intro hn
        refine ih (i + 1) (by omega) (by omega) ?_
        intro w c d hw f1 f2 f3
        by_cases wi : w = i
        · rw [wi, e1] at f1
          rw [wi, e2] at f2
          have b1 := a2 _ _ f3
          have b2 := a2 _ _ (a1 _ _ f3).1
          have g1 := ya_nI bx b1 f1
          have g2 := ya_nI by' b2 f2
          exact hn ⟨by rw [g1]; exact xa_pt_hd c, by rw [g2]; exact xa_pt_hd d⟩
        · exact l3 w c d (by omega) f1 f2 f3
      refine ⟨vp_in_nI (by omega) (by decide), ?_⟩
      rw [ci, e1]
      refine yd_isHead bx (fun hx => br_f (by decide) ⟨vp_in_nI (by omega) (by decide), ?_⟩) (fun hx => br_t rfl (nm_r (nI_1 i) (nx fun z => hx z.1)))
      rw [e2]
      refine yd_isHead by' (fun hy => br_f (by decide) ?_) (fun hy => br_t rfl (nm_r (nI_1 i) (nx fun z => hy z.2)))
      have g1 := xa_hd_pt hx
      have g2 := xa_hd_pt hy
      rw [g1] at e1 e3
      rw [g2] at e2 e3
      exact h1 i _ _ z e1 e2 e3
theorem yd_ff {post : Int32 → Prop} {m : Nat → Option Nat} (h : ya_W m W rf rs) (hW : W ≤ 520) (h1 : ∀ w c d, w < W → rf w = nI (nt_pt c 0) → rs w = nI (nt_pt d 0) → m (nt_pt c 0) = some (nt_pt d 0) → post (nI w)) (h0 : (∀ c d, m (nt_pt c 0) ≠ some (nt_pt d 0)) → post (-1)) : wpY_findFacing post (gc, gw, rc, nI W, gl, gs, ky, fi, sn, rk, rf, rs, me) :=
  ⟨W + 1, yd_ffL h hW h1 h0 (W + 1) 0 (by omega) (by omega) (fun w c d hw => by omega)⟩
end
/-- what Y's run leaves -/
def yd_D (K : Nat → Nat) (N0 : nt_N) (r rc rw gl gs : Int32) (rk rf rs : Nat → Int32) : Prop :=
  (r = 1 ∧ ∃ k lv kd s W ly j v N, rc = nI k ∧ rw = nI W ∧ gl = nI ly ∧ gs = nI j ∧ yc_J k lv kd s rk rf rs W ly j ∧ nt_Nm K k v lv kd s N ∧ nt_stn K j N0 N ∧ nt_nf K N ∧ j ≤ 120 ∧ W ≤ 520) ∨ (r = 0 ∧ ∃ N M, nt_stn K 120 N0 N ∧ nt_st K N M)
theorem yd_live {K : Nat → Nat} {k c t q : Nat} {v : Nat → Nat} {lv : Nat → Bool} {kd : Nat → Nat} {s : nt_S} {N : nt_N} (hI : nt_Inv K N) (hN : nt_Nm K k v lv kd s N) (ht : t < 3) (e : s.1 (nt_pt c t) = some q) : c < k ∧ lv c = true := by
  obtain ⟨h1, h2, h3, h4, hT⟩ := hN
  have hc : c < k := (nt_pt_lt ht).mp (hT.2.1 _ _ e).1
  refine ⟨hc, ?_⟩
  have x := hT.1 (nt_pt c t) ((nt_pt_lt ht).mpr hc)
  rw [e, nt_pi_pt ht] at x
  have y := hI.2.1 (v c) t ht (by rw [x]; exact fun z => nomatch z)
  rw [h2 c hc] at y
  cases l : lv c with
  | true => rfl
  | false => rw [l] at y; exact absurd y (by decide)
section
variable {gc gw rc rw gl gs : Int32} {ky fi sn rk rf rs me : Nat → Int32}
theorem yd_loop {post : Int32 → SY → Prop} {K : Nat → Nat} {N0 : nt_N} (hK : nt_KK K) (H : ∀ r rc rw gl gs rk rf rs, yd_D K N0 r rc rw gl gs rk rf rs → post r (gc, gw, rc, rw, gl, gs, ky, fi, sn, rk, rf, rs, me)) :
    ∀ (n : Nat) (x : Int32) (k : Nat) (lv : Nat → Bool) (kd : Nat → Nat) (s : nt_S) (W ly j : Nat) (v : Nat → Nat) (N : nt_N) (rk rf rs : Nat → Int32), 120 < n + j → W ≤ 20 + 4 * j → j ≤ 120 → k ≤ 10 + 4 * j → yc_J k lv kd s rk rf rs W ly j → nt_Nm K k v lv kd s N → nt_Inv K N → nt_stn K j N0 N → ((x = -1 ∧ ∀ c d, s.1 (nt_pt c 0) ≠ some (nt_pt d 0)) ∨ (∃ w c d, x = nI w ∧ w < W ∧ rf w = nI (nt_pt c 0) ∧ rs w = nI (nt_pt d 0) ∧ s.1 (nt_pt c 0) = some (nt_pt d 0))) → wY_run_99 post n x gc gw (nI k) (nI W) (nI ly) (nI j) ky fi sn rk rf rs me := by
  intro n
  induction n with
  | zero => intro x k lv kd s W ly j v N rk rf rs h1 h2 h3; omega
  | succ n ih =>
    intro x k lv kd s W ly j v N rk rf rs h1 h2 h3 h4 hJ hN hI hS hx
    obtain ⟨j1, j2, j3, j4⟩ := id hJ
    rcases hx with ⟨rfl, hx⟩ | ⟨w, c, d, rfl, hw, hf, hs, he⟩
    · refine br_t (by decide) ?_
      unfold wY_run_135
      refine br_f (by decide) (H _ _ _ _ _ _ _ _ (Or.inl ⟨rfl, k, lv, kd, s, W, ly, j, v, N, rfl, rfl, rfl, rfl, hJ, hN, hS, nt_nfJ hN (fun c d _ _ => hx c d), h3, by omega⟩))
    · have he' := (j2.1 _ _ he).1
      obtain ⟨hc, lc⟩ := yd_live hI hN (by decide) he
      obtain ⟨hd, ld⟩ := yd_live hI hN (by decide) he'
      have k1 := (j3 c hc).2.2
      have k2 := (j3 d hd).2.2
      refine br_f (nI_pos (by omega)) (pk_le 120 j (fun hj => ?_) (fun hj => ?_))
      · unfold wY_run_135
        obtain rfl : j = 120 := by omega
        refine br_t (nI_pos' (by omega)) (H _ _ _ _ _ _ _ _ (Or.inr ⟨rfl, N, ?_⟩))
        obtain ⟨M, hM⟩ := xg_rdx hK hI hN j2.1 hc hd lc ld he k1 k2
        exact ⟨M, hS, hM⟩
      · obtain ⟨W, rfl⟩ : ∃ W', W = W' + 1 := ⟨W - 1, by omega⟩
        have nk : ∀ x, k ≤ x → ∀ t, t < 3 → s.1 (nt_pt x t) = none := by
          intro x hx t ht
          cases z : s.1 (nt_pt x t) with
          | none => rfl
          | some y => have := (yd_live hI hN ht z).1; omega
        refine yd_step hJ hw hf hs hc hd lc ld he (xg_E hI hN) nk (by omega) (by omega) ?_
        intro a b hab hkab rk' rf' rs' W' ly' hJ' hW'
        refine nm_r (nI_1 j) ?_
        have hw4 : nt_w (kd a) (kd b) ≤ 4 := by unfold nt_w; split; omega; split <;> omega
        have sim : nt_rdx K (v a) (v b) N ∧ nt_Nm K (k + nt_w (kd a) (kd b)) (nt_nu k a b v) (nt_lv k (nt_w (kd a) (kd b)) a b lv) (nt_kd k (kd a) (kd b) kd) (nt_run (nt_ops (kd a) (kd b) a b k (k + 1) (k + 2) (k + 3)) s) (nt_fire K (v a) (v b) N) := by
          rcases hab with ⟨rfl, rfl⟩ | ⟨rfl, rfl⟩
          · exact nt_sim hK hI hN hc hd lc ld he hkab k2
          · exact nt_sim hK hI hN hd hc ld lc he' hkab k1
        refine yd_ff hJ'.2.1 (by omega) (fun w c d w1 w2 w3 w4 => ?_) (fun hx => ?_)
        · exact ih _ _ _ _ _ W' ly' (j + 1) _ _ rk' rf' rs' (by omega) (by omega) (by omega) (by omega) hJ' sim.2 (nt_fire_inv hK hI sim.1) (nt_stn_snoc j _ _ _ hS ⟨_, _, sim.1, rfl⟩) (Or.inr ⟨w, c, d, rfl, w1, w2, w3, w4⟩)
        · exact ih _ _ _ _ _ W' ly' (j + 1) _ _ rk' rf' rs' (by omega) (by omega) (by omega) (by omega) hJ' sim.2 (nt_fire_inv hK hI sim.1) (nt_stn_snoc j _ _ _ hS ⟨_, _, sim.1, rfl⟩) (Or.inl ⟨rfl, hx⟩)
theorem yd_run2 {post : Int32 → SY → Prop} {V : Nat} (hV : V ≤ 20) (H : ∀ rf' rs', (∀ w, w < V → rf' w = fi w ∧ rs' w = sn w) → wpY_findFacing (fun r_3 => ∃ n99, wY_run_99 post n99 r_3 gc (nI V) rc (nI V) 0 0 ky fi sn rk rf' rs' me) (gc, nI V, rc, nI V, 0, 0, ky, fi, sn, rk, rf', rs', me)) :
    ∀ (f i : Nat) (rf' rs' : Nat → Int32), V + 1 ≤ f + i → i ≤ V → (∀ w, w < i → rf' w = fi w ∧ rs' w = sn w) → wY_run_38 post gc (nI V) rc rw gl gs f (nI i) ky fi sn rk rf' rs' me := by
  intro f
  induction f with
  | zero => intro i rf' rs' h1 h2; omega
  | succ f ih =>
    intro i rf' rs' h1 h2 h3
    refine pk_le V i (fun h => ?_) (fun h => ?_)
    · exact H rf' rs' (fun w hw => h3 w (by omega))
    · have ci : (nI i).toNatClampNeg = i := nI_clamp (by omega)
      refine ⟨vp_in_nI (by omega) (by decide), vp_in_nI (by omega) (by decide), nm_r (e' := upd rf' i (fi i)) (by rw [ci]) ⟨vp_in_nI (by omega) (by decide), vp_in_nI (by omega) (by decide), nm_r (e' := upd rs' i (sn i)) (by rw [ci]) (nm_r (nI_1 i) ?_)⟩⟩
      refine ih (i + 1) _ _ (by omega) (by omega) ?_
      intro w hw
      by_cases e : w = i
      · rw [e, pk_us, pk_us]; exact ⟨rfl, rfl⟩
      · rw [pk_un e, pk_un e]; exact h3 w (by omega)
theorem yd_run1 {post : Int32 → SY → Prop} {n : Nat} (hn : n ≤ 10) (H : ∀ rk', (∀ c, c < n → rk' c = ky c) → ∃ f, wY_run_38 post (nI n) gw (nI n) rw gl gs f 0 ky fi sn rk' rf rs me) :
    ∀ (f i : Nat) (rk' : Nat → Int32), n + 1 ≤ f + i → i ≤ n → (∀ c, c < i → rk' c = ky c) → wY_run_2 post (nI n) gw rc rw gl gs f (nI i) ky fi sn rk' rf rs me := by
  intro f
  induction f with
  | zero => intro i rk' h1 h2; omega
  | succ f ih =>
    intro i rk' h1 h2 h3
    refine pk_le n i (fun h => ?_) (fun h => ?_)
    · exact H rk' (fun c hc => h3 c (by omega))
    · have ci : (nI i).toNatClampNeg = i := nI_clamp (by omega)
      refine ⟨vp_in_nI (by omega) (by decide), vp_in_nI (by omega) (by decide), nm_r (e' := upd rk' i (ky i)) (by rw [ci]) (nm_r (nI_1 i) ?_)⟩
      refine ih (i + 1) _ (by omega) (by omega) ?_
      intro w hw
      by_cases e : w = i
      · rw [e, pk_us]
      · rw [pk_un e]; exact h3 w (by omega)
theorem yd_congr {m : Nat → Option Nat} {W : Nat} {F S F' S' : Nat → Int32} (h : ya_W m W F S) (hc : ∀ w, w < W → F' w = F w ∧ S' w = S w) : ya_W m W F' S' :=
  ya_gen h (fun u => u) h.1 hc (fun _ h => h) (fun _ _ _ _ h => h) (fun _ _ _ _ _ _ h => h) (fun _ _ h => h) (fun _ _ _ w hw _ => ⟨w, hw, rfl⟩)
theorem yd_run {post : Int32 → SY → Prop} {n V : Nat} {kb : Nat → Nat} {m : Nat → Option Nat} (hB : bs_B n kb m) (hk : bs_K n kb ky) (hY : ya_W m V fi sn) (hV : V ≤ 20) (H : ∀ r rc rw gl gs rk rf rs, yd_D (bs_KF kb) (bs_N n m) r rc rw gl gs rk rf rs → post r (nI n, nI V, rc, rw, gl, gs, ky, fi, sn, rk, rf, rs, me)) : wpY_run post (nI n, nI V, rc, rw, gl, gs, ky, fi, sn, rk, rf, rs, me) := by
  have hn := hB.1
  refine ⟨n + 1, ?_⟩
  refine yd_run1 hn (fun rk' h1 => ⟨V + 1, ?_⟩) (n + 1) 0 rk (by omega) (by omega) (fun c hc => by omega)
  refine yd_run2 hV (fun rf' rs' h2 => ?_) (V + 1) 0 rf rs (by omega) (by omega) (fun c hc => by omega)
  have hY' := yd_congr hY h2
  have hJ : yc_J n (fun _ => true) kb (m, 0) rk' rf' rs' V 0 0 := by
    refine ⟨by omega, hY', ?_, rfl⟩
    intro c hc
    refine ⟨fun _ => ?_, (fun z => by cases z), hB.2.2.2 c hc⟩
    rw [h1 c hc]; exact hk c hc
  refine yd_ff hY' (by omega) (fun w c d w1 w2 w3 w4 => ⟨121, ?_⟩) (fun hx => ⟨121, ?_⟩)
  · exact yd_loop (bs_KK kb) H 121 _ n _ _ _ V 0 0 _ _ rk' rf' rs' (by omega) (by omega) (by omega) (by omega) hJ (bs_Nm hB) (bs_inv hB) rfl (Or.inr ⟨w, c, d, rfl, w1, w2, w3, w4⟩)
  · exact yd_loop (bs_KK kb) H 121 _ n _ _ _ V 0 0 _ _ rk' rf' rs' (by omega) (by omega) (by omega) (by omega) hJ (bs_Nm hB) (bs_inv hB) rfl (Or.inl ⟨rfl, hx⟩)
end
end
section
/-! the two runs meet; counts; the relation -/
def fn_X (K : Nat → Nat) (N : nt_N) (j : Nat) (fm fd fl : Int32) (ki go o : Nat → Int32) : Prop := ∃ k lv kd s wt lx v, fm = nI k ∧ fd = nI j ∧ fl = nI lx ∧ xd_J k lv kd s ki go o 0 wt lx j ∧ nt_Nm K k v lv kd s N
def fn_Y (K : Nat → Nat) (N : nt_N) (j : Nat) (rc rw gl gs : Int32) (rk rf rs : Nat → Int32) : Prop := ∃ k lv kd s W ly v, rc = nI k ∧ rw = nI W ∧ gl = nI ly ∧ gs = nI j ∧ yc_J k lv kd s rk rf rs W ly j ∧ nt_Nm K k v lv kd s N ∧ W ≤ 520
theorem fn_meet {K : Nat → Nat} {N0 : nt_N} {fm fd fl ft r rc rw gl gs : Int32} {ki go ot rk rf rs : Nat → Int32} (hK : nt_KK K) (hI : nt_Inv K N0) (hx : xg_D K N0 fm fd fl ft ki go ot) (hy : yd_D K N0 r rc rw gl gs rk rf rs) : (ft = 1 ∧ r = 0) ∨ (ft = 0 ∧ r = 1 ∧ ∃ N j, nt_Inv K N ∧ nt_nf K N ∧ j ≤ 120 ∧ fn_X K N j fm fd fl ki go ot ∧ fn_Y K N j rc rw gl gs rk rf rs) := by
  rcases hx with ⟨x0, k, lv, kd, s, wt, lx, j, v, N, x1, x2, x3, x4, x5, x6, x7, x8⟩ | ⟨x0, N, M, x1, x2⟩
  · rcases hy with ⟨y0, k', lv', kd', s', W, ly, j', v', N', y1, y2, y3, y4, y5, y6, y7, y8, y9, y10⟩ | ⟨y0, N', M', y1, y2⟩
    · obtain ⟨rfl, rfl⟩ := nt_cf2 hK hI x6 x7 y7 y8
      exact Or.inr ⟨x0, y0, N', j', nt_stn_inv hK _ _ _ hI x6, x7, x8, ⟨k, lv, kd, s, wt, lx, v, x1, x2, x3, x4, x5⟩, ⟨k', lv', kd', s', W, ly, v', y1, y2, y3, y4, y5, y6, y10⟩⟩
    · exfalso
      have q := nt_cf hK 120 j N0 N N' hI x6 x7 y1
      have : j = 120 := by omega
      subst this
      have q2 := q.2
      rw [Nat.sub_self] at q2
      cases q2
      exact x7 _ y2
  · rcases hy with ⟨y0, k', lv', kd', s', W, ly, j', v', N', y1, y2, y3, y4, y5, y6, y7, y8, y9, y10⟩ | ⟨y0, N', M', y1, y2⟩
    · exfalso
      have q := nt_cf hK 120 j' N0 N' N hI y7 y8 x1
      have : j' = 120 := by omega
      subst this
      have q2 := q.2
      rw [Nat.sub_self] at q2
      cases q2
      exact y8 _ x2
    · exact Or.inl ⟨x0, y0⟩
def fn_Cnt (P : Nat → Prop) (r : Nat) : Prop := ∃ L : List Nat, L.Nodup ∧ (∀ n, n ∈ L ↔ P n) ∧ L.length = r
theorem fn_cnt_u {P : Nat → Prop} {r r' : Nat} (h : fn_Cnt P r) (h' : fn_Cnt P r') : r' = r := by
  obtain ⟨L, a1, a2, rfl⟩ := h
  obtain ⟨L', b1, b2, rfl⟩ := h'
  exact Nat.le_antisymm (List.Nodup.length_le_of_subset b1 (fun x hx => (a2 x).mpr ((b2 x).mp hx))) (List.Nodup.length_le_of_subset a1 (fun x hx => (b2 x).mpr ((a2 x).mp hx)))
theorem fn_cnt_0 {P : Nat → Prop} (h : ∀ n, ¬ P n) : fn_Cnt P 0 := ⟨[], List.nodup_nil, fun n => ⟨(fun z => by cases z), fun z => absurd z (h n)⟩, rfl⟩
theorem fn_cnt_s {P P' : Nat → Prop} {r : Nat} (h : fn_Cnt P r) (hp : ∀ n, P' n ↔ P n) : fn_Cnt P' r := by
  obtain ⟨L, a1, a2, a3⟩ := h
  exact ⟨L, a1, fun n => (a2 n).trans (hp n).symm, a3⟩
theorem fn_cnt_a {P P' : Nat → Prop} {r a : Nat} (h : fn_Cnt P r) (ha : ¬ P a) (hp : ∀ n, P' n ↔ P n ∨ n = a) : fn_Cnt P' (r + 1) := by
  obtain ⟨L, a1, a2, a3⟩ := h
  refine ⟨a :: L, List.nodup_cons.mpr ⟨fun z => ha ((a2 a).mp z), a1⟩, fun n => ?_, by rw [List.length_cons, a3]⟩
  rw [List.mem_cons, hp, a2]
  exact Or.comm
theorem fn_cnt_le {P : Nat → Prop} {r b : Nat} (h : fn_Cnt P r) (hb : ∀ n, P n → n < b) : r ≤ b := by
  obtain ⟨L, a1, a2, rfl⟩ := h
  have := List.Nodup.length_le_of_subset a1 (l₂ := List.range b) (fun x hx => List.mem_range.mpr (hb x ((a2 x).mp hx)))
  rw [List.length_range] at this
  exact this
/-- at most 17 wires between 34 ports -/
theorem fn_17 {m : Nat → Option Nat} {V b : Nat} {F S : Nat → Int32} (h : ya_W m V F S) (hb : ∀ p q, m p = some q → p < b) : 2 * V ≤ b := by
  obtain ⟨a1, a2, a3, a4, a5⟩ := h
  have key : ∀ W, W ≤ V → fn_Cnt (fun p => ∃ w, w < W ∧ (F w = nI p ∨ S w = nI p) ∧ p < 2000) (2 * W) := by
    intro W
    induction W with
    | zero => intro _; exact fn_cnt_0 fun n z => by obtain ⟨w, hw, _⟩ := z; omega
    | succ W ih =>
      intro hW
      obtain ⟨f, g, e1, e2, e3⟩ := a3 W (by omega)
      have bf := a2 _ _ e3
      have bg := a2 _ _ (a1 _ _ e3).1
      have nfg := (a1 _ _ e3).2
      have c0 := ih (by omega)
      have no : ∀ x, (x = f ∨ x = g) → ¬ ∃ w, w < W ∧ (F w = nI x ∨ S w = nI x) ∧ x < 2000 := by
        rintro x hx ⟨w, hw, hh, _⟩
        have u := a5 w W (by omega) (by omega) (by omega)
        have u' := a5 W w (by omega) (by omega) (by omega)
        rw [e1, e2] at u u'
        rcases hx with rfl | rfl
        · rcases hh with hh | hh
          · exact u.1 hh
          · exact u'.2.1 hh.symm
        · rcases hh with hh | hh
          · exact u.2.1 hh
          · exact u.2.2 hh
      have c1 := fn_cnt_a (P' := fun p => (∃ w, w < W ∧ (F w = nI p ∨ S w = nI p) ∧ p < 2000) ∨ p = f) c0 (no f (Or.inl rfl)) (fun n => Iff.rfl)
      have c2 := fn_cnt_a (P' := fun p => ∃ w, w < W + 1 ∧ (F w = nI p ∨ S w = nI p) ∧ p < 2000) c1 (a := g) (fun z => by rcases z with z | z; exact no g (Or.inr rfl) z; exact nfg z.symm) (fun n => ?_)
      · exact c2
      · constructor
        · rintro ⟨w, hw, hh, hn⟩
          by_cases wW : w = W
          · rw [wW, e1, e2] at hh
            rcases hh with hh | hh
            · exact Or.inl (Or.inr (ya_nI bf hn hh).symm)
            · exact Or.inr (ya_nI bg hn hh).symm
          · exact Or.inl (Or.inl ⟨w, by omega, hh, hn⟩)
        · rintro ((⟨w, hw, hh, hn⟩ | rfl) | rfl)
          · exact ⟨w, by omega, hh, hn⟩
          · exact ⟨W, by omega, Or.inl e1, bf⟩
          · exact ⟨W, by omega, Or.inr e2, bg⟩
  refine fn_cnt_le (key V (Nat.le_refl V)) ?_
  rintro p ⟨w, hw, hh, hn⟩
  obtain ⟨f, g, e1, e2, e3⟩ := a3 w hw
  have e4 := (a1 _ _ e3).1
  rw [e1, e2] at hh
  rcases hh with hh | hh
  · rw [← ya_nI (a2 _ _ e3) hn hh]; exact hb _ _ e3
  · rw [← ya_nI (a2 _ _ e4) hn hh]; exact hb _ _ e4
def bs_kb (kx : Nat → Int32) : Nat → Nat := fun c => (kx c).toNatClampNeg
def i_Rel (k : Nat) (u : SX) (v : SY) : Prop := match u, v with
  | (fc, fk, fm, fd, fl, ft, fw, kx, wi, ki, go, ot, wa, se, qu), (gc, gw, rc, rw, gl, gs, ky, fi, sn, rk, rf, rs, me) => ∃ n V m, fc = nI n ∧ gc = nI n ∧ gw = nI V ∧ ky = kx ∧ bs_B n (bs_kb kx) m ∧ bs_K n (bs_kb kx) kx ∧ bs_X m wi ∧ ya_W m V fi sn ∧ (fk = 0 ∨ (fk = 1 ∧ xg_D (bs_KF (bs_kb kx)) (bs_N n m) fm fd fl ft ki go ot))
theorem i_up {k : Nat} {u : SX} {v : SY} (h : i_Rel k u v) : i_Rel (k + 3) u v := h
theorem fn_V {n V : Nat} {kb : Nat → Nat} {m : Nat → Option Nat} {F S : Nat → Int32} (hB : bs_B n kb m) (h : ya_W m V F S) : V ≤ 17 := by
  have := fn_17 (b := 34) h (fun p q e => by have := bs_v_lt (hB.2.2.1 p q e); have := hB.1; omega)
  omega
theorem fn_none : nt_Mt (fun _ => none) := fun _ _ e => nomatch e
section
variable {fc fk fm fd fl ft fw : Int32} {kx wi ki go ot wa se qu : Nat → Int32}
theorem fn_init : ∀ (d i : Nat) (wi' : Nat → Int32), i + d = 34 → (∀ p, p < i → wi' p = -1) → ∀ post : SX → Prop, (∀ wi', (∀ p, p < 34 → wi' p = -1) → post (fc, fk, fm, fd, fl, ft, fw, kx, wi', ki, go, ot, wa, se, qu)) → wX_init_76 post fc fk fm fd fl ft fw (d + 1) (nI i) kx wi' ki go ot wa se qu := by
  intro d
  induction d with
  | zero =>
    intro i wi' h1 h2 post H
    refine pk_le 34 i (fun _ => ?_) (fun h => by omega)
    obtain rfl : i = 34 := by omega
    exact H wi' h2
  | succ d ih =>
    intro i wi' h1 h2 post H
    refine pk_le 34 i (fun h => by omega) (fun h => ⟨vp_in_nI (by omega) (by decide), nm_r (e' := upd wi' i (-1)) (by rw [nI_clamp (by omega)]) (nm_r (nI_1 i) ?_)⟩)
    refine ih (i + 1) _ (by omega) ?_ post H
    intro p hp
    by_cases e : p = i
    · rw [e, pk_us]
    · rw [pk_un e]; exact h2 p (by omega)
theorem fn_clear : ∀ (d i : Nat) (wi' : Nat → Int32), i + d = 34 → (∀ p, p < i → wi' p = -1) → ∀ post : SX → Prop, (∀ wi', (∀ p, p < 34 → wi' p = -1) → post (fc, 0, fm, fd, fl, ft, fw, kx, wi', ki, go, ot, wa, se, qu)) → wX_clear_7 post fc fk fm fd fl ft fw (d + 1) (nI i) kx wi' ki go ot wa se qu := by
  intro d
  induction d with
  | zero =>
    intro i wi' h1 h2 post H
    refine pk_le 34 i (fun _ => ?_) (fun h => by omega)
    obtain rfl : i = 34 := by omega
    exact H wi' h2
  | succ d ih =>
    intro i wi' h1 h2 post H
    refine pk_le 34 i (fun h => by omega) (fun h => ⟨vp_in_nI (by omega) (by decide), nm_r (e' := upd wi' i (-1)) (by rw [nI_clamp (by omega)]) (nm_r (nI_1 i) ?_)⟩)
    refine ih (i + 1) _ (by omega) ?_ post H
    intro p hp
    by_cases e : p = i
    · rw [e, pk_us]
    · rw [pk_un e]; exact h2 p (by omega)
end
theorem fn_W0 {F S : Nat → Int32} : ya_W (fun _ => none) 0 F S := ⟨fn_none, (fun _ _ e => by cases e), (fun w hw => by omega), (fun _ _ e => by cases e), (fun w w' hw => by omega)⟩
theorem fn_B0 {kb : Nat → Nat} : bs_B 0 kb (fun _ => none) := ⟨by omega, fn_none, (fun _ _ e => by cases e), fun c hc => by omega⟩
theorem i_vc0 : wpX_init (fun u => wpY_init (fun v => i_Rel 0 u v)) := by
  refine ⟨35, ?_⟩
  refine fn_init 34 0 (fun _ => 0) rfl (fun p hp => by omega) _ fun wi' h => ?_
  exact ⟨0, 0, fun _ => none, rfl, rfl, rfl, rfl, fn_B0, fun c hc => by omega, fun p hp => h _ (bs_xi_lt hp), fn_W0, Or.inl rfl⟩
theorem i_vc_clear {k : Nat} {u : SX} {v : SY} (I : i_Rel k u v) (hk : k + 3 ≤ 1536) : wpX_clear (fun u' => wpY_clear (fun v' => i_Rel (k + 3) u' v') v) u := by
  obtain ⟨fc, fk, fm, fd, fl, ft, fw, kx, wi, ki, go, ot, wa, se, qu⟩ := u
  obtain ⟨gc, gw, rc, rw, gl, gs, ky, fi, sn, rk, rf, rs, me⟩ := v
  obtain ⟨n, V, m, h1, h2, h3, h4, h5⟩ := I
  refine ⟨35, ?_⟩
  refine fn_clear 34 0 wi rfl (fun p hp => by omega) _ fun wi' h => ?_
  exact ⟨0, 0, fun _ => none, rfl, rfl, rfl, h4, fn_B0, fun c hc => by omega, fun p hp => h _ (bs_xi_lt hp), fn_W0, Or.inl rfl⟩
theorem i_vc_cells {k : Nat} {u : SX} {v : SY} (I : i_Rel k u v) (hk : k + 3 ≤ 1536) : wpX_cells (fun r => wpY_cells (fun r' => r' = r ∧ i_Rel (k + 3) u v) v) u := by
  obtain ⟨fc, fk, fm, fd, fl, ft, fw, kx, wi, ki, go, ot, wa, se, qu⟩ := u
  obtain ⟨gc, gw, rc, rw, gl, gs, ky, fi, sn, rk, rf, rs, me⟩ := v
  refine ⟨?_, I⟩
  obtain ⟨n, V, m, h1, h2, h3, h4, h5⟩ := I
  rw [h1, h2]
end
section
/-! putting a net together: cell, join, cut -/
def bc_ok (n : Nat) (kb : Nat → Nat) (x : Int32) : Prop := ∃ P, P < 34 ∧ x = nI (bs_xi P) ∧ bs_v n kb P
theorem bc_ok_iff {n : Nat} {kb : Nat → Nat} {x P : Nat} (hP : P < 34) (hx : bs_xi P = x) : bc_ok n kb (nI x) ↔ bs_v n kb P := by
  constructor
  · rintro ⟨Q, hQ, e, hv⟩
    have b1 := bs_xi_lt hQ
    have b2 := bs_xi_lt hP
    rw [← hx, nI_eq (by omega) (by omega), bs_xi_inj hP hQ] at e
    rw [e]; exact hv
  · intro hv; exact ⟨P, hP, by rw [hx], hv⟩
theorem bc_ok_n {n : Nat} {kb : Nat → Nat} {x : Int32} (h : x < 0 ∨ ¬ x ≤ 33) : ¬ bc_ok n kb x := by
  rintro ⟨Q, hQ, e, hv⟩
  have b1 := bs_xi_lt hQ
  rw [e] at h
  rcases h with h | h
  · exact nI_pos (by omega) h
  · exact h (nI_le (b := 33) (by omega) (by omega))
section
variable {fc fk fm fd fl ft fw : Int32} {kx wi ki go ot wa se qu : Nat → Int32}
theorem bc_bad {post : Int32 → Prop} {n : Nat} {kb : Nat → Nat} {x : Int32} (hn : n ≤ 10) (hk : bs_K n kb kx) (hk2 : ∀ c, c < n → kb c ≤ 2) (h0 : bc_ok n kb x → post 0) (h1 : ¬ bc_ok n kb x → post 1) : wpX_badPort post (nI n, fk, fm, fd, fl, ft, fw, kx, wi, ki, go, ot, wa, se, qu) x := by
  refine br_c (fun h => h1 (bc_ok_n (Or.inl h))) (fun h => br_c (fun h33 => ?_) (fun h33 => h1 (bc_ok_n (Or.inr h33))))
  obtain ⟨j, hj, rfl⟩ := nI_of2 (M := 33) (n := 33) (by decide) h h33
  refine pk_lt j 30 (fun h3 => ?_) (fun h3 => ?_)
  · have ex : bs_xi (nt_pt (j / 3) (j % 3)) = j := by rw [bs_xi_pt]; omega
    have eP : nt_pt (j / 3) (j % 3) < 34 := by unfold nt_pt; omega
    rw [bc_ok_iff eP ex, bs_v_pt (by omega)] at h0 h1
    refine ⟨xa_3ne, ?_⟩
    rw [xa_rem3 (by omega), xa_div3 (by omega), nI_clamp (by omega)]
    refine pk_le n (j / 3) (fun h4 => h1 (by omega)) (fun h4 => ⟨xa_3ne, vp_in_nI (by omega) (by decide), ?_⟩)
    have k2 := hk2 (j / 3) h4
    rw [hk _ h4]
    refine pk_eq (kb (j / 3)) 2 (fun h5 => ⟨xa_3ne, ?_⟩) (fun h5 => h0 ⟨h4, Or.inr h5⟩)
    refine pk_le (j % 3) 0 (fun h6 => h0 ⟨h4, Or.inl (by omega)⟩) (fun h6 => h1 (by omega))
  · refine h0 ?_
    rw [bc_ok_iff (P := j - 30) (by omega) (by unfold bs_xi; rw [if_pos (by omega)]; omega)]
    exact Or.inl (by omega)
end
section
variable {gc gw rc rw gl gs : Int32} {ky fi sn rk rf rs me : Nat → Int32}
theorem bc_isPort {post : Int32 → Prop} {n : Nat} {kb : Nat → Nat} {x : Int32} (hn : n ≤ 10) (hk : bs_K n kb ky) (hk2 : ∀ c, c < n → kb c ≤ 2) (h0 : bc_ok n kb x → post 1) (h1 : ¬ bc_ok n kb x → post 0) : wpY_isPort post (nI n, gw, rc, rw, gl, gs, ky, fi, sn, rk, rf, rs, me) x := by
  refine br_c (fun h => h1 (bc_ok_n (Or.inl h))) (fun h => br_c (fun h33 => ?_) (fun h33 => h1 (bc_ok_n (Or.inr h33))))
  obtain ⟨j, hj, rfl⟩ := nI_of2 (M := 33) (n := 33) (by decide) h h33
  refine pk_lt 29 j (fun h3 => ?_) (fun h3 => ?_)
  · refine h0 ?_
    rw [bc_ok_iff (P := j - 30) (by omega) (by unfold bs_xi; rw [if_pos (by omega)]; omega)]
    exact Or.inl (by omega)
  · have ex : bs_xi (nt_pt (j / 3) (j % 3)) = j := by rw [bs_xi_pt]; omega
    have eP : nt_pt (j / 3) (j % 3) < 34 := by unfold nt_pt; omega
    rw [bc_ok_iff eP ex, bs_v_pt (by omega)] at h0 h1
    refine ⟨xa_3ne, ?_⟩
    rw [xa_rem3 (by omega), xa_div3 (by omega), nI_clamp (by omega)]
    refine pk_le n (j / 3) (fun h4 => h1 (by omega)) (fun h4 => ⟨xa_3ne, ?_⟩)
    refine pk_eq (j % 3) 0 (fun h6 => h0 ⟨h4, Or.inl h6⟩) (fun h6 => ⟨xa_3ne, vp_in_nI (by omega) (by decide), ?_⟩)
    have k2 := hk2 (j / 3) h4
    rw [hk _ h4]
    exact pk_le 2 (kb (j / 3)) (fun h5 => h1 (by omega)) (fun h5 => h0 ⟨h4, Or.inr (by omega)⟩)
theorem bc_inside {post : Int32 → Prop} {P : Nat} (hP : P < 34) (h : post (nI P)) : wpY_inside post (gc, gw, rc, rw, gl, gs, ky, fi, sn, rk, rf, rs, me) (nI (bs_xi P)) := by
  have b := bs_xi_lt hP
  by_cases h4 : P < 4
  · have e : bs_xi P = 30 + P := if_pos h4
    refine pk_le (bs_xi P) 29 (fun z => by omega) (fun _ => ?_)
    rw [e, show (30 : Int32) = nI 30 from rfl, pk_sub (by omega), show 30 + P - 30 = P by omega]; exact h
  · have e : bs_xi P = P - 4 := if_neg h4
    refine pk_le (bs_xi P) 29 (fun _ => ?_) (fun z => by omega)
    rw [e, show (4 : Int32) = nI 4 from rfl, nI_add, show P - 4 + 4 = P by omega]; exact h
theorem bc_outside {post : Int32 → Prop} {P : Nat} (hP : P < 34) (h : post (nI (bs_xi P))) : wpY_outside post (gc, gw, rc, rw, gl, gs, ky, fi, sn, rk, rf, rs, me) (nI P) := by
  by_cases h4 : P < 4
  · have e : bs_xi P = 30 + P := if_pos h4
    refine pk_le 4 P (fun z => by omega) (fun _ => ?_)
    rw [e] at h
    rw [show (30 : Int32) = nI 30 from rfl, nI_add, show P + 30 = 30 + P by omega]; exact h
  · have e : bs_xi P = P - 4 := if_neg h4
    refine pk_le 4 P (fun _ => ?_) (fun z => by omega)
    rw [e] at h
    rw [show (4 : Int32) = nI 4 from rfl, pk_sub (by omega)]; exact h
theorem bc_woL {post : Int32 → Prop} {m : Nat → Option Nat} {W p : Nat} (h : ya_W m W fi sn) (hp : p < 2000) (hW : W ≤ 20) (h0 : m p = none → post (-1)) (h1 : ∀ q w, m p = some q → w < W → ((fi w = nI p ∧ sn w = nI q) ∨ (fi w = nI q ∧ sn w = nI p)) → post (nI w)) :
    ∀ (f i : Nat), W + 1 ≤ f + i → i ≤ W → (∀ w, w < i → fi w ≠ nI p ∧ sn w ≠ nI p) → wY_wireOf_2 post (nI p) gc (nI W) rc rw gl gs ky fi sn rk rf rs me f (nI i) := by
  obtain ⟨a1, a2, a3, a4, a5⟩ := id h
  intro f
  induction f with
  | zero => intro i h1 h2; omega
  | succ f ih =>
    intro i l1 l2 l3
    refine pk_le W i (fun z => ?_) (fun z => ?_)
    · refine h0 ?_
      cases e : m p with
      | none => rfl
      | some q =>
        exfalso
        obtain ⟨w, hw, hh⟩ := a4 p q e
        have := l3 w (by omega)
        rcases hh with ⟨x, _⟩ | ⟨_, x⟩
        · exact this.1 x
        · exact this.2 x
    · have ci : (nI i).toNatClampNeg = i := nI_clamp (by omega)
      obtain ⟨x, y, e1, e2, e3⟩ := a3 i z
      have bx := a2 _ _ e3
      have e4 := (a1 _ _ e3).1
      have by' := a2 _ _ e4
      refine ⟨vp_in_nI (by omega) (by decide), ?_⟩
      rw [ci, e1]
      by_cases q : x = p
      · subst q
        exact br_t rfl (h1 y i e3 z (Or.inl ⟨e1, e2⟩))
      · refine br_f (fun t => q (ya_nI bx hp t)) ⟨vp_in_nI (by omega) (by decide), ?_⟩
        rw [e2]
        by_cases q2 : y = p
        · subst q2
          exact br_t rfl (h1 x i e4 z (Or.inr ⟨e1, e2⟩))
        · refine br_f (fun t => q2 (ya_nI by' hp t)) (nm_r (nI_1 i) (ih (i + 1) (by omega) (by omega) ?_))
          intro w hw
          by_cases wi : w = i
          · rw [wi, e1, e2]
            exact ⟨fun t => q (ya_nI bx hp t), fun t => q2 (ya_nI by' hp t)⟩
          · exact l3 w (by omega)
theorem bc_wo {post : Int32 → Prop} {m : Nat → Option Nat} {W p : Nat} (h : ya_W m W fi sn) (hp : p < 2000) (hW : W ≤ 20) (h0 : m p = none → post (-1)) (h1 : ∀ q w, m p = some q → w < W → ((fi w = nI p ∧ sn w = nI q) ∨ (fi w = nI q ∧ sn w = nI p)) → post (nI w)) : wpY_wireOf post (gc, nI W, rc, rw, gl, gs, ky, fi, sn, rk, rf, rs, me) (nI p) :=
  ⟨W + 1, bc_woL h hp hW h0 h1 (W + 1) 0 (by omega) (by omega) (fun w hw => by omega)⟩
end
theorem bc_B_cell {n j : Nat} {kx : Nat → Int32} {m : Nat → Option Nat} (hn : n < 10) (hj : j ≤ 2) (h : bs_B n (bs_kb kx) m) (hk : bs_K n (bs_kb kx) kx) : bs_B (n + 1) (bs_kb (upd kx n (nI j))) m ∧ bs_K (n + 1) (bs_kb (upd kx n (nI j))) (upd kx n (nI j)) := by
  have e : ∀ c, c < n → bs_kb (upd kx n (nI j)) c = bs_kb kx c := fun c hc => by unfold bs_kb; rw [pk_un (by omega)]
  have e2 : bs_kb (upd kx n (nI j)) n = j := by unfold bs_kb; rw [pk_us, nI_clamp (by omega)]
  obtain ⟨h1, h2, h3, h4⟩ := h
  refine ⟨⟨by omega, h2, ?_, ?_⟩, ?_⟩
  · intro p q z
    rcases h3 p q z with y | ⟨c, s, y1, y2, y3, y4⟩
    · exact Or.inl y
    · exact Or.inr ⟨c, s, y1, by omega, by rw [e c y2]; exact y3, y4⟩
  · intro c hc
    by_cases z : c = n
    · rw [z, e2]; exact hj
    · rw [e c (by omega)]; exact h4 c (by omega)
  · intro c hc
    by_cases z : c = n
    · rw [z, e2, pk_us]
    · rw [e c (by omega), pk_un z]; exact hk c (by omega)
theorem i_vc_cell {k : Nat} {u : SX} {v : SY} (I : i_Rel k u v) (hk : k + 3 ≤ 1536) (v1 : Int32) : wpX_cell (fun r u' => wpY_cell (fun r' v' => r' = r ∧ i_Rel (k + 3) u' v') v v1) u v1 := by
  obtain ⟨fc, fk, fm, fd, fl, ft, fw, kx, wi, ki, go, ot, wa, se, qu⟩ := u
  obtain ⟨gc, gw, rc, rw, gl, gs, ky, fi, sn, rk, rf, rs, me⟩ := v
  obtain ⟨n, V, m, rfl, rfl, rfl, rfl, hB, hK, hX, hY, hf⟩ := id I
  have hn := hB.1
  refine br_c (fun h => br_t h ⟨rfl, I⟩) (fun h => br_c (fun h2 => ?_) (fun h2 => br_f h (br_f h2 ⟨rfl, I⟩)))
  obtain ⟨j, hj, rfl⟩ := nI_of2 (M := 2) (n := 2) (by decide) h h2
  have ci : (nI n).toNatClampNeg = n := nI_clamp (by omega)
  refine pk_eq n 10 (fun h10 => ?_) (fun h10 => ?_)
  · refine br_f h (br_t h2 (br_t (by rw [h10]; rfl) ⟨rfl, I⟩))
  · have q : ¬ nI n = 10 := fun z => h10 ((nI_eq (b := 10) (by omega) (by omega)).mp z)
    obtain ⟨b1, b2⟩ := bc_B_cell (m := m) (by omega) hj hB hK
    refine ⟨vp_in_nI (by omega) (by decide), nm_r (e' := upd ky n (nI j)) (by rw [ci]) (nm_r (nI_1 n) ?_)⟩
    refine br_f h (br_t h2 (br_f q ⟨vp_in_nI (by omega) (by decide), nm_r (e' := upd ky n (nI j)) (by rw [ci]) (nm_r (nI_1 n) ⟨rfl, ?_⟩)⟩))
    exact ⟨n + 1, V, m, rfl, rfl, rfl, rfl, b1, b2, hX, hY, Or.inl rfl⟩
end
section
/-! join and cut -/
theorem bd_ex_m1 {z : Option Nat} (hz : ∀ q, z = some q → q < 34) : bs_ex z = -1 ↔ z = none := by
  cases z with
  | none => exact ⟨fun _ => rfl, fun _ => rfl⟩
  | some q =>
    have := bs_xi_lt (hz q rfl)
    refine ⟨fun e => absurd e (xa_m1 (n := bs_xi q) (by omega)), fun e => nomatch e⟩
theorem bd_v34 {n : Nat} {kb : Nat → Nat} {p : Nat} (hn : n ≤ 10) (h : bs_v n kb p) : p < 34 := by
  have := bs_v_lt h; omega
theorem bd_join {n P Q V : Nat} {kb : Nat → Nat} {m : Nat → Option Nat} {wi fi sn : Nat → Int32} (hB : bs_B n kb m) (hX : bs_X m wi) (hY : ya_W m V fi sn) (hP : P < 34) (hQ : Q < 34) (vP : bs_v n kb P) (vQ : bs_v n kb Q) (hPQ : P ≠ Q) (eP : m P = none) (eQ : m Q = none) : bs_B n kb (nt_ad P Q m) ∧ bs_X (nt_ad P Q m) (upd (upd wi (bs_xi P) (nI (bs_xi Q))) (bs_xi Q) (nI (bs_xi P))) ∧ ya_W (nt_ad P Q m) (V + 1) (upd fi V (nI P)) (upd sn V (nI Q)) := by
  obtain ⟨h1, h2, h3, h4⟩ := hB
  have fp : nt_ad P Q m P = some Q := by unfold nt_ad; rw [if_pos rfl]
  have fq : nt_ad P Q m Q = some P := by unfold nt_ad; rw [if_neg (Ne.symm hPQ), if_pos rfl]
  have fx : ∀ z, z ≠ P → z ≠ Q → nt_ad P Q m z = m z := by
    intro z h1 h2; unfold nt_ad; rw [if_neg h1, if_neg h2]
  refine ⟨⟨h1, nt_mt_ad h2 hPQ eP eQ, ?_, h4⟩, ?_, ya_add hY (by omega) (by omega) hPQ eP eQ⟩
  · intro p q e
    by_cases x1 : p = P
    · rw [x1]; exact vP
    · by_cases x2 : p = Q
      · rw [x2]; exact vQ
      · rw [fx p x1 x2] at e; exact h3 p q e
  · intro p hp
    by_cases x2 : p = Q
    · rw [x2, pk_us, fq]; rfl
    · rw [pk_un (by rw [Ne, bs_xi_inj hp hQ]; exact x2)]
      by_cases x1 : p = P
      · rw [x1, pk_us, fp]; rfl
      · rw [pk_un (by rw [Ne, bs_xi_inj hp hP]; exact x1), fx p x1 x2]; exact hX p hp
theorem bd_cut {n P Q V w : Nat} {kb : Nat → Nat} {m : Nat → Option Nat} {wi fi sn : Nat → Int32} (hB : bs_B n kb m) (hX : bs_X m wi) (hY : ya_W m (V + 1) fi sn) (hP : P < 34) (hQ : Q < 34) (e : m P = some Q) (hw : w < V + 1) (hh : (fi w = nI P ∧ sn w = nI Q) ∨ (fi w = nI Q ∧ sn w = nI P)) : bs_B n kb (nt_fz P Q m) ∧ bs_X (nt_fz P Q m) (upd (upd wi (bs_xi P) (-1)) (bs_xi Q) (-1)) ∧ ya_W (nt_fz P Q m) V (upd fi w (fi V)) (upd sn w (sn V)) := by
  obtain ⟨h1, h2, h3, h4⟩ := hB
  have fz := ya_fz h2 e
  refine ⟨⟨h1, nt_mt_fz h2 (h2 _ _ e).2, ?_, h4⟩, ?_, ya_take hY hw e hh⟩
  · intro p q z
    rw [fz] at z
    split at z
    · cases z
    · exact h3 p q z
  · intro p hp
    rw [fz]
    by_cases x2 : p = Q
    · rw [x2, pk_us, if_pos (Or.inr rfl)]; rfl
    · rw [pk_un (by rw [Ne, bs_xi_inj hp hQ]; exact x2)]
      by_cases x1 : p = P
      · rw [x1, pk_us, if_pos (Or.inl rfl)]; rfl
      · rw [pk_un (by rw [Ne, bs_xi_inj hp hP]; exact x1), if_neg (by omega)]; exact hX p hp
theorem i_vc_join {k : Nat} {u : SX} {v : SY} (I : i_Rel k u v) (hk : k + 3 ≤ 1536) (v1 : Int32) (v2 : Int32) : wpX_join (fun r u' => wpY_join (fun r' v' => r' = r ∧ i_Rel (k + 3) u' v') v v1 v2) u v1 v2 := by
  obtain ⟨fc, fk, fm, fd, fl, ft, fw, kx, wi, ki, go, ot, wa, se, qu⟩ := u
  obtain ⟨gc, gw, rc, rw, gl, gs, ky, fi, sn, rk, rf, rs, me⟩ := v
  obtain ⟨n, V, m, rfl, rfl, rfl, rfl, hB, hK, hX, hY, hf⟩ := id I
  have hn := hB.1
  have hk2 := hB.2.2.2
  have hV := fn_V hB hY
  have b34 : ∀ p q, m p = some q → q < 34 := fun p q e => bd_v34 hn (hB.2.2.1 _ _ (hB.2.1 _ _ e).1)
  unfold wpX_join
  refine bc_bad hn hK hk2 (fun o1 => br_t rfl ?_) (fun o1 => br_f (by decide) ?_)
  · refine bc_bad hn hK hk2 (fun o2 => br_t rfl ?_) (fun o2 => br_f (by decide) ?_)
    · obtain ⟨P, hP, rfl, vP⟩ := id o1
      obtain ⟨Q, hQ, rfl, vQ⟩ := id o2
      have bP := bs_xi_lt hP
      have bQ := bs_xi_lt hQ
      have cP : (nI (bs_xi P)).toNatClampNeg = bs_xi P := nI_clamp (by omega)
      have cQ : (nI (bs_xi Q)).toNatClampNeg = bs_xi Q := nI_clamp (by omega)
      have iP : vp_in (nI (bs_xi P)) 34 := vp_in_nI bP (by decide)
      have iQ : vp_in (nI (bs_xi Q)) 34 := vp_in_nI bQ (by decide)
      have eqv : nI (bs_xi P) = nI (bs_xi Q) ↔ P = Q := by rw [nI_eq (by omega) (by omega), bs_xi_inj hP hQ]
      have yes : ∀ post : Int32 → SY → Prop, (nI (bs_xi P) = nI (bs_xi Q) → post (-1) (nI n, nI V, rc, rw, gl, gs, ky, fi, sn, rk, rf, rs, me)) → (¬ nI (bs_xi P) = nI (bs_xi Q) → wpY_inside (fun r_32 => (wpY_inside (fun r_46 => (wpY_wireOf (fun r_60 => (((0 ≤ r_60 → (post (-4) (nI n, nI V, rc, rw, gl, gs, ky, fi, sn, rk, rf, rs, me))) ∧ (¬ 0 ≤ r_60 → (wpY_wireOf (fun r_75 => (((r_75 < 0 → (vp_in (nI V) 20 ∧ ∀ a_firsts_91 : Nat → Int32, a_firsts_91 = upd fi (nI V).toNatClampNeg r_32 → (vp_in (nI V) 20 ∧ ∀ a_seconds_93 : Nat → Int32, a_seconds_93 = upd sn (nI V).toNatClampNeg r_46 → (∀ f_wires_94 : Int32, f_wires_94 = nI V + 1 → (post 0 (nI n, f_wires_94, rc, rw, gl, gs, ky, a_firsts_91, a_seconds_93, rk, rf, rs, me)))))) ∧ (¬ r_75 < 0 → (post (-4) (nI n, nI V, rc, rw, gl, gs, ky, fi, sn, rk, rf, rs, me)))))) (nI n, nI V, rc, rw, gl, gs, ky, fi, sn, rk, rf, rs, me) r_46))))) (nI n, nI V, rc, rw, gl, gs, ky, fi, sn, rk, rf, rs, me) r_32)) (nI n, nI V, rc, rw, gl, gs, ky, fi, sn, rk, rf, rs, me) (nI (bs_xi Q)))) (nI n, nI V, rc, rw, gl, gs, ky, fi, sn, rk, rf, rs, me) (nI (bs_xi P))) → wpY_join post (nI n, nI V, rc, rw, gl, gs, ky, fi, sn, rk, rf, rs, me) (nI (bs_xi P)) (nI (bs_xi Q)) := by
        intro post A B
        unfold wpY_join
        refine bc_isPort hn hK hk2 (fun _ => br_f (by decide) ?_) (fun z => absurd o1 z)
        refine bc_isPort hn hK hk2 (fun _ => br_f (by decide) ?_) (fun z => absurd o2 z)
        exact br_c A B
      by_cases PQ : P = Q
      · have e := eqv.mpr PQ
        refine br_t e (yes _ (fun _ => ⟨rfl, I⟩) (fun z => absurd e z))
      · have e : ¬ nI (bs_xi P) = nI (bs_xi Q) := fun z => PQ (eqv.mp z)
        refine br_f e ⟨iP, ?_⟩
        rw [cP, hX P hP]
        cases mP : m P with
        | some p' =>
          refine br_f (fun z => by have := (bd_ex_m1 (fun q z => by cases z; exact b34 _ _ mP)).mp z; cases this) ?_
          refine yes _ (fun z => absurd z e) (fun _ => bc_inside hP (bc_inside hQ (bc_wo hY (by omega) (by omega) (fun z => by rw [mP] at z; cases z) (fun q w _ _ _ => br_t (nI_pos' (by omega)) ⟨rfl, I⟩))))
        | none =>
          refine br_t rfl ⟨iQ, ?_⟩
          rw [cQ, hX Q hQ]
          cases mQ : m Q with
          | some q' =>
            refine br_f (fun z => by have := (bd_ex_m1 (fun q z => by cases z; exact b34 _ _ mQ)).mp z; cases this) ?_
            refine yes _ (fun z => absurd z e) (fun _ => bc_inside hP (bc_inside hQ (bc_wo hY (by omega) (by omega) (fun _ => br_f (by decide) ?_) (fun q w z => by rw [mP] at z; cases z))))
            refine bc_wo hY (by omega) (by omega) (fun z => by rw [mQ] at z; cases z) (fun q w _ _ _ => br_f (nI_pos (by omega)) ⟨rfl, I⟩)
          | none =>
            obtain ⟨n1, n2, n3⟩ := bd_join hB hX hY hP hQ vP vQ PQ mP mQ
            refine br_t rfl ⟨iP, nm_e ⟨iQ, nm_e ?_⟩⟩
            refine yes _ (fun z => absurd z e) (fun _ => bc_inside hP (bc_inside hQ (bc_wo hY (by omega) (by omega) (fun _ => br_f (by decide) ?_) (fun q w z => by rw [mP] at z; cases z))))
            refine bc_wo hY (by omega) (by omega) (fun _ => br_t (by decide) ?_) (fun q w z => by rw [mQ] at z; cases z)
            have cV : (nI V).toNatClampNeg = V := nI_clamp (by omega)
            refine ⟨vp_in_nI (by omega) (by decide), nm_r (e' := upd fi V (nI P)) (by rw [cV]) ⟨vp_in_nI (by omega) (by decide), nm_r (e' := upd sn V (nI Q)) (by rw [cV]) (nm_r (nI_1 V) ⟨rfl, ?_⟩)⟩⟩
            exact ⟨n, V + 1, _, rfl, rfl, rfl, rfl, n1, hK, n2, n3, Or.inl rfl⟩
    · unfold wpY_join
      refine bc_isPort hn hK hk2 (fun _ => br_f (by decide) ?_) (fun z => absurd o1 z)
      exact bc_isPort hn hK hk2 (fun z => absurd z o2) (fun _ => br_t rfl ⟨rfl, I⟩)
  · unfold wpY_join
    exact bc_isPort hn hK hk2 (fun z => absurd z o1) (fun _ => br_t rfl ⟨rfl, I⟩)
theorem i_vc_cut {k : Nat} {u : SX} {v : SY} (I : i_Rel k u v) (hk : k + 3 ≤ 1536) (v1 : Int32) : wpX_cut (fun r u' => wpY_cut (fun r' v' => r' = r ∧ i_Rel (k + 3) u' v') v v1) u v1 := by
  obtain ⟨fc, fk, fm, fd, fl, ft, fw, kx, wi, ki, go, ot, wa, se, qu⟩ := u
  obtain ⟨gc, gw, rc, rw, gl, gs, ky, fi, sn, rk, rf, rs, me⟩ := v
  obtain ⟨n, V, m, rfl, rfl, rfl, rfl, hB, hK, hX, hY, hf⟩ := id I
  have hn := hB.1
  have hk2 := hB.2.2.2
  have hV := fn_V hB hY
  have b34 : ∀ p q, m p = some q → q < 34 := fun p q e => bd_v34 hn (hB.2.2.1 _ _ (hB.2.1 _ _ e).1)
  unfold wpX_cut
  refine bc_bad hn hK hk2 (fun o1 => br_t rfl ?_) (fun o1 => br_f (by decide) ?_)
  · obtain ⟨P, hP, rfl, vP⟩ := id o1
    have bP := bs_xi_lt hP
    have cP : (nI (bs_xi P)).toNatClampNeg = bs_xi P := nI_clamp (by omega)
    have iP : vp_in (nI (bs_xi P)) 34 := vp_in_nI bP (by decide)
    refine ⟨iP, nm_r (e' := bs_ex (m P)) (by rw [cP]; exact hX P hP) ?_⟩
    cases mP : m P with
    | none =>
      refine br_t rfl ?_
      unfold wpY_cut
      refine bc_isPort hn hK hk2 (fun _ => br_f (by decide) ?_) (fun z => absurd o1 z)
      refine bc_inside hP (bc_wo hY (by omega) (by omega) (fun _ => br_f (by decide) ⟨rfl, I⟩) (fun q w z => by rw [mP] at z; cases z))
    | some Q =>
      have hQ := b34 _ _ mP
      have bQ := bs_xi_lt hQ
      have cQ : (nI (bs_xi Q)).toNatClampNeg = bs_xi Q := nI_clamp (by omega)
      have nPQ := (hB.2.1 _ _ mP).2
      refine br_f (xa_m1 (n := bs_xi Q) (by omega)) ⟨iP, nm_r (e' := upd wi (bs_xi P) (-1)) (by rw [cP]) ⟨vp_in_nI bQ (by decide), nm_r (e' := upd (upd wi (bs_xi P) (-1)) (bs_xi Q) (-1)) (by show upd _ (nI (bs_xi Q)).toNatClampNeg _ = _; rw [cQ]) ?_⟩⟩
      unfold wpY_cut
      refine bc_isPort hn hK hk2 (fun _ => br_f (by decide) ?_) (fun z => absurd o1 z)
      refine bc_inside hP (bc_wo hY (by omega) (by omega) (fun z => by rw [mP] at z; cases z) (fun q w z hw hh => ?_))
      rw [mP] at z; cases z
      obtain ⟨V, rfl⟩ : ∃ V', V = V' + 1 := ⟨V - 1, by omega⟩
      have cw : (nI w).toNatClampNeg = w := nI_clamp (by omega)
      have cV : (nI V).toNatClampNeg = V := nI_clamp (by omega)
      have iw : vp_in (nI w) 20 := vp_in_nI (by omega) (by decide)
      obtain ⟨n1, n2, n3⟩ := bd_cut hB hX hY hP hQ mP hw hh
      have fin : wY_cut_54 (fun r' v' => r' = bs_ex (some Q) ∧ i_Rel (k + 3) (nI n, 0, fm, fd, fl, ft, fw, ky, upd (upd wi (bs_xi P) (-1)) (bs_xi Q) (-1), ki, go, ot, wa, se, qu) v') (nI w) (nI Q) (nI n) (nI (V + 1)) rc rw gl gs ky fi sn rk rf rs me := by
        unfold wY_cut_54
        refine nm_r (nI_pred V) ⟨vp_in_nI (by omega) (by decide), iw, nm_r (e' := upd fi w (fi V)) (by rw [cw, cV]) ⟨vp_in_nI (by omega) (by decide), iw, nm_r (e' := upd sn w (sn V)) (by rw [cw, cV]) ?_⟩⟩
        refine bc_outside hQ ⟨rfl, ?_⟩
        exact ⟨n, V, _, rfl, rfl, rfl, rfl, n1, hK, n2, n3, Or.inl rfl⟩
      refine br_t (nI_pos' (by omega)) ⟨iw, ?_⟩
      rw [cw]
      rcases hh with ⟨e1, e2⟩ | ⟨e1, e2⟩
      · refine br_t e1 ⟨iw, ?_⟩
        rw [e2]; exact fin
      · refine br_f ?_ ⟨iw, ?_⟩
        · rw [e1]; intro z; exact nPQ (ya_nI (by omega) (by omega) z).symm
        · rw [e1]; exact fin
  · unfold wpY_cut
    exact bc_isPort hn hK hk2 (fun z => absurd z o1) (fun _ => br_t rfl ⟨rfl, I⟩)
end
section
/-! facing -/
def be_P (m : Nat → Option Nat) (c : Nat) : Prop := ∃ d, m (nt_pt c 0) = some (nt_pt d 0) ∧ c < d
section
variable {fc fk fm fd fl ft fw : Int32} {kx wi ki go ot wa se qu : Nat → Int32}
theorem be_X {post : Int32 → Prop} {n : Nat} {kb : Nat → Nat} {m : Nat → Option Nat} (hB : bs_B n kb m) (hX : bs_X m wi) (H : ∀ r, fn_Cnt (be_P m) r → post (nI r)) :
    ∀ (f i r : Nat), n + 1 ≤ f + i → i ≤ n → fn_Cnt (fun c => c < i ∧ be_P m c) r → wX_facing_4 post (nI n) fk fm fd fl ft fw kx wi ki go ot wa se qu f (nI r) (nI i) := by
  obtain ⟨hn, hm, hv, hk⟩ := hB
  intro f
  induction f with
  | zero => intro i r h1 h2; omega
  | succ f ih =>
    intro i r h1 h2 h3
    refine pk_le n i (fun h => ?_) (fun h => ?_)
    · refine H r (fn_cnt_s h3 fun c => ⟨fun z => ⟨?_, z⟩, fun z => z.2⟩)
      obtain ⟨d, e, _⟩ := z
      have := (bs_v_pt (by decide)).mp (hv _ _ e)
      omega
    · have rd : wi (3 * nI i).toNatClampNeg = bs_ex (m (nt_pt i 0)) := by
        rw [xa_mul3, nI_clamp (by omega), ← hX _ (by unfold nt_pt; omega), bs_xi_pt]; rfl
      have no : ¬ be_P m i → wX_facing_4 post (nI n) fk fm fd fl ft fw kx wi ki go ot wa se qu f (nI r) (nI (i + 1)) := by
        intro z
        refine ih (i + 1) r (by omega) (by omega) (fn_cnt_s h3 fun c => ?_)
        constructor
        · rintro ⟨a, b⟩
          by_cases ci : c = i
          · rw [ci] at b; exact absurd b z
          · exact ⟨by omega, b⟩
        · rintro ⟨a, b⟩; exact ⟨by omega, b⟩
      refine ⟨by rw [xa_mul3]; exact vp_in_nI (by omega) (by decide), nm_r rd ?_⟩
      cases e : m (nt_pt i 0) with
      | none => exact br_t rfl (nm_r (nI_1 i) (no fun z => by obtain ⟨d, y, _⟩ := z; rw [e] at y; cases y))
      | some q =>
        have hq : bs_v n kb q := hv _ _ (hm _ _ e).1
        have hq34 := bd_v34 hn hq
        have bq := bs_xi_lt hq34
        rw [show bs_ex (some q) = nI (bs_xi q) from rfl]
        refine br_f (xa_m1 (n := bs_xi q) (by omega)) ?_
        refine pk_le 30 (bs_xi q) (fun h30 => ?_) (fun h30 => ⟨xa_3ne, ?_⟩)
        · refine nm_r (nI_1 i) (no fun z => ?_)
          obtain ⟨d, y, _⟩ := z
          rw [e] at y
          cases y
          rw [bs_xi_pt] at h30
          have := (bs_v_pt (by decide)).mp hq
          omega
        · rw [xa_rem3 (by omega)]
          have h4 : ¬ q < 4 := fun z => by have : bs_xi q = 30 + q := if_pos z; omega
          obtain ⟨d, t, ht, rfl⟩ : ∃ c s, s < 3 ∧ q = nt_pt c s := by
            rcases nt_port q with z | z
            · exact absurd z h4
            · exact z
          have hd10 : d < n := ((bs_v_pt ht).mp hq).1
          rw [bs_xi_pt]
          refine pk_eq ((3 * d + t) % 3) 0 (fun ht0 => ?_) (fun ht0 => ?_)
          · obtain rfl : t = 0 := by omega
            rw [xa_mul3]
            refine pk_le (3 * d + 0) (3 * i) (fun hh => ?_) (fun hh => ?_)
            · refine nm_r (nI_1 i) (no fun z => ?_)
              obtain ⟨d', y, hd⟩ := z
              rw [e] at y
              have := (nt_pteq (by decide) (by decide)).mp (Option.some.inj y)
              omega
            · refine nm_r (nI_1 r) (nm_r (nI_1 i) (ih (i + 1) (r + 1) (by omega) (by omega) (fn_cnt_a (a := i) h3 (fun z => by omega) fun c => ?_)))
              constructor
              · rintro ⟨a, b⟩
                by_cases ci : c = i
                · exact Or.inr ci
                · exact Or.inl ⟨by omega, b⟩
              · rintro (⟨a, b⟩ | rfl)
                · exact ⟨by omega, b⟩
                · exact ⟨by omega, d, e, by omega⟩
          · refine nm_r (nI_1 i) (no fun z => ?_)
            obtain ⟨d', y, hd⟩ := z
            rw [e] at y
            have := (nt_pteq ht (by decide)).mp (Option.some.inj y)
            omega
end
section
variable {gc gw rc rw gl gs : Int32} {ky fi sn rk rf rs me : Nat → Int32}
theorem be_Y {post : Int32 → Prop} {V : Nat} {m : Nat → Option Nat} (hY : ya_W m V fi sn) (hV : V ≤ 20) (H : ∀ r, fn_Cnt (be_P m) r → post (nI r)) :
    ∀ (f i r : Nat), V + 1 ≤ f + i → i ≤ V → fn_Cnt (fun c => ∃ w d, w < i ∧ m (nt_pt c 0) = some (nt_pt d 0) ∧ c < d ∧ ((fi w = nI (nt_pt c 0) ∧ sn w = nI (nt_pt d 0)) ∨ (fi w = nI (nt_pt d 0) ∧ sn w = nI (nt_pt c 0)))) r → wY_facing_4 post gc (nI V) rc rw gl gs ky fi sn rk rf rs me f (nI r) (nI i) := by
  obtain ⟨a1, a2, a3, a4, a5⟩ := id hY
  intro f
  induction f with
  | zero => intro i r h1 h2; omega
  | succ f ih =>
    intro i r h1 h2 h3
    refine pk_le V i (fun h => ?_) (fun h => ?_)
    · refine H r (fn_cnt_s h3 fun c => ⟨?_, ?_⟩)
      · rintro ⟨d, e, hd⟩
        obtain ⟨w, hw, hh⟩ := a4 _ _ e
        exact ⟨w, d, by omega, e, hd, hh⟩
      · rintro ⟨w, d, _, e, hd, _⟩
        exact ⟨d, e, hd⟩
    · have ci : (nI i).toNatClampNeg = i := nI_clamp (by omega)
      obtain ⟨x, y, e1, e2, e3⟩ := a3 i h
      have bx := a2 _ _ e3
      have e4 := (a1 _ _ e3).1
      have by' := a2 _ _ e4
      have no : ¬ (xa_hd x ∧ xa_hd y) → wY_facing_4 post gc (nI V) rc rw gl gs ky fi sn rk rf rs me f (nI r) (nI (i + 1)) := by
        intro hn
        refine ih (i + 1) r (by omega) (by omega) (fn_cnt_s h3 fun c => ⟨?_, ?_⟩)
        · rintro ⟨w, d, hw, f3, hd, hh⟩
          by_cases wi : w = i
          · rw [wi, e1, e2] at hh
            have b1 := a2 _ _ f3
            have b2 := a2 _ _ (a1 _ _ f3).1
            exfalso
            rcases hh with ⟨g1, g2⟩ | ⟨g1, g2⟩
            · exact hn ⟨by rw [ya_nI bx b1 g1]; exact xa_pt_hd c, by rw [ya_nI by' b2 g2]; exact xa_pt_hd d⟩
            · exact hn ⟨by rw [ya_nI bx b2 g1]; exact xa_pt_hd d, by rw [ya_nI by' b1 g2]; exact xa_pt_hd c⟩
          · exact ⟨w, d, by omega, f3, hd, hh⟩
        · rintro ⟨w, d, hw, f3, hd, hh⟩
          exact ⟨w, d, by omega, f3, hd, hh⟩
      refine ⟨vp_in_nI (by omega) (by decide), ?_⟩
      rw [ci, e1]
      refine yd_isHead bx (fun hx => br_f (by decide) ⟨vp_in_nI (by omega) (by decide), ?_⟩) (fun hx => br_t rfl (nm_r (nI_1 i) (no fun z => hx z.1)))
      rw [e2]
      refine yd_isHead by' (fun hy => br_f (by decide) (nm_r (nI_1 r) (nm_r (nI_1 i) ?_))) (fun hy => br_t rfl (nm_r (nI_1 i) (no fun z => hy z.2)))
      have g1 := xa_hd_pt hx
      have g2 := xa_hd_pt hy
      generalize (x - 4) / 3 = c at g1
      generalize (y - 4) / 3 = d at g2
      subst g1 g2
      have ncd : c ≠ d := fun z => (a1 _ _ e3).2 (by rw [z])
      obtain ⟨p, q, hpq, m1, m2⟩ : ∃ p q, p < q ∧ m (nt_pt p 0) = some (nt_pt q 0) ∧ ((fi i = nI (nt_pt p 0) ∧ sn i = nI (nt_pt q 0)) ∨ (fi i = nI (nt_pt q 0) ∧ sn i = nI (nt_pt p 0))) := by
        by_cases z : c < d
        · exact ⟨c, d, z, e3, Or.inl ⟨e1, e2⟩⟩
        · exact ⟨d, c, by omega, e4, Or.inr ⟨e1, e2⟩⟩
      refine ih (i + 1) (r + 1) (by omega) (by omega) (fn_cnt_a (a := p) h3 ?_ fun x => ⟨?_, ?_⟩)
      · rintro ⟨w, d', hw, f3, hd, hh⟩
        have u := a5 w i (by omega) (by omega) (by omega)
        have u' := a5 i w (by omega) (by omega) (by omega)
        have nn : (fi w ≠ nI (nt_pt p 0) ∧ sn w ≠ nI (nt_pt p 0)) := by
          rcases m2 with ⟨g1, g2⟩ | ⟨g1, g2⟩ <;> rw [g1, g2] at u u'
          · exact ⟨u.1, Ne.symm u'.2.1⟩
          · exact ⟨u.2.1, u.2.2⟩
        rcases hh with ⟨g1, g2⟩ | ⟨g1, g2⟩
        · exact nn.1 g1
        · exact nn.2 g2
      · rintro ⟨w, d', hw, f3, hd, hh⟩
        by_cases wi : w = i
        · right
          rw [wi] at hh
          have b1 := a2 _ _ f3
          have b2 := a2 _ _ (a1 _ _ f3).1
          have b3 := a2 _ _ m1
          have b4 := a2 _ _ (a1 _ _ m1).1
          have pe : ∀ a b, nt_pt a 0 = nt_pt b 0 → a = b := fun a b z => ((nt_pteq (by decide) (by decide)).mp z).1
          rcases m2 with ⟨g1, g2⟩ | ⟨g1, g2⟩ <;> rw [g1, g2] at hh <;> rcases hh with ⟨k1, k2⟩ | ⟨k1, k2⟩
          · exact (pe _ _ (ya_nI b3 b1 k1)).symm
          · have := pe _ _ (ya_nI b3 b2 k1)
            have := pe _ _ (ya_nI b4 b1 k2)
            omega
          · have := pe _ _ (ya_nI b4 b1 k1)
            have := pe _ _ (ya_nI b3 b2 k2)
            omega
          · exact (pe _ _ (ya_nI b3 b1 k2)).symm
        · exact Or.inl ⟨w, d', by omega, f3, hd, hh⟩
      · rintro (⟨w, d', hw, f3, hd, hh⟩ | rfl)
        · exact ⟨w, d', by omega, f3, hd, hh⟩
        · exact ⟨i, q, by omega, m1, hpq, m2⟩
end
theorem i_vc_facing {k : Nat} {u : SX} {v : SY} (I : i_Rel k u v) (hk : k + 3 ≤ 1536) : wpX_facing (fun r => wpY_facing (fun r' => r' = r ∧ i_Rel (k + 3) u v) v) u := by
  obtain ⟨fc, fk, fm, fd, fl, ft, fw, kx, wi, ki, go, ot, wa, se, qu⟩ := u
  obtain ⟨gc, gw, rc, rw, gl, gs, ky, fi, sn, rk, rf, rs, me⟩ := v
  obtain ⟨n, V, m, rfl, rfl, rfl, rfl, hB, hK, hX, hY, hf⟩ := id I
  have hV := fn_V hB hY
  refine ⟨n + 1, be_X hB hX (fun r hr => ⟨V + 1, ?_⟩) (n + 1) 0 0 (by omega) (by omega) (fn_cnt_0 fun c z => by omega)⟩
  refine be_Y hY (by omega) (fun r' hr' => ⟨by rw [fn_cnt_u hr hr'], I⟩) (V + 1) 0 0 (by omega) (by omega) (fn_cnt_0 fun c z => ?_)
  obtain ⟨w, d, hw, _⟩ := z
  omega
end
section
/-! questions: steps, loops, left -/
theorem i_vc_steps {k : Nat} {u : SX} {v : SY} (I : i_Rel k u v) (hk : k + 3 ≤ 1536) : wpX_steps (fun r u' => wpY_steps (fun r' v' => r' = r ∧ i_Rel (k + 3) u' v') v) u := by
  obtain ⟨fc, fk, fm, fd, fl, ft, fw, kx, wi, ki, go, ot, wa, se, qu⟩ := u
  obtain ⟨gc, gw, rc, rw, gl, gs, ky, fi, sn, rk, rf, rs, me⟩ := v
  obtain ⟨n, V, m, rfl, rfl, rfl, rfl, hB, hK, hX, hY, hf⟩ := I
  have hV := fn_V hB hY
  unfold wpX_steps
  refine xg_run hB hK hX hf fun fm fd fl ft fw ki go ot wa hD => ?_
  have rel : ∀ rc rw gl gs rk rf rs, i_Rel (k + 3) (nI n, 1, fm, fd, fl, ft, fw, ky, wi, ki, go, ot, wa, se, qu) (nI n, nI V, rc, rw, gl, gs, ky, fi, sn, rk, rf, rs, me) := fun _ _ _ _ _ _ _ => ⟨n, V, m, rfl, rfl, rfl, rfl, hB, hK, hX, hY, Or.inr ⟨rfl, hD⟩⟩
  refine br_c (fun h0 => ?_) (fun h0 => ?_)
  · unfold wpY_steps
    refine yd_run hB hK hY (by omega) fun r rc rw gl gs rk rf rs hE => ?_
    rcases fn_meet (bs_KK _) (bs_inv hB) hD hE with ⟨a, b⟩ | ⟨a, b, N, j, c1, c2, c3, ⟨xk, xlv, xkd, xs, xwt, xlx, xv, x1, x2, x3, x4, x5⟩, ⟨yk, ylv, ykd, ys, yW, yly, yv, y1, y2, y3, y4, y5, y6, y7⟩⟩
    · rw [a] at h0; exact absurd h0 (by decide)
    · refine br_f (by rw [b]; decide) ⟨?_, rel _ _ _ _ _ _ _⟩
      rw [x2, y4]
  · unfold wpY_steps
    refine yd_run hB hK hY (by omega) fun r rc rw gl gs rk rf rs hE => ?_
    rcases fn_meet (bs_KK _) (bs_inv hB) hD hE with ⟨a, b⟩ | ⟨a, b, _⟩
    · exact br_t b ⟨rfl, rel _ _ _ _ _ _ _⟩
    · exact absurd a h0
theorem i_vc_loops {k : Nat} {u : SX} {v : SY} (I : i_Rel k u v) (hk : k + 3 ≤ 1536) : wpX_loops (fun r u' => wpY_loops (fun r' v' => r' = r ∧ i_Rel (k + 3) u' v') v) u := by
  obtain ⟨fc, fk, fm, fd, fl, ft, fw, kx, wi, ki, go, ot, wa, se, qu⟩ := u
  obtain ⟨gc, gw, rc, rw, gl, gs, ky, fi, sn, rk, rf, rs, me⟩ := v
  obtain ⟨n, V, m, rfl, rfl, rfl, rfl, hB, hK, hX, hY, hf⟩ := I
  have hV := fn_V hB hY
  unfold wpX_loops
  refine xg_run hB hK hX hf fun fm fd fl ft fw ki go ot wa hD => ?_
  have rel : ∀ rc rw gl gs rk rf rs, i_Rel (k + 3) (nI n, 1, fm, fd, fl, ft, fw, ky, wi, ki, go, ot, wa, se, qu) (nI n, nI V, rc, rw, gl, gs, ky, fi, sn, rk, rf, rs, me) := fun _ _ _ _ _ _ _ => ⟨n, V, m, rfl, rfl, rfl, rfl, hB, hK, hX, hY, Or.inr ⟨rfl, hD⟩⟩
  refine br_c (fun h0 => ?_) (fun h0 => ?_)
  · unfold wpY_loops
    refine yd_run hB hK hY (by omega) fun r rc rw gl gs rk rf rs hE => ?_
    rcases fn_meet (bs_KK _) (bs_inv hB) hD hE with ⟨a, b⟩ | ⟨a, b, N, j, c1, c2, c3, ⟨xk, xlv, xkd, xs, xwt, xlx, xv, x1, x2, x3, x4, x5⟩, ⟨yk, ylv, ykd, ys, yW, yly, yv, y1, y2, y3, y4, y5, y6, y7⟩⟩
    · rw [a] at h0; exact absurd h0 (by decide)
    · refine br_f (by rw [b]; decide) ⟨?_, rel _ _ _ _ _ _ _⟩
      have e1 : xs.2 = xlx + j := x4.1.2.2.2.2.2.2
      have e2 : ys.2 = yly + j := y5.2.2.2
      have e3 : N.2.2 = xs.2 := x5.2.2.2.2.2.2
      have e4 : N.2.2 = ys.2 := y6.2.2.2.2.2.2
      rw [x3, y3]
      exact congrArg nI (by omega)
  · unfold wpY_loops
    refine yd_run hB hK hY (by omega) fun r rc rw gl gs rk rf rs hE => ?_
    rcases fn_meet (bs_KK _) (bs_inv hB) hD hE with ⟨a, b⟩ | ⟨a, b, _⟩
    · exact br_t b ⟨rfl, rel _ _ _ _ _ _ _⟩
    · exact absurd a h0
theorem fn_meet2 {K : Nat → Nat} {N0 N : nt_N} {j : Nat} {r rc rw gl gs : Int32} {rk rf rs : Nat → Int32} (hK : nt_KK K) (hI : nt_Inv K N0) (x6 : nt_stn K j N0 N) (x7 : nt_nf K N) (x8 : j ≤ 120) (hy : yd_D K N0 r rc rw gl gs rk rf rs) : r = 1 ∧ fn_Y K N j rc rw gl gs rk rf rs := by
  rcases hy with ⟨y0, k', lv', kd', s', W, ly, j', v', N', y1, y2, y3, y4, y5, y6, y7, y8, y9, y10⟩ | ⟨y0, N', M', y1, y2⟩
  · obtain ⟨rfl, rfl⟩ := nt_cf2 hK hI x6 x7 y7 y8
    exact ⟨y0, k', lv', kd', s', W, ly, v', y1, y2, y3, y4, y5, y6, y10⟩
  · exfalso
    have q := nt_cf hK 120 j N0 N N' hI x6 x7 y1
    have : j = 120 := by omega
    subst this
    have q2 := q.2
    rw [Nat.sub_self] at q2
    cases q2
    exact x7 _ y2
/-! left -/
def qa_L (K : Nat → Nat) (N : nt_N) (x : Nat) : Nat → Prop := fun n => N.1 n = 1 ∧ K n = x
theorem qa_end {K : Nat → Nat} {k x r : Nat} {v : Nat → Nat} {lv : Nat → Bool} {kd : Nat → Nat} {s : nt_S} {N : nt_N} (hN : nt_Nm K k v lv kd s N) (h : fn_Cnt (fun n => ∃ c, c < k ∧ lv c = true ∧ kd c = x ∧ n = v c) r) : fn_Cnt (qa_L K N x) r := by
  obtain ⟨h1, h2, h3, h4, h5⟩ := hN
  refine fn_cnt_s h fun n => ⟨?_, ?_⟩
  · rintro ⟨a, b⟩
    obtain ⟨c, hc, rfl⟩ := h3 n (by omega)
    have l : lv c = true := by
      have := h2 c hc
      cases e : lv c with
      | true => rfl
      | false => rw [e] at this; simp at this; omega
    exact ⟨c, hc, l, by rw [h4 c hc l]; exact b, rfl⟩
  · rintro ⟨c, hc, l, e, rfl⟩
    refine ⟨by rw [h2 c hc, if_pos l], ?_⟩
    rw [← h4 c hc l]; exact e
theorem qa_step {k i x r : Nat} {v : Nat → Nat} {lv : Nat → Bool} {kd : Nat → Nat} (hv : ∀ x y, x < k → y < k → v x = v y → x = y) (hi : i < k) (h : fn_Cnt (fun n => ∃ c, c < i ∧ lv c = true ∧ kd c = x ∧ n = v c) r) : (lv i = true → kd i = x → fn_Cnt (fun n => ∃ c, c < i + 1 ∧ lv c = true ∧ kd c = x ∧ n = v c) (r + 1)) ∧ (¬ (lv i = true ∧ kd i = x) → fn_Cnt (fun n => ∃ c, c < i + 1 ∧ lv c = true ∧ kd c = x ∧ n = v c) r) := by
  constructor
  · intro l e
    refine fn_cnt_a (a := v i) h ?_ fun n => ⟨?_, ?_⟩
    · rintro ⟨c, hc, _, _, q⟩
      have := hv i c hi (by omega) q
      omega
    · rintro ⟨c, hc, q1, q2, q3⟩
      by_cases z : c = i
      · right; rw [q3, z]
      · exact Or.inl ⟨c, by omega, q1, q2, q3⟩
    · rintro (⟨c, hc, q1, q2, q3⟩ | rfl)
      · exact ⟨c, by omega, q1, q2, q3⟩
      · exact ⟨i, by omega, l, e, rfl⟩
  · intro l
    refine fn_cnt_s h fun n => ⟨?_, ?_⟩
    · rintro ⟨c, hc, q1, q2, q3⟩
      by_cases z : c = i
      · rw [z] at q1 q2; exact absurd ⟨q1, q2⟩ l
      · exact ⟨c, by omega, q1, q2, q3⟩
    · rintro ⟨c, hc, q1, q2, q3⟩
      exact ⟨c, by omega, q1, q2, q3⟩
section
variable {fc fk fm fd fl ft fw : Int32} {kx wi ki go ot wa se qu : Nat → Int32}
theorem qa_X {post : Int32 → SX → Prop} {k x : Nat} {v : Nat → Nat} {lv : Nat → Bool} {kd : Nat → Nat} (hx : x ≤ 2) (hk : k ≤ 490) (hv : ∀ x y, x < k → y < k → v x = v y → x = y) (hG : xc_G k lv go) (hK : xc_K k kd ki) (H : ∀ r, fn_Cnt (fun n => ∃ c, c < k ∧ lv c = true ∧ kd c = x ∧ n = v c) r → post (nI r) (fc, fk, nI k, fd, fl, ft, fw, kx, wi, ki, go, ot, wa, se, qu)) :
    ∀ (f i r : Nat), k + 1 ≤ f + i → i ≤ k → fn_Cnt (fun n => ∃ c, c < i ∧ lv c = true ∧ kd c = x ∧ n = v c) r → wX_left_29 post (nI x) fc fk (nI k) fd fl ft fw kx wi ki go ot wa se qu f (nI r) (nI i) := by
  intro f
  induction f with
  | zero => intro i r h1 h2; omega
  | succ f ih =>
    intro i r h1 h2 h3
    refine pk_le k i (fun h => ?_) (fun h => ?_)
    · obtain rfl : i = k := by omega
      exact H r h3
    · have ci : (nI i).toNatClampNeg = i := nI_clamp (by omega)
      obtain ⟨s1, s2⟩ := qa_step hv h h3
      obtain ⟨g1, g2⟩ := hG i h
      obtain ⟨k1, k2⟩ := hK i h
      refine ⟨vp_in_nI (by omega) (by decide), ?_⟩
      rw [ci]
      cases l : lv i with
      | true =>
        refine br_t (g1 l) ⟨vp_in_nI (by omega) (by decide), ?_⟩
        rw [k1]
        refine pk_eq (kd i) x (fun e => ?_) (fun e => ?_)
        · exact nm_r (nI_1 r) (nm_r (nI_1 i) (ih (i + 1) (r + 1) (by omega) (by omega) (s1 l e)))
        · exact nm_r (nI_1 i) (ih (i + 1) r (by omega) (by omega) (s2 fun z => e z.2))
      | false =>
        refine br_f (by rw [g2 l]; decide) (nm_r (nI_1 i) (ih (i + 1) r (by omega) (by omega) (s2 fun z => ?_)))
        rw [l] at z; cases z.1
end
section
variable {gc gw rc rw gl gs : Int32} {ky fi sn rk rf rs me : Nat → Int32}
theorem qa_Y {post : Int32 → Prop} {k x : Nat} {v : Nat → Nat} {lv : Nat → Bool} {kd : Nat → Nat} (hx : x ≤ 2) (hk : k ≤ 490) (hv : ∀ x y, x < k → y < k → v x = v y → x = y) (hK : yc_K k lv kd rk) (H : ∀ r, fn_Cnt (fun n => ∃ c, c < k ∧ lv c = true ∧ kd c = x ∧ n = v c) r → post (nI r)) :
    ∀ (f i r : Nat), k + 1 ≤ f + i → i ≤ k → fn_Cnt (fun n => ∃ c, c < i ∧ lv c = true ∧ kd c = x ∧ n = v c) r → wY_countLeft_4 post (nI x) gc gw (nI k) rw gl gs ky fi sn rk rf rs me f (nI r) (nI i) := by
  intro f
  induction f with
  | zero => intro i r h1 h2; omega
  | succ f ih =>
    intro i r h1 h2 h3
    refine pk_le k i (fun h => ?_) (fun h => ?_)
    · obtain rfl : i = k := by omega
      exact H r h3
    · have ci : (nI i).toNatClampNeg = i := nI_clamp (by omega)
      obtain ⟨s1, s2⟩ := qa_step hv h h3
      obtain ⟨g1, g2, g3⟩ := hK i h
      refine ⟨vp_in_nI (by omega) (by decide), ?_⟩
      rw [ci]
      cases l : lv i with
      | true =>
        rw [g1 l]
        refine pk_eq (kd i) x (fun e => ?_) (fun e => ?_)
        · exact nm_r (nI_1 r) (nm_r (nI_1 i) (ih (i + 1) (r + 1) (by omega) (by omega) (s1 l e)))
        · exact nm_r (nI_1 i) (ih (i + 1) r (by omega) (by omega) (s2 fun z => e z.2))
      | false =>
        refine br_f (by rw [g2 l]; exact fun z => xa_m1 (n := x) (by omega) z.symm) (nm_r (nI_1 i) (ih (i + 1) r (by omega) (by omega) (s2 fun z => ?_)))
        rw [l] at z; cases z.1
end
theorem qa_0 {lv : Nat → Bool} {kd v : Nat → Nat} {x : Nat} : fn_Cnt (fun n => ∃ c, c < 0 ∧ lv c = true ∧ kd c = x ∧ n = v c) 0 := fn_cnt_0 fun n z => by obtain ⟨c, hc, _⟩ := z; omega
theorem i_vc_left {k : Nat} {u : SX} {v : SY} (I : i_Rel k u v) (hk : k + 3 ≤ 1536) (v1 : Int32) : wpX_left (fun r u' => wpY_left (fun r' v' => r' = r ∧ i_Rel (k + 3) u' v') v v1) u v1 := by
  obtain ⟨fc, fk, fm, fd, fl, ft, fw, kx, wi, ki, go, ot, wa, se, qu⟩ := u
  obtain ⟨gc, gw, rc, rw, gl, gs, ky, fi, sn, rk, rf, rs, me⟩ := v
  obtain ⟨n, V, m, rfl, rfl, rfl, rfl, hB, hK, hX, hY, hf⟩ := id I
  have hV := fn_V hB hY
  refine br_c (fun hn => br_t hn ⟨rfl, I⟩) (fun hn => br_c (fun h2 => ?_) (fun h2 => br_f hn (br_f h2 ⟨rfl, I⟩)))
  obtain ⟨x, hx, rfl⟩ := nI_of2 (M := 2) (n := 2) (by decide) hn h2
  refine xg_run hB hK hX hf fun fm fd fl ft fw ki go ot wa hD => ?_
  have rel : ∀ rc rw gl gs rk rf rs, i_Rel (k + 3) (nI n, 1, fm, fd, fl, ft, fw, ky, wi, ki, go, ot, wa, se, qu) (nI n, nI V, rc, rw, gl, gs, ky, fi, sn, rk, rf, rs, me) := fun _ _ _ _ _ _ _ => ⟨n, V, m, rfl, rfl, rfl, rfl, hB, hK, hX, hY, Or.inr ⟨rfl, hD⟩⟩
  refine br_c (fun h0 => ?_) (fun h0 => ?_)
  · rcases id hD with ⟨_, xk, xlv, xkd, xs, xwt, xlx, xj, xv, xN, x1, x2, x3, x4, x5, x6, x7, x8⟩ | ⟨a, _⟩
    · subst x1
      refine ⟨xk + 1, ?_⟩
      refine qa_X hx x4.1.1 x5.1 x4.2.1 x4.2.2 (fun r hr => ?_) (xk + 1) 0 0 (by omega) (by omega) qa_0
      refine br_f hn (br_t h2 ?_)
      refine yd_run hB hK hY (by omega) fun r' rc rw gl gs rk rf rs hE => ?_
      obtain ⟨b, yk, ylv, ykd, ys, yW, yly, yv, y1, y2, y3, y4, y5, y6, y7⟩ := fn_meet2 (bs_KK _) (bs_inv hB) x6 x7 x8 hE
      subst y1
      refine br_f (by rw [b]; decide) ⟨yk + 1, ?_⟩
      refine qa_Y hx y5.1 y6.1 y5.2.2.1 (fun q hq => ⟨?_, rel _ _ _ _ _ _ _⟩) (yk + 1) 0 0 (by omega) (by omega) qa_0
      rw [fn_cnt_u (qa_end x5 hr) (qa_end y6 hq)]
    · rw [a] at h0; exact absurd h0 (by decide)
  · refine br_f hn (br_t h2 ?_)
    refine yd_run hB hK hY (by omega) fun r rc rw gl gs rk rf rs hE => ?_
    rcases fn_meet (bs_KK _) (bs_inv hB) hD hE with ⟨a, b⟩ | ⟨a, b, _⟩
    · exact br_t b ⟨rfl, rel _ _ _ _ _ _ _⟩
    · exact absurd a h0
end
section
/-! open -/
def qb_E (lv : Nat → Bool) (kd : Nat → Nat) (m : Nat → Option Nat) (c s : Nat) : Prop := lv c = true ∧ (s = 0 ∨ kd c ≠ 2) ∧ m (nt_pt c s) = none
def qb_Q (lv : Nat → Bool) (kd v : Nat → Nat) (m : Nat → Option Nat) (c s p : Nat) : Prop := ∃ c' s', s' < 3 ∧ (c' < c ∨ (c' = c ∧ s' < s)) ∧ qb_E lv kd m c' s' ∧ p = nt_pt (v c') s'
section
variable {lv : Nat → Bool} {kd v : Nat → Nat} {m : Nat → Option Nat} {k c s r : Nat}
theorem qb_0 : fn_Cnt (qb_Q lv kd v m 0 0) 0 := fn_cnt_0 fun p z => by obtain ⟨c', s', h1, h2, _⟩ := z; omega
theorem qb_yes (hv : ∀ x y, x < k → y < k → v x = v y → x = y) (hc : c < k) (hs : s < 3) (h : fn_Cnt (qb_Q lv kd v m c s) r) (he : qb_E lv kd m c s) : fn_Cnt (qb_Q lv kd v m c (s + 1)) (r + 1) := by
  refine fn_cnt_a (a := nt_pt (v c) s) h ?_ fun p => ⟨?_, ?_⟩
  · rintro ⟨c', s', h1, h2, _, h4⟩
    rw [nt_pteq hs h1] at h4
    have := hv c c' hc (by omega) h4.1
    omega
  · rintro ⟨c', s', h1, h2, h3, h4⟩
    by_cases z : c' = c ∧ s' = s
    · right; rw [h4, z.1, z.2]
    · exact Or.inl ⟨c', s', h1, by omega, h3, h4⟩
  · rintro (⟨c', s', h1, h2, h3, h4⟩ | rfl)
    · exact ⟨c', s', h1, by omega, h3, h4⟩
    · exact ⟨c, s, hs, Or.inr ⟨rfl, by omega⟩, he, rfl⟩
theorem qb_no (h : fn_Cnt (qb_Q lv kd v m c s) r) (he : ¬ qb_E lv kd m c s) : fn_Cnt (qb_Q lv kd v m c (s + 1)) r := by
  refine fn_cnt_s h fun p => ⟨?_, ?_⟩
  · rintro ⟨c', s', h1, h2, h3, h4⟩
    refine ⟨c', s', h1, ?_, h3, h4⟩
    by_cases z : c' = c ∧ s' = s
    · rw [z.1, z.2] at h3; exact absurd h3 he
    · omega
  · rintro ⟨c', s', h1, h2, h3, h4⟩
    exact ⟨c', s', h1, by omega, h3, h4⟩
theorem qb_next {b : Nat} (h : fn_Cnt (qb_Q lv kd v m c b) r) (hb : ∀ s, b ≤ s → s < 3 → ¬ qb_E lv kd m c s) : fn_Cnt (qb_Q lv kd v m (c + 1) 0) r := by
  refine fn_cnt_s h fun p => ⟨?_, ?_⟩
  · rintro ⟨c', s', h1, h2, h3, h4⟩
    refine ⟨c', s', h1, ?_, h3, h4⟩
    by_cases z : c' = c
    · right
      refine ⟨z, Decidable.byContradiction fun y => ?_⟩
      rw [z] at h3
      exact hb s' (by omega) h1 h3
    · omega
  · rintro ⟨c', s', h1, h2, h3, h4⟩
    exact ⟨c', s', h1, by omega, h3, h4⟩
def qb_P (K : Nat → Nat) (N : nt_N) (p : Nat) : Prop := ∃ n s, s < 3 ∧ N.1 n = 1 ∧ (s = 0 ∨ K n ≠ 2) ∧ N.2.1 (nt_pt n s) = none ∧ p = nt_pt n s
theorem qb_T {K : Nat → Nat} {s : nt_S} {N : nt_N} (hN : nt_Nm K k v lv kd s N) {t : Nat} (ht : t < 3) (hc : c < k) : N.2.1 (nt_pt (v c) t) = none ↔ s.1 (nt_pt c t) = none := by
  have := hN.2.2.2.2.1 (nt_pt c t) ((nt_pt_lt ht).mpr hc)
  rw [nt_pi_pt ht] at this
  rw [this]
  cases s.1 (nt_pt c t) <;> simp
theorem qb_lv {K : Nat → Nat} {s : nt_S} {N : nt_N} (hN : nt_Nm K k v lv kd s N) (hc : c < k) : N.1 (v c) = 1 ↔ lv c = true := by
  rw [hN.2.1 c hc]
  cases lv c <;> simp
theorem qb_end {K : Nat → Nat} {s : nt_S} {N : nt_N} (hN : nt_Nm K k v lv kd s N) (h : fn_Cnt (qb_Q lv kd v s.1 k 0) r) : fn_Cnt (qb_P K N) r := by
  refine fn_cnt_s h fun p => ⟨?_, ?_⟩
  · rintro ⟨n, t, ht, h1, h2, h3, rfl⟩
    obtain ⟨c, hc, rfl⟩ := hN.2.2.1 n (by omega)
    have l := (qb_lv hN hc).mp h1
    rw [qb_T hN ht hc] at h3
    refine ⟨c, t, ht, Or.inl hc, ⟨l, ?_, h3⟩, rfl⟩
    rw [hN.2.2.2.1 c hc l]; exact h2
  · rintro ⟨c, t, ht, hc, ⟨l, h2, h3⟩, rfl⟩
    have hc : c < k := by omega
    refine ⟨v c, t, ht, (qb_lv hN hc).mpr l, ?_, (qb_T hN ht hc).mpr h3, rfl⟩
    rw [← hN.2.2.2.1 c hc l]; exact h2
end
section
variable {fc fk fm fd fl ft fw : Int32} {kx wi ki go ot wa se qu : Nat → Int32}
variable {lv : Nat → Bool} {kd v : Nat → Nat} {s : nt_S} {k : Nat}
theorem qb_Xin {post : Int32 → SX → Prop} {J : Int32 → Int32 → Prop} {w lx e c b : Nat} {wt : Nat → Int32} (hJ : xd_J k lv kd s ki go ot w wt lx e) (hv : ∀ x y, x < k → y < k → v x = v y → x = y) (hc : c < k) (hb3 : b ≤ 3) (hb : ∀ t, t < b → lv c = true → (t = 0 ∨ kd c ≠ 2)) (hb2 : ∀ t, b ≤ t → t < 3 → ¬ qb_E lv kd s.1 c t) (H : ∀ r, fn_Cnt (qb_Q lv kd v s.1 (c + 1) 0) r → J (nI r) (nI (c + 1))) :
    ∀ (f i r : Nat), b + 1 ≤ f + i → i ≤ b → fn_Cnt (qb_Q lv kd v s.1 c i) r → wX_open_45 post J (nI c) (nI b) fc fk fm fd fl ft fw kx wi ki go ot wa se qu f (nI r) (nI i) := by
  obtain ⟨hM, hG, hK⟩ := id hJ
  have hk := hM.1
  intro f
  induction f with
  | zero => intro i r h1 h2; omega
  | succ f ih =>
    intro i r h1 h2 h3
    refine pk_le b i (fun h => ?_) (fun h => ?_)
    · obtain rfl : i = b := by omega
      exact nm_r (nI_1 c) (H r (qb_next h3 hb2))
    · have cc : (nI c).toNatClampNeg = c := nI_clamp (by omega)
      refine ⟨vp_in_nI (by omega) (by decide), ?_⟩
      rw [cc]
      obtain ⟨g1, g2⟩ := hG c hc
      cases l : lv c with
      | true =>
        refine br_t (g1 l) ?_
        rw [xa_mul3, nI_add, nI_clamp (by omega)]
        refine ⟨vp_in_nI (by omega) (by decide), ?_⟩
        have rd := (hM.2.2.1 (nt_pt c i) ((xc_A_pt (by omega)).mpr ⟨hc, l⟩)).2
        rw [xa_xi_pt] at rd
        rw [rd]
        cases e : s.1 (nt_pt c i) with
        | none =>
          refine br_t rfl (nm_r (nI_1 r) (nm_r (nI_1 i) (ih (i + 1) (r + 1) (by omega) (by omega) (qb_yes hv hc (by omega) h3 ⟨l, hb i h l, e⟩))))
        | some q =>
          have bq : q < 1474 := by have := (hM.2.2.1 _ (hM.2.2.2.1 _ _ e).2).1; omega
          have := xa_xi_lt bq
          refine br_f (xa_m1 (n := xa_xi q) (by omega)) (nm_r (nI_1 i) (ih (i + 1) r (by omega) (by omega) (qb_no h3 fun z => ?_)))
          have := z.2.2; rw [e] at this; cases this
      | false =>
        refine br_f (by rw [g2 l]; decide) (nm_r (nI_1 i) (ih (i + 1) r (by omega) (by omega) (qb_no h3 fun z => ?_)))
        have := z.1; rw [l] at this; cases this
theorem qb_X {post : Int32 → SX → Prop} {w lx e : Nat} {wt : Nat → Int32} (hJ : xd_J k lv kd s ki go ot w wt lx e) (hv : ∀ x y, x < k → y < k → v x = v y → x = y) (H : ∀ r, fn_Cnt (qb_Q lv kd v s.1 k 0) r → post (nI r) (fc, fk, nI k, fd, fl, ft, fw, kx, wi, ki, go, ot, wa, se, qu)) :
    ∀ (f i r : Nat), k + 1 ≤ f + i → i ≤ k → fn_Cnt (qb_Q lv kd v s.1 i 0) r → wX_open_18 post fc fk (nI k) fd fl ft fw kx wi ki go ot wa se qu f (nI r) (nI i) := by
  obtain ⟨hM, hG, hK⟩ := id hJ
  have hk := hM.1
  intro f
  induction f with
  | zero => intro i r h1 h2; omega
  | succ f ih =>
    intro i r h1 h2 h3
    refine pk_le k i (fun h => ?_) (fun h => ?_)
    · obtain rfl : i = k := by omega
      exact H r h3
    · have cc : (nI i).toNatClampNeg = i := nI_clamp (by omega)
      refine ⟨vp_in_nI (by omega) (by decide), ?_⟩
      rw [cc, (hK i h).1]
      have k2 := (hK i h).2
      refine pk_eq (kd i) 2 (fun e2 => ⟨2, ?_⟩) (fun e2 => ⟨4, ?_⟩)
      · exact qb_Xin (b := 1) hJ hv h (by omega) (fun t ht _ => Or.inl (by omega)) (fun t h1 h2 z => by have := z.2.1; omega) (fun r hr => ih (i + 1) r (by omega) (by omega) hr) 2 0 r (by omega) (by omega) h3
      · exact qb_Xin (b := 3) hJ hv h (by omega) (fun t ht _ => Or.inr e2) (fun t h1 h2 z => by omega) (fun r hr => ih (i + 1) r (by omega) (by omega) hr) 4 0 r (by omega) (by omega) h3
end
section
variable {gc gw rc rw gl gs : Int32} {ky fi sn rk rf rs me : Nat → Int32}
variable {lv : Nat → Bool} {kd v : Nat → Nat} {s : nt_S} {k : Nat}
theorem qb_Yin {post : Int32 → SY → Prop} {J : Int32 → Int32 → Prop} {W ly e c b : Nat} (hJ : yc_J k lv kd s rk rf rs W ly e) (hW : W ≤ 520) (hv : ∀ x y, x < k → y < k → v x = v y → x = y) (hc : c < k) (hb3 : b ≤ 3) (hb : ∀ t, t < b → lv c = true ∧ (t = 0 ∨ kd c ≠ 2)) (hb2 : ∀ t, b ≤ t → t < 3 → ¬ qb_E lv kd s.1 c t) (H : ∀ r, fn_Cnt (qb_Q lv kd v s.1 (c + 1) 0) r → J (nI r) (nI (c + 1))) :
    ∀ (f i r : Nat), b + 1 ≤ f + i → i ≤ b → fn_Cnt (qb_Q lv kd v s.1 c i) r → wY_open_54 post J (nI c) (nI b) gc gw rc (nI W) gl gs ky fi sn rk rf rs me f (nI r) (nI i) := by
  obtain ⟨hk, hY, hK, hl⟩ := id hJ
  intro f
  induction f with
  | zero => intro i r h1 h2; omega
  | succ f ih =>
    intro i r h1 h2 h3
    refine pk_le b i (fun h => ?_) (fun h => ?_)
    · obtain rfl : i = b := by omega
      exact nm_r (nI_1 c) (H r (qb_next h3 hb2))
    · refine yc_port ?_
      refine yb_rwo hY (yc_pt c i) (yc_lt (by omega) hc hk) hW (fun e => ?_) (fun q w e hw _ => ?_)
      · refine br_f (by decide) (nm_r (nI_1 r) (nm_r (nI_1 i) (ih (i + 1) (r + 1) (by omega) (by omega) (qb_yes hv hc (by omega) h3 ⟨(hb i h).1, (hb i h).2, e⟩))))
      · refine br_t (nI_pos' (by omega)) (nm_r (nI_1 i) (ih (i + 1) r (by omega) (by omega) (qb_no h3 fun z => ?_)))
        have := z.2.2; rw [e] at this; cases this
theorem qb_Y {post : Int32 → SY → Prop} {W ly e : Nat} (hJ : yc_J k lv kd s rk rf rs W ly e) (hW : W ≤ 520) (hv : ∀ x y, x < k → y < k → v x = v y → x = y) (H : ∀ r, fn_Cnt (qb_Q lv kd v s.1 k 0) r → post (nI r) (gc, gw, nI k, nI W, gl, gs, ky, fi, sn, rk, rf, rs, me)) :
    ∀ (f i r : Nat), k + 1 ≤ f + i → i ≤ k → fn_Cnt (qb_Q lv kd v s.1 i 0) r → wY_open_14 post gc gw (nI k) (nI W) gl gs ky fi sn rk rf rs me f (nI r) (nI i) := by
  obtain ⟨hk, hY, hK, hl⟩ := id hJ
  intro f
  induction f with
  | zero => intro i r h1 h2; omega
  | succ f ih =>
    intro i r h1 h2 h3
    refine pk_le k i (fun h => ?_) (fun h => ?_)
    · obtain rfl : i = k := by omega
      exact H r h3
    · have cc : (nI i).toNatClampNeg = i := nI_clamp (by omega)
      have iv : vp_in (nI i) 500 := vp_in_nI (by omega) (by decide)
      obtain ⟨g1, g2, k2⟩ := hK i h
      refine ⟨iv, ?_⟩
      rw [cc]
      cases l : lv i with
      | true =>
        rw [g1 l]
        refine br_t (nI_pos' (by omega)) ⟨iv, ?_⟩
        refine pk_eq (kd i) 2 (fun e2 => ⟨2, ?_⟩) (fun e2 => ⟨4, ?_⟩)
        · exact qb_Yin (b := 1) hJ hW hv h (by omega) (fun t ht => ⟨l, Or.inl (by omega)⟩) (fun t h1 h2 z => by have := z.2.1; omega) (fun r hr => ih (i + 1) r (by omega) (by omega) hr) 2 0 r (by omega) (by omega) h3
        · exact qb_Yin (b := 3) hJ hW hv h (by omega) (fun t ht => ⟨l, Or.inr e2⟩) (fun t h1 h2 z => by omega) (fun r hr => ih (i + 1) r (by omega) (by omega) hr) 4 0 r (by omega) (by omega) h3
      | false =>
        rw [g2 l]
        refine br_f (by decide) ⟨1, ?_⟩
        exact qb_Yin (b := 0) hJ hW hv h (by omega) (fun t ht => by omega) (fun t h1 h2 z => by have := z.1; rw [l] at this; cases this) (fun r hr => ih (i + 1) r (by omega) (by omega) hr) 1 0 r (by omega) (by omega) h3
end
theorem i_vc_open {k : Nat} {u : SX} {v : SY} (I : i_Rel k u v) (hk : k + 3 ≤ 1536) : wpX_open (fun r u' => wpY_open (fun r' v' => r' = r ∧ i_Rel (k + 3) u' v') v) u := by
  obtain ⟨fc, fk, fm, fd, fl, ft, fw, kx, wi, ki, go, ot, wa, se, qu⟩ := u
  obtain ⟨gc, gw, rc, rw, gl, gs, ky, fi, sn, rk, rf, rs, me⟩ := v
  obtain ⟨n, V, m, rfl, rfl, rfl, rfl, hB, hK, hX, hY, hf⟩ := id I
  have hV := fn_V hB hY
  unfold wpX_open
  refine xg_run hB hK hX hf fun fm fd fl ft fw ki go ot wa hD => ?_
  have rel : ∀ rc rw gl gs rk rf rs, i_Rel (k + 3) (nI n, 1, fm, fd, fl, ft, fw, ky, wi, ki, go, ot, wa, se, qu) (nI n, nI V, rc, rw, gl, gs, ky, fi, sn, rk, rf, rs, me) := fun _ _ _ _ _ _ _ => ⟨n, V, m, rfl, rfl, rfl, rfl, hB, hK, hX, hY, Or.inr ⟨rfl, hD⟩⟩
  refine br_c (fun h0 => ?_) (fun h0 => ?_)
  · rcases id hD with ⟨_, xk, xlv, xkd, xs, xwt, xlx, xj, xv, xN, x1, x2, x3, x4, x5, x6, x7, x8⟩ | ⟨a, _⟩
    · subst x1
      refine ⟨xk + 1, ?_⟩
      refine qb_X x4 x5.1 (fun r hr => ?_) (xk + 1) 0 0 (by omega) (by omega) qb_0
      unfold wpY_open
      refine yd_run hB hK hY (by omega) fun r' rc rw gl gs rk rf rs hE => ?_
      obtain ⟨b, yk, ylv, ykd, ys, yW, yly, yv, y1, y2, y3, y4, y5, y6, y7⟩ := fn_meet2 (bs_KK _) (bs_inv hB) x6 x7 x8 hE
      subst y1 y2
      refine br_f (by rw [b]; decide) ⟨yk + 1, ?_⟩
      refine qb_Y y5 y7 y6.1 (fun q hq => ⟨?_, rel _ _ _ _ _ _ _⟩) (yk + 1) 0 0 (by omega) (by omega) qb_0
      rw [fn_cnt_u (qb_end x5 hr) (qb_end y6 hq)]
    · rw [a] at h0; exact absurd h0 (by decide)
  · unfold wpY_open
    refine yd_run hB hK hY (by omega) fun r rc rw gl gs rk rf rs hE => ?_
    rcases fn_meet (bs_KK _) (bs_inv hB) hD hE with ⟨a, b⟩ | ⟨a, b, _⟩
    · exact br_t b ⟨rfl, rel _ _ _ _ _ _ _⟩
    · exact absurd a h0
end
section
/-! walk -/
def qc_nm (kd : Nat → Nat) (z : Option Nat) : Nat := match z with
  | none => 9
  | some p => if p < 4 then 10 + p else 3 * kd ((p - 4) / 3) + (p - 4) % 3
def qc_wk (kd : Nat → Nat) (m : Nat → Option Nat) : Nat → Nat → Option Nat → Nat
  | 0, _, z => qc_nm kd z
  | _ + 1, _, none => 9
  | f + 1, t, some p => if p < 4 ∨ t = 0 ∨ kd ((p - 4) / 3) = 2 then qc_nm kd (some p) else qc_wk kd m f (t / 2) (m (nt_pt ((p - 4) / 3) (((p - 4) % 3 + (if t % 2 = 1 then 1 else 2)) % 3)))
theorem qc_cell {c t : Nat} (ht : t < 3) : (nt_pt c t - 4) / 3 = c ∧ (nt_pt c t - 4) % 3 = t := by unfold nt_pt; omega
theorem qc_nm_pt {kd : Nat → Nat} {c t : Nat} (ht : t < 3) : qc_nm kd (some (nt_pt c t)) = 3 * kd c + t := by
  show (if nt_pt c t < 4 then 10 + nt_pt c t else 3 * kd ((nt_pt c t - 4) / 3) + (nt_pt c t - 4) % 3) = _
  rw [if_neg (by unfold nt_pt; omega), (qc_cell ht).1, (qc_cell ht).2]
theorem qc_nm_lo {kd : Nat → Nat} {p : Nat} (h : p < 4) : qc_nm kd (some p) = 10 + p := if_pos h
theorem qc_stop {kd : Nat → Nat} {m : Nat → Option Nat} {f t : Nat} {z : Option Nat} (h : t = 0 ∨ z = none ∨ (∃ p, z = some p ∧ p < 4) ∨ (∃ c i, i < 3 ∧ z = some (nt_pt c i) ∧ kd c = 2)) : qc_wk kd m (f + 1) t z = qc_nm kd z := by
  cases z with
  | none => rfl
  | some p =>
    show (if p < 4 ∨ t = 0 ∨ kd ((p - 4) / 3) = 2 then qc_nm kd (some p) else _) = _
    rw [if_pos]
    rcases h with h | h | ⟨q, h1, h2⟩ | ⟨c, i, hi, h1, h2⟩
    · exact Or.inr (Or.inl h)
    · cases h
    · cases h1; exact Or.inl h2
    · cases h1; rw [(qc_cell hi).1]; exact Or.inr (Or.inr h2)
theorem qc_go {kd : Nat → Nat} {m : Nat → Option Nat} {f t c i : Nat} (hi : i < 3) (ht : t ≠ 0) (hk : kd c ≠ 2) : qc_wk kd m (f + 1) t (some (nt_pt c i)) = qc_wk kd m f (t / 2) (m (nt_pt c ((i + (if t % 2 = 1 then 1 else 2)) % 3))) := by
  show (if nt_pt c i < 4 ∨ t = 0 ∨ kd ((nt_pt c i - 4) / 3) = 2 then _ else _) = _
  rw [if_neg, (qc_cell hi).1, (qc_cell hi).2]
  rw [(qc_cell hi).1]
  unfold nt_pt
  omega
theorem qc_0 {kd : Nat → Nat} {m : Nat → Option Nat} {f : Nat} {z : Option Nat} : qc_wk kd m f 0 z = qc_nm kd z := by
  cases f with
  | zero => rfl
  | succ f => exact qc_stop (Or.inl rfl)
/-- a port that one may stand at -/
def qc_Z (k : Nat) (lv : Nat → Bool) (z : Option Nat) : Prop := ∀ q, z = some q → q < 4 ∨ ∃ c t, t < 3 ∧ c < k ∧ lv c = true ∧ q = nt_pt c t
theorem qc_Zm {K : Nat → Nat} {k : Nat} {v : Nat → Nat} {lv : Nat → Bool} {kd : Nat → Nat} {s : nt_S} {N : nt_N} (hI : nt_Inv K N) (hN : nt_Nm K k v lv kd s N) (hm : nt_Mt s.1) (p : Nat) : qc_Z k lv (s.1 p) := by
  intro q e
  rcases nt_port q with h | ⟨c, t, ht, rfl⟩
  · exact Or.inl h
  · have := yd_live hI hN ht (hm _ _ e).1
    exact Or.inr ⟨c, t, ht, this.1, this.2, rfl⟩
theorem qc_name {K : Nat → Nat} {k : Nat} {v : Nat → Nat} {lv : Nat → Bool} {kd : Nat → Nat} {s : nt_S} {N : nt_N} (hI : nt_Inv K N) (hN : nt_Nm K k v lv kd s N) (hm : nt_Mt s.1) : ∀ (f t : Nat) (z : Option Nat), qc_Z k lv z → qc_wk K N.2.1 f t (z.map (nt_pi v)) = qc_wk kd s.1 f t z := by
  have nm : ∀ z, qc_Z k lv z → qc_nm K (z.map (nt_pi v)) = qc_nm kd z := by
    intro z hz
    cases z with
    | none => rfl
    | some q =>
      rw [Option.map_some]
      rcases hz q rfl with h | ⟨c, t, ht, hc, hl, rfl⟩
      · rw [nt_pi_lo h, qc_nm_lo h, qc_nm_lo h]
      · rw [nt_pi_pt ht, qc_nm_pt ht, qc_nm_pt ht, hN.2.2.2.1 c hc hl]
  intro f
  induction f with
  | zero => intro t z hz; exact nm z hz
  | succ f ih =>
    intro t z hz
    cases z with
    | none => rfl
    | some q =>
      rcases hz q rfl with h | ⟨c, i, hi, hc, hl, rfl⟩
      · rw [qc_stop (kd := kd) (Or.inr (Or.inr (Or.inl ⟨q, rfl, h⟩))), Option.map_some, nt_pi_lo h, qc_stop (Or.inr (Or.inr (Or.inl ⟨q, rfl, h⟩)))]
        rw [qc_nm_lo h, qc_nm_lo h]
      · have kc := hN.2.2.2.1 c hc hl
        by_cases t0 : t = 0
        · rw [t0, qc_0, qc_0]; exact nm _ hz
        · by_cases k2 : kd c = 2
          · rw [qc_stop (kd := kd) (Or.inr (Or.inr (Or.inr ⟨c, i, hi, rfl, k2⟩))), Option.map_some, nt_pi_pt hi, qc_stop (Or.inr (Or.inr (Or.inr ⟨v c, i, hi, rfl, by rw [← kc]; exact k2⟩)))]
            rw [qc_nm_pt hi, qc_nm_pt hi, kc]
          · rw [qc_go (kd := kd) hi t0 k2, Option.map_some, nt_pi_pt hi, qc_go hi t0 (by rw [← kc]; exact k2)]
            have lt : (i + (if t % 2 = 1 then 1 else 2)) % 3 < 3 := Nat.mod_lt _ (by decide)
            have T := hN.2.2.2.2.1 (nt_pt c ((i + (if t % 2 = 1 then 1 else 2)) % 3)) ((nt_pt_lt lt).mpr hc)
            rw [nt_pi_pt lt] at T
            rw [T]
            exact ih _ _ (qc_Zm hI hN hm _)
section
variable {fc fk fm fd fl ft fw : Int32} {kx wi ki go ot wa se qu : Nat → Int32}
variable {lv : Nat → Bool} {kd v : Nat → Nat} {s : nt_S} {k : Nat}
theorem qc_exit {post : Int32 → Prop} {c t b : Nat} (ht : t < 3) (hc : c < 490) (hb : b = 1 ∨ b = 0) (h : post (nI (3 * c + (t + (if b = 1 then 1 else 2)) % 3))) : wpX_exit post (fc, fk, fm, fd, fl, ft, fw, kx, wi, ki, go, ot, wa, se, qu) (nI (3 * c + t)) (nI b) := by
  have fin : ∀ y, y = 1 ∨ y = 2 → post (nI (3 * c + (t + y) % 3)) → wX_exit_16 post (nI c) (nI y) (nI (3 * c + t) - nI (3 * c + t) / 3 * 3) fc fk fm fd fl ft fw kx wi ki go ot wa se qu := by
    intro y hy hp
    unfold wX_exit_16
    refine nm_r (e' := nI (t + y)) ?_ ?_
    · rw [xa_rem3 (by omega), nI_add]; exact congrArg nI (by omega)
    · refine pk_le (t + y) 2 (fun h2 => ?_) (fun h2 => ?_)
      · rw [xa_mul3, nI_add, show t + y = (t + y) % 3 by omega]; exact hp
      · rw [xa_mul3, show (3 : Int32) = nI 3 from rfl, pk_sub (by omega), nI_add, show t + y - 3 = (t + y) % 3 by omega]; exact hp
  refine ⟨xa_3ne, nm_r (e' := nI c) (by rw [xa_div3 (by omega)]; exact congrArg nI (by omega)) ⟨xa_3ne, ?_⟩⟩
  rcases hb with rfl | rfl
  · exact br_f (by decide) (fin 1 (Or.inl rfl) h)
  · exact br_t (by decide) (fin 2 (Or.inr rfl) h)
theorem qc_named {post : Int32 → Prop} {z : Option Nat} (hK : xc_K k kd ki) (hk : k ≤ 490) (hz : qc_Z k lv z) (h : post (nI (qc_nm kd z))) : wpX_named post (fc, fk, fm, fd, fl, ft, fw, kx, wi, ki, go, ot, wa, se, qu) (xa_ex z) := by
  cases z with
  | none => exact br_t rfl h
  | some q =>
    rw [xa_ex_some]
    rcases hz q rfl with h4 | ⟨c, t, ht, hc, hl, rfl⟩
    · have e : xa_xi q = 1470 + q := if_pos h4
      rw [e]
      rw [qc_nm_lo h4] at h
      refine br_f (xa_m1 (by omega)) (pk_lt (1470 + q) 1470 (fun z => by omega) (fun _ => ?_))
      rw [show (10 : Int32) = nI 10 from rfl, nI_add, show (1470 : Int32) = nI 1470 from rfl, pk_sub (by omega), show 10 + (1470 + q) - 1470 = 10 + q by omega]
      exact h
    · rw [xa_xi_pt]
      rw [qc_nm_pt ht] at h
      refine br_f (xa_m1 (by omega)) (pk_lt (3 * c + t) 1470 (fun _ => ⟨xa_3ne, ?_⟩) (fun z => by omega))
      have dv : nI (3 * c + t) / 3 = nI c := by rw [xa_div3 (by omega)]; exact congrArg nI (by omega)
      have rm : nI (3 * c + t) - nI (3 * c + t) / 3 * 3 = nI t := by rw [xa_rem3 (by omega)]; exact congrArg nI (by omega)
      rw [rm, dv, nI_clamp (by omega), (hK c hc).1, xa_mul3, nI_add]
      exact ⟨vp_in_nI (by omega) (by decide), xa_3ne, h⟩
theorem qc_X {post : Int32 → SX → Prop} {w lx e : Nat} {wt : Nat → Int32} (hJ : xd_J k lv kd s ki go ot w wt lx e) (hZ : ∀ p, qc_Z k lv (s.1 p)) : ∀ (f i t : Nat) (z : Option Nat), i + f = 12 → t < 2 ^ f → qc_Z k lv z → post (nI (qc_wk kd s.1 f t z)) (fc, fk, fm, fd, fl, ft, fw, kx, wi, ki, go, ot, wa, se, qu) → wX_walk_53 post fc fk fm fd fl ft fw kx wi ki go ot wa se qu (f + 1) (xa_ex z) (nI t) (nI i) := by
  obtain ⟨hM, hG, hK⟩ := id hJ
  have hk := hM.1
  intro f
  induction f with
  | zero =>
    intro i t z h1 h2 hz hp
    refine pk_le 12 i (fun _ => ?_) (fun h => by omega)
    unfold wX_walk_135
    exact qc_named hK hk hz hp
  | succ f ih =>
    intro i t z h1 h2 hz hp
    have h2' : t < 4096 := Nat.lt_of_lt_of_le h2 (Nat.pow_le_pow_right (n := 2) (by decide) (show f + 1 ≤ 12 by omega))
    refine pk_le 12 i (fun h => by omega) (fun _ => ?_)
    refine pk_le t 0 (fun h => ?_) (fun h => ?_)
    · unfold wX_walk_135
      obtain rfl : t = 0 := by omega
      rw [qc_0] at hp
      exact qc_named hK hk hz hp
    · cases z with
      | none =>
        refine br_t rfl ?_
        unfold wX_walk_89
        exact qc_named hK hk hz hp
      | some q =>
        rw [xa_ex_some]
        rcases id (hz q rfl) with h4 | ⟨c, j, hj, hc, hl, rfl⟩
        · have e : xa_xi q = 1470 + q := if_pos h4
          have bx := xa_xi_lt (show q < 1474 by omega)
          refine br_f (xa_m1 (by omega)) (pk_le 1470 (xa_xi q) (fun _ => ?_) (fun z => by omega))
          unfold wX_walk_89
          rw [qc_stop (Or.inr (Or.inr (Or.inl ⟨q, rfl, h4⟩)))] at hp
          exact qc_named hK hk hz hp
        · rw [xa_xi_pt]
          refine br_f (xa_m1 (by omega)) (pk_le 1470 (3 * c + j) (fun z => by omega) (fun _ => ⟨xa_3ne, ?_⟩))
          have dv : nI (3 * c + j) / 3 = nI c := by rw [xa_div3 (by omega)]; exact congrArg nI (by omega)
          have k2 := (hK c hc).2
          rw [dv, nI_clamp (by omega), (hK c hc).1]
          refine ⟨vp_in_nI (by omega) (by decide), pk_eq (kd c) 2 (fun e2 => ?_) (fun e2 => ?_)⟩
          · unfold wX_walk_89
            rw [qc_stop (Or.inr (Or.inr (Or.inr ⟨c, j, hj, rfl, e2⟩)))] at hp
            have := qc_named (post := fun r => post r (fc, fk, fm, fd, fl, ft, fw, kx, wi, ki, go, ot, wa, se, qu)) (ot := ot) hK hk hz hp (fc := fc) (fk := fk) (fm := fm) (fd := fd) (fl := fl) (ft := ft) (fw := fw) (kx := kx) (wi := wi) (go := go) (wa := wa) (se := se) (qu := qu)
            rw [xa_ex_some, xa_xi_pt] at this
            exact this
          · rw [qc_go hj (by omega) e2] at hp
            have sh : nI t >>> ((1 : Int32) &&& 31) = nI (t / 2) := pk_shrN (by omega) _ 1 (by decide)
            have an : nI t &&& 1 = nI (t % 2) := pk_andN (by omega) 1 (by decide)
            have go' : ∀ b, (b = 1 ∨ b = 0) → (b = 1 ↔ t % 2 = 1) → wX_walk_110 post (wX_walk_53 post fc fk fm fd fl ft fw kx wi ki go ot wa se qu (f + 1)) (nI t) (nI i) (nI b) (nI (3 * c + j)) fc fk fm fd fl ft fw kx wi ki go ot wa se qu := by
              intro b hb hbt
              have eb : (if b = 1 then 1 else 2) = (if t % 2 = 1 then 1 else 2) := by
                by_cases z : b = 1
                · rw [if_pos z, if_pos (hbt.mp z)]
                · rw [if_neg z, if_neg (fun y => z (hbt.mpr y))]
              unfold wX_walk_110
              refine qc_exit hj (by omega) hb ?_
              rw [eb]
              generalize hn : (j + (if t % 2 = 1 then 1 else 2)) % 3 = n' at hp
              have n3 : n' < 3 := by rw [← hn]; exact Nat.mod_lt _ (by decide)
              have rd := (hM.2.2.1 (nt_pt c n') ((xc_A_pt n3).mpr ⟨hc, hl⟩)).2
              rw [xa_xi_pt] at rd
              refine ⟨vp_in_nI (by omega) (by decide), nm_r (e' := xa_ex (s.1 (nt_pt c n'))) (by rw [nI_clamp (by omega)]; exact rd) (nm_r sh (nm_r (nI_1 i) ?_))⟩
              have tp : 2 ^ (f + 1) = 2 * 2 ^ f := by rw [Nat.pow_succ]; omega
              exact ih (i + 1) (t / 2) _ (by omega) (by omega) (hZ _) hp
            rw [an]
            refine pk_eq (t % 2) 1 (fun h => ?_) (fun h => ?_)
            · exact go' 1 (Or.inl rfl) ⟨fun _ => h, fun _ => rfl⟩
            · exact go' 0 (Or.inr rfl) ⟨fun z => by omega, fun z => absurd z h⟩
end
end
section
/-! walk: Y, and the two together -/
def qd_ey (z : Option Nat) : Int32 := match z with
  | none => -1
  | some q => nI q
section
variable {gc gw rc rw gl gs : Int32} {ky fi sn rk rf rs me : Nat → Int32}
variable {lv : Nat → Bool} {kd v : Nat → Nat} {s : nt_S} {k : Nat}
theorem qd_118 {post : Int32 → SY → Prop} {z : Option Nat} (hK : yc_K k lv kd rk) (hk : k ≤ 490) (hz : qc_Z k lv z) (h : post (nI (qc_nm kd z)) (gc, gw, rc, rw, gl, gs, ky, fi, sn, rk, rf, rs, me)) : wY_walk_118 post (qd_ey z) gc gw rc rw gl gs ky fi sn rk rf rs me := by
  unfold wY_walk_118
  cases z with
  | none => exact br_f (by decide) h
  | some q =>
    rw [show qd_ey (some q) = nI q from rfl]
    rcases hz q rfl with h4 | ⟨c, t, ht, hc, hl, rfl⟩
    · rw [qc_nm_lo h4] at h
      refine br_t (nI_pos' (by omega)) (pk_le 4 q (fun z => by omega) (fun _ => ?_))
      rw [show (10 : Int32) = nI 10 from rfl, nI_add]; exact h
    · rw [qc_nm_pt ht] at h
      have bp := yc_lt ht hc hk
      have s4 : nI (nt_pt c t) - 4 = nI (3 * c + t) := by rw [show (4 : Int32) = nI 4 from rfl, pk_sub (by unfold nt_pt; omega)]; exact congrArg nI (by unfold nt_pt; omega)
      have dv : nI (3 * c + t) / 3 = nI c := by rw [xa_div3 (by omega)]; exact congrArg nI (by omega)
      have rm : nI (3 * c + t) - nI (3 * c + t) / 3 * 3 = nI t := by rw [xa_rem3 (by omega)]; exact congrArg nI (by omega)
      refine br_t (nI_pos' (by omega)) (pk_le 4 (nt_pt c t) (fun _ => ⟨xa_3ne, ?_⟩) (fun z => by unfold nt_pt at z; omega))
      rw [s4, rm, dv, nI_clamp (by omega), (hK c hc).1 hl, xa_mul3, nI_add]
      exact ⟨vp_in_nI (by omega) (by decide), xa_3ne, h⟩
theorem qd_Y {post : Int32 → SY → Prop} {W ly e : Nat} (hJ : yc_J k lv kd s rk rf rs W ly e) (hW : W ≤ 520) (hZ : ∀ p, qc_Z k lv (s.1 p)) : ∀ (f t : Nat) (z : Option Nat), f ≤ 12 → t < 2 ^ f → qc_Z k lv z → post (nI (qc_wk kd s.1 f t z)) (gc, gw, rc, nI W, gl, gs, ky, fi, sn, rk, rf, rs, me) → wY_walk_41 post gc gw rc (nI W) gl gs ky fi sn rk rf rs me (f + 1) (qd_ey z) (nI t) := by
  obtain ⟨hk, hY, hK, hl⟩ := id hJ
  intro f
  induction f with
  | zero =>
    intro t z hf h2 hz hp
    obtain rfl : t = 0 := by omega
    have fin := qd_118 (post := post) hK hk hz hp
    exact br_c (fun _ => fin) (fun _ => br_t (by decide) fin)
  | succ f ih =>
    intro t z hf h2 hz hp
    have h2' : t < 4096 := Nat.lt_of_lt_of_le h2 (Nat.pow_le_pow_right (n := 2) (by decide) hf)
    by_cases st : t = 0 ∨ z = none ∨ (∃ p, z = some p ∧ p < 4) ∨ (∃ c i, i < 3 ∧ z = some (nt_pt c i) ∧ kd c = 2)
    · rw [qc_stop st] at hp
      have fin := qd_118 (post := post) hK hk hz hp
      cases z with
      | none => exact br_t (by decide) fin
      | some q =>
        rcases id (hz q rfl) with h4 | ⟨c, j, hj, hc, hlv, rfl⟩
        · exact pk_le q 3 (fun _ => fin) (fun z => by omega)
        · refine pk_le (nt_pt c j) 3 (fun z => by unfold nt_pt at z; omega) (fun _ => ?_) (ha := by have := yc_lt hj hc hk; omega)
          refine pk_le t 0 (fun _ => fin) (fun h0 => ⟨xa_3ne, ?_⟩)
          have s4 : nI (nt_pt c j) - 4 = nI (3 * c + j) := by rw [show (4 : Int32) = nI 4 from rfl, pk_sub (by unfold nt_pt; omega)]; exact congrArg nI (by unfold nt_pt; omega)
          have dv : nI (3 * c + j) / 3 = nI c := by rw [xa_div3 (by omega)]; exact congrArg nI (by omega)
          rw [show qd_ey (some (nt_pt c j)) = nI (nt_pt c j) from rfl] at fin ⊢
          rw [s4, dv, nI_clamp (by omega), (hK c hc).1 hlv]
          refine ⟨vp_in_nI (by omega) (by decide), br_t ?_ fin⟩
          have k2 : kd c = 2 := by
            rcases st with h | h | ⟨p, h, h'⟩ | ⟨c', i, hi, h, h'⟩
            · omega
            · cases h
            · cases h; unfold nt_pt at h'; omega
            · have := (nt_pteq hj hi).mp (Option.some.inj h)
              rw [this.1]; exact h'
          rw [k2]; decide
    · have t0 : t ≠ 0 := fun h => st (Or.inl h)
      cases z with
      | none => exact absurd (Or.inr (Or.inl rfl)) st
      | some q =>
        rcases id (hz q rfl) with h4 | ⟨c, j, hj, hc, hlv, rfl⟩
        · exact absurd (Or.inr (Or.inr (Or.inl ⟨q, rfl, h4⟩))) st
        · have k2 : kd c ≠ 2 := fun h => st (Or.inr (Or.inr (Or.inr ⟨c, j, hj, rfl, h⟩)))
          have k3 := (hK c hc).2.2
          have bp := yc_lt hj hc hk
          rw [qc_go hj t0 k2] at hp
          have s4 : nI (nt_pt c j) - 4 = nI (3 * c + j) := by rw [show (4 : Int32) = nI 4 from rfl, pk_sub (by unfold nt_pt; omega)]; exact congrArg nI (by unfold nt_pt; omega)
          have dv : nI (3 * c + j) / 3 = nI c := by rw [xa_div3 (by omega)]; exact congrArg nI (by omega)
          have rm : nI (3 * c + j) - nI (3 * c + j) / 3 * 3 = nI j := by rw [xa_rem3 (by omega)]; exact congrArg nI (by omega)
          have t2 : nI t - nI t / 2 * 2 = nI (t % 2) := pk_rem (d := 2) (by omega) (by decide) (by decide)
          have d2 : nI t / 2 = nI (t / 2) := pk_div (d := 2) (by omega) (by decide) (by decide)
          rw [show qd_ey (some (nt_pt c j)) = nI (nt_pt c j) from rfl]
          refine pk_le (nt_pt c j) 3 (fun z => by unfold nt_pt at z; omega) (fun _ => ?_)
          refine pk_le t 0 (fun z => by omega) (fun _ => ⟨xa_3ne, ?_⟩)
          rw [s4, rm, dv, nI_clamp (by omega), (hK c hc).1 hlv, t2]
          refine ⟨vp_in_nI (by omega) (by decide), pk_le 2 (kd c) (fun z => by omega) (fun _ => ⟨xa_3ne, nm_r (e' := nI j) rfl ⟨by decide, ?_⟩⟩)⟩
          have go' : ∀ y, (y = if t % 2 = 1 then 1 else 2) → wY_walk_95 post (wY_walk_41 post gc gw rc (nI W) gl gs ky fi sn rk rf rs me (f + 1)) (nI (nt_pt c j)) (nI t) (nI j) ((nI j + nI y) - (nI j + nI y) / 3 * 3) gc gw rc (nI W) gl gs ky fi sn rk rf rs me := by
            intro y hy
            have yl : y ≤ 2 := by rw [hy]; split <;> omega
            unfold wY_walk_95
            refine ⟨by decide, nm_r d2 ?_⟩
            rw [← hy] at hp
            have n3 : (j + y) % 3 < 3 := Nat.mod_lt _ (by decide)
            have arg : nI (nt_pt c j) - nI j + (nI j + nI y - (nI j + nI y) / 3 * 3) = nI (nt_pt c ((j + y) % 3)) := by
              rw [nI_add, xa_rem3 (by omega), pk_sub (by unfold nt_pt; omega), nI_add]
              exact congrArg nI (by unfold nt_pt; omega)
            have tp : 2 ^ (f + 1) = 2 * 2 ^ f := by rw [Nat.pow_succ]; omega
            have fin := ih (t / 2) (s.1 (nt_pt c ((j + y) % 3))) (by omega) (by omega) (hZ _) hp
            refine yb_across hY arg (yc_lt n3 hc hk) hW (fun e0 => ?_) (fun q e0 => ?_)
            · rw [e0] at fin; exact fin
            · rw [e0] at fin; exact fin
          refine pk_eq (t % 2) 1 (fun h => ⟨xa_3ne, ?_⟩) (fun h => ⟨xa_3ne, ?_⟩)
          · exact go' 1 (by rw [if_pos h])
          · exact go' 2 (by rw [if_neg h])
end
theorem i_vc_walk {k : Nat} {u : SX} {v : SY} (I : i_Rel k u v) (hk : k + 3 ≤ 1536) (v1 : Int32) (v2 : Int32) : wpX_walk (fun r u' => wpY_walk (fun r' v' => r' = r ∧ i_Rel (k + 3) u' v') v v1 v2) u v1 v2 := by
  obtain ⟨fc, fk, fm, fd, fl, ft, fw, kx, wi, ki, go, ot, wa, se, qu⟩ := u
  obtain ⟨gc, gw, rc, rw, gl, gs, ky, fi, sn, rk, rf, rs, me⟩ := v
  obtain ⟨n, V, m, rfl, rfl, rfl, rfl, hB, hK, hX, hY, hf⟩ := id I
  have hV := fn_V hB hY
  refine br_c (fun p1 => br_t p1 ⟨rfl, I⟩) (fun p1 => br_c (fun p2 => br_f p1 (br_t p2 ⟨rfl, I⟩)) (fun p2 => br_c (fun p3 => br_f p1 (br_f p2 (br_t p3 ⟨rfl, I⟩))) (fun p3 => br_c (fun p4 => ?_) (fun p4 => br_f p1 (br_f p2 (br_f p3 (br_f p4 ⟨rfl, I⟩)))))))
  obtain ⟨x, hx, rfl⟩ := nI_of2 (M := 3) (n := 3) (by decide) p1 (Int32.not_lt.mp p2)
  obtain ⟨t, ht, rfl⟩ := nI_of2 (M := 4095) (n := 4095) (by decide) p3 p4
  refine xg_run hB hK hX hf fun fm fd fl ft fw ki go ot wa hD => ?_
  have rel : ∀ rc rw gl gs rk rf rs, i_Rel (k + 3) (nI n, 1, fm, fd, fl, ft, fw, ky, wi, ki, go, ot, wa, se, qu) (nI n, nI V, rc, rw, gl, gs, ky, fi, sn, rk, rf, rs, me) := fun _ _ _ _ _ _ _ => ⟨n, V, m, rfl, rfl, rfl, rfl, hB, hK, hX, hY, Or.inr ⟨rfl, hD⟩⟩
  refine br_c (fun h0 => ?_) (fun h0 => ?_)
  · rcases id hD with ⟨_, xk, xlv, xkd, xs, xwt, xlx, xj, xv, xN, x1, x2, x3, x4, x5, x6, x7, x8⟩ | ⟨a, _⟩
    · subst x1
      have xI := nt_stn_inv (bs_KK _) _ _ _ (bs_inv hB) x6
      have a1 : (1470 : Int32) + nI x = nI (xa_xi x) := by
        rw [show (1470 : Int32) = nI 1470 from rfl, nI_add, show xa_xi x = 1470 + x from if_pos (by omega)]
      have b1 := xa_xi_lt (show x < 1474 by omega)
      have rd := (x4.1.2.2.1 x (Or.inl (by omega))).2
      have hZ := qc_Zm xI x5 x4.1.2.1
      rw [a1]
      refine ⟨vp_in_nI b1 (by decide), nm_r (e' := xa_ex (xs.1 x)) (by rw [nI_clamp (by omega)]; exact rd) ⟨13, ?_⟩⟩
      refine qc_X x4 hZ 12 0 t _ rfl (by omega) (hZ x) ?_
      refine br_f p1 (br_f p2 (br_f p3 (br_t p4 ?_)))
      refine yd_run hB hK hY (by omega) fun r' rc rw gl gs rk rf rs hE => ?_
      obtain ⟨b, yk, ylv, ykd, ys, yW, yly, yv, y1, y2, y3, y4, y5, y6, y7⟩ := fn_meet2 (bs_KK _) (bs_inv hB) x6 x7 x8 hE
      subst y1 y2
      refine br_f (by rw [b]; decide) ?_
      have hZ' := qc_Zm xI y6 y5.2.1.1
      have e1 := x5.2.2.2.2.1 x (by omega)
      have e2 := y6.2.2.2.2.1 x (by omega)
      rw [nt_pi_lo (by omega)] at e1 e2
      have eq : nI (qc_wk ykd ys.1 12 t (ys.1 x)) = nI (qc_wk xkd xs.1 12 t (xs.1 x)) := by
        rw [← qc_name xI x5 x4.1.2.1 12 t _ (hZ x), ← qc_name xI y6 y5.2.1.1 12 t _ (hZ' x), ← e1, ← e2]
      have fin := fun post hp => qd_Y (post := post) y5 y7 hZ' 12 t (ys.1 x) (by omega) (by omega) (hZ' x) hp (gc := nI n) (gw := nI V) (rc := nI yk) (gl := gl) (gs := gs) (ky := ky) (fi := fi) (sn := sn) (me := me)
      refine yb_across y5.2.1 rfl (by omega) y7 (fun z => ⟨13, ?_⟩) (fun q z => ⟨13, ?_⟩)
      · have := fin (fun r' v' => r' = nI (qc_wk xkd xs.1 12 t (xs.1 x)) ∧ i_Rel (k + 3) (nI n, 1, nI xk, fd, fl, ft, fw, ky, wi, ki, go, ot, wa, se, qu) v') ⟨eq, rel _ _ _ _ _ _ _⟩
        rw [z] at this; exact this
      · have := fin (fun r' v' => r' = nI (qc_wk xkd xs.1 12 t (xs.1 x)) ∧ i_Rel (k + 3) (nI n, 1, nI xk, fd, fl, ft, fw, ky, wi, ki, go, ot, wa, se, qu) v') ⟨eq, rel _ _ _ _ _ _ _⟩
        rw [z] at this; exact this
    · rw [a] at h0; exact absurd h0 (by decide)
  · refine br_f p1 (br_f p2 (br_f p3 (br_t p4 ?_)))
    refine yd_run hB hK hY (by omega) fun r rc rw gl gs rk rf rs hE => ?_
    rcases fn_meet (bs_KK _) (bs_inv hB) hD hE with ⟨a, b⟩ | ⟨a, b, _⟩
    · exact br_t b ⟨rfl, rel _ _ _ _ _ _ _⟩
    · exact absurd a h0
end
section
/-! reach: the least set, X's queue -/
def qe_cl (m : Nat → Option Nat) (e : Nat) (S : Nat → Prop) : Prop := (∀ c t, t < 3 → m e = some (nt_pt c t) → S c) ∧ (∀ c t c' t', t < 3 → t' < 3 → S c → m (nt_pt c t) = some (nt_pt c' t') → S c')
def qe_R (m : Nat → Option Nat) (e c : Nat) : Prop := ∀ S, qe_cl m e S → S c
theorem qe_R_cl {m : Nat → Option Nat} {e : Nat} : qe_cl m e (qe_R m e) := by
  refine ⟨fun c t ht h S hS => hS.1 c t ht h, fun c t c' t' ht ht' hc h S hS => hS.2 c t c' t' ht ht' (hc S hS) h⟩
theorem fn_cnt_map {P : Nat → Prop} {v : Nat → Nat} {r : Nat} (h : fn_Cnt P r) (hv : ∀ x y, P x → P y → v x = v y → x = y) : fn_Cnt (fun n => ∃ c, P c ∧ n = v c) r := by
  obtain ⟨L, a1, a2, a3⟩ := h
  refine ⟨L.map v, ?_, fun n => ?_, by rw [List.length_map, a3]⟩
  · unfold List.Nodup
    rw [List.pairwise_map]
    exact List.Pairwise.imp_of_mem (fun {a b} ha hb hne e => hne (hv a b ((a2 a).mp ha) ((a2 b).mp hb) e)) a1
  · rw [List.mem_map]
    constructor
    · rintro ⟨c, hc, rfl⟩; exact ⟨c, (a2 c).mp hc, rfl⟩
    · rintro ⟨c, hc, rfl⟩; exact ⟨c, (a2 c).mpr hc, rfl⟩
section
variable {K : Nat → Nat} {k : Nat} {v : Nat → Nat} {lv : Nat → Bool} {kd : Nat → Nat} {s : nt_S} {N : nt_N} {e : Nat}
theorem qe_live (hI : nt_Inv K N) (hN : nt_Nm K k v lv kd s N) (hm : nt_Mt s.1) {c : Nat} (h : qe_R s.1 e c) : c < k ∧ lv c = true := by
  refine h (fun c => c < k ∧ lv c = true) ⟨fun c t ht z => ?_, fun c t c' t' ht ht' _ z => ?_⟩
  · exact yd_live hI hN ht (hm _ _ z).1
  · exact yd_live hI hN ht' (hm _ _ z).1
theorem qe_some (hN : nt_Nm K k v lv kd s N) {p n t : Nat} (hp : p < 4 + 3 * k) (ht : t < 3) (h : N.2.1 (nt_pi v p) = some (nt_pt n t)) : ∃ c, c < k ∧ v c = n ∧ s.1 p = some (nt_pt c t) := by
  have T := hN.2.2.2.2
  rw [T.1 p hp] at h
  cases z : s.1 p with
  | none => rw [z] at h; cases h
  | some q =>
    rw [z, Option.map_some] at h
    have h := Option.some.inj h
    have hq := (T.2.1 _ _ z).2
    rcases nt_port q with q4 | ⟨c, t', ht', rfl⟩
    · rw [nt_pi_lo q4] at h
      exact absurd h (xc_lt4 q4)
    · rw [nt_pi_pt ht', nt_pteq ht' ht] at h
      rw [h.2] at *
      exact ⟨c, (nt_pt_lt ht).mp hq, h.1, rfl⟩
theorem qe_name (hI : nt_Inv K N) (hN : nt_Nm K k v lv kd s N) (hm : nt_Mt s.1) (he : e < 4) (n : Nat) : qe_R N.2.1 e n ↔ ∃ c, qe_R s.1 e c ∧ n = v c := by
  constructor
  · intro h
    refine h (fun n => ∃ c, qe_R s.1 e c ∧ n = v c) ⟨fun n t ht z => ?_, fun n t n' t' ht ht' hn z => ?_⟩
    · rw [show N.2.1 e = N.2.1 (nt_pi v e) by rw [nt_pi_lo he]] at z
      obtain ⟨c, hc, h1, h2⟩ := qe_some hN (by omega) ht z
      exact ⟨c, qe_R_cl.1 c t ht h2, h1.symm⟩
    · obtain ⟨c, hc, rfl⟩ := hn
      have hck := (qe_live hI hN hm hc).1
      rw [← nt_pi_pt ht] at z
      obtain ⟨c', hc', h1, h2⟩ := qe_some hN ((nt_pt_lt ht).mpr hck) ht' z
      exact ⟨c', qe_R_cl.2 c t c' t' ht ht' hc h2, h1.symm⟩
  · rintro ⟨c, hc, rfl⟩
    have T := hN.2.2.2.2
    have q := hc (fun c => c < k ∧ qe_R N.2.1 e (v c)) ⟨fun c t ht z => ?_, fun c t c' t' ht ht' hn z => ?_⟩
    · exact q.2
    · refine ⟨(yd_live hI hN ht (hm _ _ z).1).1, qe_R_cl.1 (v c) t ht ?_⟩
      have := T.1 e (by omega)
      rw [nt_pi_lo he, z, Option.map_some, nt_pi_pt ht] at this
      exact this
    · refine ⟨(yd_live hI hN ht' (hm _ _ z).1).1, qe_R_cl.2 (v c) t (v c') t' ht ht' hn.2 ?_⟩
      have := T.1 (nt_pt c t) ((nt_pt_lt ht).mpr hn.1)
      rw [z, Option.map_some, nt_pi_pt ht, nt_pi_pt ht'] at this
      exact this
theorem qe_cnt (hI : nt_Inv K N) (hN : nt_Nm K k v lv kd s N) (hm : nt_Mt s.1) (he : e < 4) {r : Nat} (h : fn_Cnt (qe_R s.1 e) r) : fn_Cnt (qe_R N.2.1 e) r :=
  fn_cnt_s (fn_cnt_map (v := v) h fun x y hx hy z => hN.1 x y (qe_live hI hN hm hx).1 (qe_live hI hN hm hy).1 z) (qe_name hI hN hm he)
end
/-- X's queue holds n cells that can be reached, each once; seen says which -/
def qe_S (k n : Nat) (qu : Nat → Int32) (c : Nat) : Prop := c < k ∧ ∃ i, i < n ∧ qu i = nI c
def qe_I (k : Nat) (R : Nat → Prop) (n : Nat) (se qu : Nat → Int32) : Prop := (∀ i, i < n → ∃ c, c < k ∧ qu i = nI c) ∧ fn_Cnt (qe_S k n qu) n ∧ (∀ c, c < k → (qe_S k n qu c → se c = 1) ∧ (¬ qe_S k n qu c → se c = 0)) ∧ (∀ c, qe_S k n qu c → R c)
section
variable {fc fk fm fd fl ft fw : Int32} {kx wi ki go ot wa se qu : Nat → Int32}
variable {k : Nat} {R : Nat → Prop}
theorem qe_enter {post : Int32 → SX → Prop} {n : Nat} {z : Option Nat} (hI : qe_I k R n se qu) (hk : k ≤ 490) (hz : ∀ q, z = some q → q < 4 ∨ ∃ c t, t < 3 ∧ c < k ∧ R c ∧ q = nt_pt c t) (H : ∀ n' se' qu', qe_I k R n' se' qu' → n ≤ n' → (∀ i, i < n → qu' i = qu i) → (∀ c t, t < 3 → z = some (nt_pt c t) → qe_S k n' qu' c) → post (nI n') (fc, fk, fm, fd, fl, ft, fw, kx, wi, ki, go, ot, wa, se', qu')) : wpX_enter post (fc, fk, fm, fd, fl, ft, fw, kx, wi, ki, go, ot, wa, se, qu) (xa_ex z) (nI n) := by
  obtain ⟨i1, i2, i3, i4⟩ := id hI
  have hn : n ≤ k := fn_cnt_le i2 (fun c h => h.1)
  cases z with
  | none => exact br_t rfl (H n se qu hI (Nat.le_refl n) (fun _ _ => rfl) (fun c t _ e => by cases e))
  | some q =>
    rw [xa_ex_some]
    rcases hz q rfl with h4 | ⟨c, t, ht, hc, hR, rfl⟩
    · have e : xa_xi q = 1470 + q := if_pos h4
      rw [e]
      refine br_f (xa_m1 (by omega)) (pk_le 1470 (1470 + q) (fun _ => ?_) (fun z => by omega))
      exact H n se qu hI (Nat.le_refl n) (fun _ _ => rfl) (fun c t _ e => absurd (Option.some.inj e) (xc_lt4 h4))
    · rw [xa_xi_pt]
      have dv : nI (3 * c + t) / 3 = nI c := by rw [xa_div3 (by omega)]; exact congrArg nI (by omega)
      have cc : (nI c).toNatClampNeg = c := nI_clamp (by omega)
      have ic : vp_in (nI c) 490 := vp_in_nI (by omega) (by decide)
      refine br_f (xa_m1 (by omega)) (pk_le 1470 (3 * c + t) (fun z => by omega) (fun _ => ⟨xa_3ne, ?_⟩))
      rw [dv, cc]
      refine ⟨ic, ?_⟩
      have tgt : ∀ c' t', t' < 3 → some (nt_pt c t) = some (nt_pt c' t') → c' = c := fun c' t' ht' e => ((nt_pteq ht ht').mp (Option.some.inj e)).1.symm
      by_cases hs : qe_S k n qu c
      · refine br_f (by rw [(i3 c hc).1 hs]; decide) (H n se qu hI (Nat.le_refl n) (fun _ _ => rfl) (fun c' t' ht' e => ?_))
        rw [tgt c' t' ht' e]; exact hs
      · have S' : ∀ x, qe_S k (n + 1) (upd qu n (nI c)) x ↔ qe_S k n qu x ∨ x = c := by
          intro x
          constructor
          · rintro ⟨xk, i, hi, e⟩
            by_cases z : i = n
            · rw [z, pk_us, nI_eq (by omega) (by omega)] at e
              exact Or.inr e.symm
            · rw [pk_un z] at e
              exact Or.inl ⟨xk, i, by omega, e⟩
          · rintro (⟨xk, i, hi, e⟩ | rfl)
            · exact ⟨xk, i, by omega, by rw [pk_un (by omega)]; exact e⟩
            · exact ⟨hc, n, by omega, pk_us⟩
        have c2 := fn_cnt_a i2 hs S'
        have hn' : n + 1 ≤ k := fn_cnt_le c2 (fun x h => h.1)
        refine br_t ((i3 c hc).2 hs) ⟨xa_3ne, ic, nm_r (e' := upd se c 1) rfl ⟨xa_3ne, vp_in_nI (by omega) (by decide), nm_r (e' := upd qu n (nI c)) (by rw [nI_clamp (by omega)]) ?_⟩⟩
        rw [nI_1]
        refine H (n + 1) _ _ ⟨?_, c2, ?_, ?_⟩ (by omega) (fun i hi => pk_un (by omega)) (fun c' t' ht' e => ?_)
        · intro i hi
          by_cases z : i = n
          · exact ⟨c, hc, by rw [z, pk_us]⟩
          · rw [pk_un z]; exact i1 i (by omega)
        · intro x hx
          by_cases z : x = c
          · rw [z, pk_us]
            exact ⟨fun _ => rfl, fun y => absurd ((S' c).mpr (Or.inr rfl)) y⟩
          · rw [pk_un z]
            refine ⟨fun y => (i3 x hx).1 ?_, fun y => (i3 x hx).2 fun w => y ((S' x).mpr (Or.inl w))⟩
            rcases (S' x).mp y with y | y
            · exact y
            · exact absurd y z
        · intro x hx
          rcases (S' x).mp hx with y | y
          · exact i4 x y
          · rw [y]; exact hR
        · rw [tgt c' t' ht' e]; exact (S' c).mpr (Or.inr rfl)
end
/-- the cells ahead of place g in the queue are done, and the first one is there -/
def qe_D (k : Nat) (m : Nat → Option Nat) (e n : Nat) (qu : Nat → Int32) (g : Nat) : Prop := (∀ i, i < g → ∀ c, c < k → qu i = nI c → ∀ t c' t', t < 3 → t' < 3 → m (nt_pt c t) = some (nt_pt c' t') → qe_S k n qu c') ∧ (∀ c t, t < 3 → m e = some (nt_pt c t) → qe_S k n qu c)
section
variable {fc fk fm fd fl ft fw : Int32} {kx wi ki go ot wa se qu : Nat → Int32}
variable {lv : Nat → Bool} {kd v : Nat → Nat} {s : nt_S} {k e : Nat}
theorem qe_upS {n n' c : Nat} {q q' : Nat → Int32} (h : qe_S k n q c) (hn : n ≤ n') (hq : ∀ i, i < n → q' i = q i) : qe_S k n' q' c := by
  obtain ⟨a, j, hj, b⟩ := h
  exact ⟨a, j, by omega, by rw [hq j hj]; exact b⟩
theorem qe_up {n n' g : Nat} {m : Nat → Option Nat} {q q' : Nat → Int32} (h : qe_D k m e n q g) (hg : g ≤ n) (hn : n ≤ n') (hq : ∀ i, i < n → q' i = q i) : qe_D k m e n' q' g := by
  refine ⟨?_, fun c t ht z => qe_upS (h.2 c t ht z) hn hq⟩
  intro i hi c hc e t c' t' ht ht' z
  rw [hq i (by omega)] at e
  exact qe_upS (h.1 i hi c hc e t c' t' ht ht' z) hn hq
theorem qe_in {post : Int32 → SX → Prop} {J : Int32 → Int32 → Int32 → Int32 → Int32 → Int32 → Int32 → Int32 → Int32 → (Nat → Int32) → (Nat → Int32) → (Nat → Int32) → (Nat → Int32) → (Nat → Int32) → (Nat → Int32) → (Nat → Int32) → (Nat → Int32) → Prop} {w lx e0 g c : Nat} {wt : Nat → Int32} (hJ : xd_J k lv kd s ki go ot w wt lx e0) (hl : lv c = true) (hc : c < k) (hR : qe_R s.1 e c) (hZ : ∀ p q, s.1 p = some q → q < 4 ∨ ∃ c t, t < 3 ∧ c < k ∧ lv c = true ∧ q = nt_pt c t) (H : ∀ n se qu, qe_I k (qe_R s.1 e) n se qu → g < n → qe_D k s.1 e n qu (g + 1) → J (nI n) (nI (g + 1)) fc fk fm fd fl ft fw kx wi ki go ot wa se qu) :
    ∀ (f i n : Nat) (se qu : Nat → Int32), 4 ≤ f + i → i ≤ 3 → qe_I k (qe_R s.1 e) n se qu → g < n → qu g = nI c → qe_D k s.1 e n qu g → (∀ t c' t', t < i → t' < 3 → s.1 (nt_pt c t) = some (nt_pt c' t') → qe_S k n qu c') → wX_reach_81 post J (nI g) f (nI n) (nI i) fc fk fm fd fl ft fw kx wi ki go ot wa se qu := by
  obtain ⟨hM, hG, hK⟩ := id hJ
  have hk := hM.1
  intro f
  induction f with
  | zero => intro i n se qu h1 h2; omega
  | succ f ih =>
    intro i n se qu h1 h2 h3 h4 h5 h6 h7
    have hn : n ≤ k := fn_cnt_le h3.2.1 (fun c h => h.1)
    have cg : (nI g).toNatClampNeg = g := nI_clamp (by omega)
    refine pk_le 3 i (fun h => ?_) (fun h => ?_)
    · refine nm_r (nI_1 g) (H n se qu h3 h4 ⟨?_, h6.2⟩)
      intro j hj c1 hc1 e1 t c' t' ht ht' z
      by_cases jg : j = g
      · rw [jg, h5, nI_eq (by omega) (by omega)] at e1
        subst e1
        exact h7 t c' t' (by omega) ht' z
      · exact h6.1 j (by omega) c1 hc1 e1 t c' t' ht ht' z
    · refine ⟨vp_in_nI (by omega) (by decide), ?_⟩
      rw [cg, h5, xa_mul3, nI_add, nI_clamp (by omega)]
      refine ⟨vp_in_nI (by omega) (by decide), ?_⟩
      have rd := (hM.2.2.1 (nt_pt c i) ((xc_A_pt (by omega)).mpr ⟨hc, hl⟩)).2
      rw [xa_xi_pt] at rd
      rw [rd]
      refine qe_enter h3 hk (fun q z => ?_) (fun n' se' qu' a1 a2 a3 a4 => ?_)
      · rcases hZ _ _ z with y | ⟨c', t', y1, y2, y3, y4⟩
        · exact Or.inl y
        · exact Or.inr ⟨c', t', y1, y2, qe_R_cl.2 c i c' t' (by omega) y1 hR (by rw [z, y4]), y4⟩
      · refine nm_r (nI_1 i) (ih (i + 1) n' se' qu' (by omega) (by omega) a1 (by omega) (by rw [a3 g h4]; exact h5) (qe_up h6 (by omega) a2 a3) ?_)
        intro t c' t' ht ht' z
        by_cases ti : t = i
        · rw [ti] at z; exact a4 c' t' ht' z
        · exact qe_upS (h7 t c' t' (by omega) ht' z) a2 a3
theorem qe_out {post : Int32 → SX → Prop} {w lx e0 : Nat} {wt : Nat → Int32} (hJ : xd_J k lv kd s ki go ot w wt lx e0) (hZ : ∀ p q, s.1 p = some q → q < 4 ∨ ∃ c t, t < 3 ∧ c < k ∧ lv c = true ∧ q = nt_pt c t) (hL : ∀ c, qe_R s.1 e c → lv c = true) (H : ∀ n se qu, fn_Cnt (qe_R s.1 e) n → post (nI n) (fc, fk, fm, fd, fl, ft, fw, kx, wi, ki, go, ot, wa, se, qu)) :
    ∀ (f g n : Nat) (se qu : Nat → Int32), k + 1 ≤ f + g → g ≤ n → qe_I k (qe_R s.1 e) n se qu → qe_D k s.1 e n qu g → wX_reach_66 post f (nI n) (nI g) fc fk fm fd fl ft fw kx wi ki go ot wa se qu := by
  have hk := hJ.1.1
  intro f
  induction f with
  | zero =>
    intro g n se qu h1 h2 h3
    have hn : n ≤ k := fn_cnt_le h3.2.1 (fun c h => h.1)
    omega
  | succ f ih =>
    intro g n se qu h1 h2 h3 h4
    have hn : n ≤ k := fn_cnt_le h3.2.1 (fun c h => h.1)
    refine pk_le n g (fun h => ?_) (fun h => ?_)
    · obtain rfl : g = n := by omega
      refine H g se qu (fn_cnt_s h3.2.1 fun c => ⟨fun hc => ?_, fun hc => h3.2.2.2 c hc⟩)
      refine hc (qe_S k g qu) ⟨h4.2, fun c t c' t' ht ht' hs z => ?_⟩
      obtain ⟨ck, i, hi, hq⟩ := hs
      exact h4.1 i hi c ck hq t c' t' ht ht' z
    · refine pk_le 490 g (fun z => by omega) (fun _ => ⟨4, ?_⟩)
      obtain ⟨c, hc, hq⟩ := h3.1 g h
      have hR := h3.2.2.2 c ⟨hc, g, h, hq⟩
      exact qe_in hJ (hL c hR) hc hR hZ (fun n' se' qu' b1 b2 b3 => ih (g + 1) n' se' qu' (by omega) (by omega) b1 b3) 4 0 n se qu (by omega) (by omega) h3 h hq h4 (fun t c' t' ht => by omega)
theorem qe_X {post : Int32 → SX → Prop} {w lx e0 : Nat} {wt : Nat → Int32} (hJ : xd_J k lv kd s ki go ot w wt lx e0) (hZ : ∀ p q, s.1 p = some q → q < 4 ∨ ∃ c t, t < 3 ∧ c < k ∧ lv c = true ∧ q = nt_pt c t) (hL : ∀ c, qe_R s.1 e c → lv c = true) (he : e < 4) (H : ∀ n se qu, fn_Cnt (qe_R s.1 e) n → post (nI n) (fc, fk, nI k, fd, fl, ft, fw, kx, wi, ki, go, ot, wa, se, qu)) :
    ∀ (f i : Nat) (se : Nat → Int32), k + 1 ≤ f + i → i ≤ k → (∀ c, c < i → se c = 0) → wX_reach_27 post (nI e) fc fk (nI k) fd fl ft fw f (nI i) kx wi ki go ot wa se qu := by
  have hk := hJ.1.1
  intro f
  induction f with
  | zero => intro i se h1 h2; omega
  | succ f ih =>
    intro i se h1 h2 h3
    refine pk_le k i (fun h => ?_) (fun h => ?_)
    · have a1 : (1470 : Int32) + nI e = nI (xa_xi e) := by
        rw [show (1470 : Int32) = nI 1470 from rfl, nI_add, show xa_xi e = 1470 + e from if_pos (by omega)]
      have b1 := xa_xi_lt (show e < 1474 by omega)
      have rd := (hJ.1.2.2.1 e (Or.inl he)).2
      rw [a1, nI_clamp (by omega), rd]
      refine ⟨vp_in_nI b1 (by decide), ?_⟩
      have ns : ∀ c, ¬ qe_S k 0 qu c := fun c z => by obtain ⟨_, j, hj, _⟩ := z; omega
      refine qe_enter (n := 0) (R := qe_R s.1 e) ⟨fun j hj => by omega, fn_cnt_0 ns, fun c hc => ⟨fun z => absurd z (ns c), fun _ => h3 c (by omega)⟩, fun c z => absurd z (ns c)⟩ hk (fun q z => ?_) (fun n' se' qu' c1 c2 c3 c4 => ⟨k + 1, ?_⟩)
      · rcases hZ _ _ z with y | ⟨c', t', y1, y2, y3, y4⟩
        · exact Or.inl y
        · exact Or.inr ⟨c', t', y1, y2, qe_R_cl.1 c' t' y1 (by rw [z, y4]), y4⟩
      · exact qe_out hJ hZ hL H (k + 1) 0 n' se' qu' (by omega) (by omega) c1 ⟨fun i hi => by omega, c4⟩
    · refine ⟨vp_in_nI (by omega) (by decide), nm_r (e' := upd se i 0) (by rw [nI_clamp (by omega)]; rfl) (nm_r (nI_1 i) (ih (i + 1) _ (by omega) (by omega) ?_))⟩
      intro c hc
      by_cases z : c = i
      · rw [z, pk_us]
      · rw [pk_un z]; exact h3 c (by omega)
end
end
section
/-! reach: Y's spreading, and the two together -/
def qf_B (k : Nat) (me : Nat → Int32) : Prop := ∀ c, c < k → me c = 0 ∨ me c = 1
theorem qf_ex (k : Nat) (me : Nat → Int32) : ∃ r, fn_Cnt (fun c => c < k ∧ me c = 1) r := by
  induction k with
  | zero => exact ⟨0, fn_cnt_0 fun c z => by omega⟩
  | succ k ih =>
    obtain ⟨r, hr⟩ := ih
    by_cases h : me k = 1
    · refine ⟨r + 1, fn_cnt_a (a := k) hr (fun z => by omega) fun c => ⟨?_, ?_⟩⟩
      · rintro ⟨h1, h2⟩
        by_cases z : c = k
        · exact Or.inr z
        · exact Or.inl ⟨by omega, h2⟩
      · rintro (⟨h1, h2⟩ | rfl)
        · exact ⟨by omega, h2⟩
        · exact ⟨by omega, h⟩
    · refine ⟨r, fn_cnt_s hr fun c => ⟨?_, ?_⟩⟩
      · rintro ⟨h1, h2⟩
        refine ⟨Decidable.byContradiction fun z => ?_, h2⟩
        rw [show c = k by omega] at h2
        exact h h2
      · rintro ⟨h1, h2⟩; exact ⟨by omega, h2⟩
theorem qf_more {P P' : Nat → Prop} {r r' a : Nat} (h : fn_Cnt P r) (h' : fn_Cnt P' r') (hs : ∀ c, P c → P' c) (ha : P' a) (hn : ¬ P a) : r + 1 ≤ r' := by
  obtain ⟨L, a1, a2, a3⟩ := fn_cnt_a (P' := fun c => P c ∨ c = a) h hn (fun _ => Iff.rfl)
  obtain ⟨L', b1, b2, b3⟩ := h'
  rw [← a3, ← b3]
  refine List.Nodup.length_le_of_subset a1 (fun x hx => (b2 x).mpr ?_)
  rcases (a2 x).mp hx with y | y
  · exact hs x y
  · rw [y]; exact ha
theorem qf_same {f : Nat → Int32} {c : Nat} {x : Int32} (h : f c = x) : upd f c x = f := by
  funext j
  by_cases e : j = c
  · rw [e, pk_us, h]
  · rw [pk_un e]
section
variable {gc gw rc rw gl gs : Int32} {ky fi sn rk rf rs me : Nat → Int32}
variable {lv : Nat → Bool} {kd v : Nat → Nat} {s : nt_S} {k e : Nat}
theorem qf_80 {post : Int32 → SY → Prop} {J : Int32 → Int32 → (Nat → Int32) → (Nat → Int32) → (Nat → Int32) → (Nat → Int32) → (Nat → Int32) → (Nat → Int32) → (Nat → Int32) → Prop} {c d i : Nat} {z0 : Int32} (hB : qf_B k me) (hk : k ≤ 490) (hc : c < k) (hd : d < k) (H0 : me c = 0 → me d = 0 → J z0 (nI (i + 1)) ky fi sn rk rf rs me) (H1 : (me c = 1 ∨ me d = 1) → J z0 (nI (i + 1)) ky fi sn rk rf rs (upd (upd me c 1) d 1)) : wY_spread_80 post J (nI i) (nI c) (nI d) z0 gc gw rc rw gl gs ky fi sn rk rf rs me := by
  have cc : (nI c).toNatClampNeg = c := nI_clamp (by omega)
  have cd : (nI d).toNatClampNeg = d := nI_clamp (by omega)
  have ic : vp_in (nI c) 500 := vp_in_nI (by omega) (by decide)
  have id : vp_in (nI d) 500 := vp_in_nI (by omega) (by decide)
  have fin : (me c = 1 ∨ me d = 1) → wY_spread_100 post J z0 (nI i) (nI c) (nI d) gc gw rc rw gl gs ky fi sn rk rf rs me := by
    intro h
    unfold wY_spread_100 wY_spread_105
    exact ⟨ic, nm_r (e' := upd me c 1) (by rw [cc]; rfl) ⟨id, nm_r (e' := upd (upd me c 1) d 1) (by rw [cd]; rfl) (nm_r (nI_1 i) (H1 h))⟩⟩
  unfold wY_spread_80
  refine ⟨ic, ?_⟩
  rw [cc, cd]
  rcases hB c hc with h | h
  · refine br_t h ⟨id, ?_⟩
    rcases hB d hd with h' | h'
    · refine br_t h' ?_
      unfold wY_spread_105
      refine ⟨ic, nm_r (e' := me) (by rw [cc]; exact qf_same h) ⟨id, nm_r (e' := me) (by rw [cd]; exact qf_same h') (nm_r (nI_1 i) (H0 h h'))⟩⟩
    · exact br_f (by rw [h']; decide) (fin (Or.inr h'))
  · exact br_f (by rw [h]; decide) (fin (Or.inl h))
theorem qf_upd1 {me : Nat → Int32} {c d x : Nat} : upd (upd me c 1) d 1 x = if x = c ∨ x = d then 1 else me x := by
  by_cases e : x = d
  · rw [e, pk_us, if_pos (Or.inr rfl)]
  · rw [pk_un e]
    by_cases e' : x = c
    · rw [e', pk_us, if_pos (Or.inl rfl)]
    · rw [pk_un e', if_neg (by omega)]
theorem qf_spreadL {post : Int32 → SY → Prop} {W ly e0 : Nat} {me0 : Nat → Int32} (hJ : yc_J k lv kd s rk rf rs W ly e0) (hW : W ≤ 520) (hZ : ∀ p q, s.1 p = some q → q < 4 ∨ ∃ c t, t < 3 ∧ c < k ∧ lv c = true ∧ q = nt_pt c t) (hB : qf_B k me0) (hR : ∀ c, c < k → me0 c = 1 → qe_R s.1 e c) (H0 : (∀ w, w < W → ∀ c t c' t', t < 3 → t' < 3 → rf w = nI (nt_pt c t) → rs w = nI (nt_pt c' t') → c < k → c' < k → me0 c = me0 c') → post 0 (gc, gw, rc, nI W, gl, gs, ky, fi, sn, rk, rf, rs, me0)) (H1 : ∀ me, qf_B k me → (∀ c, c < k → me c = 1 → qe_R s.1 e c) → (∀ c, c < k → me0 c = 1 → me c = 1) → (∃ c, c < k ∧ me0 c = 0 ∧ me c = 1) → post 1 (gc, gw, rc, nI W, gl, gs, ky, fi, sn, rk, rf, rs, me)) :
    ∀ (f i : Nat) (x : Int32) (me : Nat → Int32), W + 1 ≤ f + i → i ≤ W → ((x = 0 ∧ me = me0 ∧ (∀ w, w < i → ∀ c t c' t', t < 3 → t' < 3 → rf w = nI (nt_pt c t) → rs w = nI (nt_pt c' t') → c < k → c' < k → me0 c = me0 c')) ∨ (x = 1 ∧ qf_B k me ∧ (∀ c, c < k → me c = 1 → qe_R s.1 e c) ∧ (∀ c, c < k → me0 c = 1 → me c = 1) ∧ (∃ c, c < k ∧ me0 c = 0 ∧ me c = 1))) → wY_spread_4 post gc gw rc (nI W) gl gs f x (nI i) ky fi sn rk rf rs me := by
  obtain ⟨hk, hY, hK, hl⟩ := id hJ
  obtain ⟨a1, a2, a3, a4, a5⟩ := id hY
  intro f
  induction f with
  | zero => intro i x me h1 h2; omega
  | succ f ih =>
    intro i x me h1 h2 h3
    refine pk_le W i (fun h => ?_) (fun h => ?_)
    · rcases h3 with ⟨rfl, rfl, h3⟩ | ⟨rfl, q1, q2, q3, q4⟩
      · exact ⟨rfl, H0 (fun w hw => h3 w (by omega))⟩
      · exact ⟨rfl, H1 me q1 q2 q3 q4⟩
    · have ci : (nI i).toNatClampNeg = i := nI_clamp (by omega)
      have iv : vp_in (nI i) 520 := vp_in_nI (by omega) (by decide)
      obtain ⟨p, q, e1, e2, e3⟩ := a3 i h
      have e4 := (a1 _ _ e3).1
      have bp := a2 _ _ e3
      have bq := a2 _ _ e4
      have skip : (p < 4 ∨ q < 4) → wY_spread_4 post gc gw rc (nI W) gl gs f x (nI (i + 1)) ky fi sn rk rf rs me := by
        intro hpq
        refine ih (i + 1) x me (by omega) (by omega) ?_
        rcases h3 with ⟨x0, me_e, h3⟩ | h3
        · refine Or.inl ⟨x0, me_e, fun w hw c t c' t' ht ht' f1 f2 hc hc' => ?_⟩
          by_cases wi : w = i
          · exfalso
            rw [wi, e1] at f1
            rw [wi, e2] at f2
            have g1 := ya_nI bp (yc_lt ht hc hk) f1
            have g2 := ya_nI bq (yc_lt ht' hc' hk) f2
            rcases hpq with z | z
            · exact xc_lt4 z g1
            · exact xc_lt4 z g2
          · exact h3 w (by omega) c t c' t' ht ht' f1 f2 hc hc'
        · exact Or.inr h3
      refine ⟨iv, ?_⟩
      rw [ci, e1]
      refine pk_le p 3 (fun z => nm_r (nI_1 i) (skip (Or.inl (by omega)))) (fun zp => ⟨iv, ?_⟩)
      rw [e2]
      refine pk_le q 3 (fun z => nm_r (nI_1 i) (skip (Or.inr (by omega)))) (fun zq => ⟨iv, xa_3ne, ?_⟩)
      obtain ⟨c, t, ht, hc, rfl⟩ : ∃ c t, t < 3 ∧ c < k ∧ p = nt_pt c t := by
        rcases hZ _ _ e4 with y | ⟨c, t, y1, y2, _, y4⟩
        · omega
        · exact ⟨c, t, y1, y2, y4⟩
      obtain ⟨d, t', ht', hd, rfl⟩ : ∃ c t, t < 3 ∧ c < k ∧ q = nt_pt c t := by
        rcases hZ _ _ e3 with y | ⟨c, t, y1, y2, _, y4⟩
        · omega
        · exact ⟨c, t, y1, y2, y4⟩
      have dv : ∀ c t, t < 3 → c < k → (nI (nt_pt c t) - 4) / 3 = nI c := by
        intro c t ht hc
        rw [show (4 : Int32) = nI 4 from rfl, pk_sub (by unfold nt_pt; omega), xa_div3 (by unfold nt_pt; omega)]
        exact congrArg nI (by unfold nt_pt; omega)
      refine nm_r (dv c t ht hc) ⟨iv, xa_3ne, nm_r (dv d t' ht' hd) ?_⟩
      have cc : (nI c).toNatClampNeg = c := nI_clamp (by omega)
      have cd : (nI d).toNatClampNeg = d := nI_clamp (by omega)
      have ic : vp_in (nI c) 500 := vp_in_nI (by omega) (by decide)
      have id : vp_in (nI d) 500 := vp_in_nI (by omega) (by decide)
      have far : qf_B k me → (∀ c, c < k → me c = 1 → qe_R s.1 e c) → (∀ c, c < k → me0 c = 1 → me c = 1) → ((∃ c, c < k ∧ me0 c = 0 ∧ me c = 1) ∨ (me = me0 ∧ ¬ me c = me d)) → wY_spread_75 post (wY_spread_4 post gc gw rc (nI W) gl gs f) (nI i) (nI c) (nI d) gc gw rc (nI W) gl gs ky fi sn rk rf rs me := by
        intro q1 q2 q3 q4
        unfold wY_spread_75
        refine qf_80 q1 hk hc hd (fun z1 z2 => ?_) (fun z => ?_)
        · refine ih (i + 1) 1 me (by omega) (by omega) (Or.inr ⟨rfl, q1, q2, q3, ?_⟩)
          rcases q4 with q4 | ⟨_, q4⟩
          · exact q4
          · exact absurd (by rw [z1, z2]) q4
        · have nb : qf_B k (upd (upd me c 1) d 1) := by
            intro y hy
            rw [qf_upd1]
            split
            · exact Or.inr rfl
            · exact q1 y hy
          have nr : ∀ y, y < k → upd (upd me c 1) d 1 y = 1 → qe_R s.1 e y := by
            intro y hy hm
            rw [qf_upd1] at hm
            have rc : qe_R s.1 e c := by
              rcases z with z | z
              · exact q2 c hc z
              · exact qe_R_cl.2 d t' c t ht' ht (q2 d hd z) e4
            have rd : qe_R s.1 e d := by
              rcases z with z | z
              · exact qe_R_cl.2 c t d t' ht ht' (q2 c hc z) e3
              · exact q2 d hd z
            by_cases yy : y = c ∨ y = d
            · rcases yy with rfl | rfl
              · exact rc
              · exact rd
            · rw [if_neg yy] at hm; exact q2 y hy hm
          refine ih (i + 1) 1 _ (by omega) (by omega) (Or.inr ⟨rfl, nb, nr, fun y hy hm => ?_, ?_⟩)
          · rw [qf_upd1]; split
            · rfl
            · exact q3 y hy hm
          · rcases q4 with ⟨y, hy, y1, y2⟩ | ⟨q4, q5⟩
            · refine ⟨y, hy, y1, ?_⟩
              rw [qf_upd1]; split
              · rfl
              · exact y2
            · rcases q1 c hc with u | u
              · exact ⟨c, hc, by rw [← q4]; exact u, by rw [qf_upd1, if_pos (Or.inl rfl)]⟩
              · refine ⟨d, hd, ?_, by rw [qf_upd1, if_pos (Or.inr rfl)]⟩
                rw [← q4]
                rcases q1 d hd with u' | u'
                · exact u'
                · exact absurd (by rw [u, u']) q5
      rcases h3 with ⟨rfl, rfl, h3⟩ | ⟨rfl, q1, q2, q3, q4⟩
      · refine br_t rfl ⟨ic, id, ?_⟩
        rw [cc, cd]
        refine br_c (fun heq => ?_) (fun hne => far hB hR (fun _ _ h => h) (Or.inr ⟨rfl, hne⟩))
        have nx : wY_spread_4 post gc gw rc (nI W) gl gs f 0 (nI (i + 1)) ky fi sn rk rf rs me := by
          refine ih (i + 1) 0 me (by omega) (by omega) (Or.inl ⟨rfl, rfl, fun w hw c1 t1 c2 t2 ht1 ht2 f1 f2 hc1 hc2 => ?_⟩)
          by_cases wi : w = i
          · rw [wi, e1] at f1
            rw [wi, e2] at f2
            have g1 := (nt_pteq ht ht1).mp (ya_nI bp (yc_lt ht1 hc1 hk) f1)
            have g2 := (nt_pteq ht' ht2).mp (ya_nI bq (yc_lt ht2 hc2 hk) f2)
            rw [← g1.1, ← g2.1]; exact heq
          · exact h3 w (by omega) c1 t1 c2 t2 ht1 ht2 f1 f2 hc1 hc2
        refine qf_80 hB hk hc hd (fun _ _ => nx) (fun z => ?_)
        have both : me c = 1 ∧ me d = 1 := by
          rcases z with z | z
          · exact ⟨z, by rw [← heq]; exact z⟩
          · exact ⟨by rw [heq]; exact z, z⟩
        rw [qf_same (f := upd me c 1) (by rw [qf_same both.1]; exact both.2), qf_same both.1]
        exact nx
      · exact br_f (by decide) (far q1 q2 q3 (Or.inl q4))
theorem qf_count {post : Int32 → SY → Prop} (hk : k ≤ 490) (hB : qf_B k me) (H : ∀ r, fn_Cnt (fun c => c < k ∧ me c = 1) r → post (nI r) (gc, gw, nI k, rw, gl, gs, ky, fi, sn, rk, rf, rs, me)) :
    ∀ (f i r : Nat), k + 1 ≤ f + i → i ≤ k → fn_Cnt (fun c => c < i ∧ me c = 1) r → wY_reach_88 post gc gw (nI k) rw gl gs ky fi sn rk rf rs me f (nI r) (nI i) := by
  intro f
  induction f with
  | zero => intro i r h1 h2; omega
  | succ f ih =>
    intro i r h1 h2 h3
    refine pk_le k i (fun h => ?_) (fun h => ?_)
    · obtain rfl : i = k := by omega
      exact H r h3
    · refine ⟨vp_in_nI (by omega) (by decide), ?_⟩
      rw [nI_clamp (by omega)]
      rcases hB i h with z | z
      · refine br_t z (nm_r (nI_1 i) (ih (i + 1) r (by omega) (by omega) (fn_cnt_s h3 fun c => ⟨?_, ?_⟩)))
        · rintro ⟨a, b⟩
          refine ⟨Decidable.byContradiction fun y => ?_, b⟩
          rw [show c = i by omega, z] at b
          exact absurd b (by decide)
        · rintro ⟨a, b⟩; exact ⟨by omega, b⟩
      · refine br_f (by rw [z]; decide) (nm_r (nI_1 r) (nm_r (nI_1 i) (ih (i + 1) (r + 1) (by omega) (by omega) (fn_cnt_a (a := i) h3 (fun y => by omega) fun c => ⟨?_, ?_⟩))))
        · rintro ⟨a, b⟩
          by_cases y : c = i
          · exact Or.inr y
          · exact Or.inl ⟨by omega, b⟩
        · rintro (⟨a, b⟩ | rfl)
          · exact ⟨by omega, b⟩
          · exact ⟨by omega, z⟩
theorem qf_loop {post : Int32 → SY → Prop} {W ly e0 : Nat} (hJ : yc_J k lv kd s rk rf rs W ly e0) (hW : W ≤ 520) (hZ : ∀ p q, s.1 p = some q → q < 4 ∨ ∃ c t, t < 3 ∧ c < k ∧ lv c = true ∧ q = nt_pt c t) (hRk : ∀ c, qe_R s.1 e c → c < k) (H : ∀ r me, fn_Cnt (qe_R s.1 e) r → post (nI r) (gc, gw, nI k, nI W, gl, gs, ky, fi, sn, rk, rf, rs, me)) :
    ∀ (f r : Nat) (me : Nat → Int32), k + 2 ≤ f + r → fn_Cnt (fun c => c < k ∧ me c = 1) r → qf_B k me → (∀ c, c < k → me c = 1 → qe_R s.1 e c) → (∀ c t, t < 3 → s.1 e = some (nt_pt c t) → me c = 1) → wY_reach_70 post f 1 gc gw (nI k) (nI W) gl gs ky fi sn rk rf rs me := by
  obtain ⟨hk, hY, hK, hl⟩ := id hJ
  obtain ⟨a1, a2, a3, a4, a5⟩ := id hY
  intro f
  induction f with
  | zero =>
    intro r me h1 h2
    have := fn_cnt_le h2 (fun c h => h.1)
    omega
  | succ f ih =>
    intro r me h1 h2 h3 h4 h5
    have hr := fn_cnt_le h2 (fun c h => h.1)
    refine br_f (by decide) ⟨W + 1, ?_⟩
    refine qf_spreadL (e := e) hJ hW hZ h3 h4 (fun bal => ?_) (fun me' q1 q2 q3 q4 => ?_) (W + 1) 0 0 me (by omega) (by omega) (Or.inl ⟨rfl, rfl, fun w hw => by omega⟩)
    · obtain ⟨f, rfl⟩ : ∃ f', f = f' + 1 := ⟨f - 1, by omega⟩
      refine br_t rfl ⟨k + 1, ?_⟩
      refine qf_count hk h3 (fun r' hr' => H r' me (fn_cnt_s hr' fun c => ⟨fun hc => ?_, fun hc => h4 c hc.1 hc.2⟩)) (k + 1) 0 0 (by omega) (by omega) (fn_cnt_0 fun c z => by omega)
      refine hc (fun c => c < k ∧ me c = 1) ⟨fun c t ht z => ?_, fun c t c' t' ht ht' hs z => ?_⟩
      · exact ⟨hRk c (qe_R_cl.1 c t ht z), h5 c t ht z⟩
      · have hc' : c' < k := by
          rcases hZ _ _ z with y | ⟨c2, t2, y1, y2, _, y4⟩
          · exact absurd rfl (xc_lt4 y)
          · rw [((nt_pteq ht' y1).mp y4).1]; exact y2
        refine ⟨hc', ?_⟩
        obtain ⟨w, hw, hh⟩ := a4 _ _ z
        rcases hh with ⟨f1, f2⟩ | ⟨f1, f2⟩
        · rw [← bal w hw c t c' t' ht ht' f1 f2 hs.1 hc']; exact hs.2
        · rw [bal w hw c' t' c t ht' ht f1 f2 hc' hs.1]; exact hs.2
    · obtain ⟨r', hr'⟩ := qf_ex k me'
      obtain ⟨c, hc, c0, c1⟩ := q4
      have := qf_more (a := c) h2 hr' (fun c hc => ⟨hc.1, q3 c hc.1 hc.2⟩) ⟨hc, c1⟩ (fun z => by rw [c0] at z; exact absurd z.2 (by decide))
      exact ih r' me' (by omega) hr' q1 q2 (fun c t ht z => q3 c (hRk c (qe_R_cl.1 c t ht z)) (h5 c t ht z))
theorem qf_Y {post : Int32 → SY → Prop} {W ly e0 : Nat} {z : Option Nat} (hJ : yc_J k lv kd s rk rf rs W ly e0) (hW : W ≤ 520) (hZ : ∀ p q, s.1 p = some q → q < 4 ∨ ∃ c t, t < 3 ∧ c < k ∧ lv c = true ∧ q = nt_pt c t) (hRk : ∀ c, qe_R s.1 e c → c < k) (hz : z = s.1 e) (H : ∀ r me, fn_Cnt (qe_R s.1 e) r → post (nI r) (gc, gw, nI k, nI W, gl, gs, ky, fi, sn, rk, rf, rs, me)) :
    ∀ (f i : Nat) (me : Nat → Int32), k + 1 ≤ f + i → i ≤ k → (∀ c, c < i → ((∃ t, t < 3 ∧ z = some (nt_pt c t)) → me c = 1) ∧ (¬ (∃ t, t < 3 ∧ z = some (nt_pt c t)) → me c = 0)) → wY_reach_29 post (qd_ey z) gc gw (nI k) (nI W) gl gs f (nI i) ky fi sn rk rf rs me := by
  have hk := hJ.1
  intro f
  induction f with
  | zero => intro i me h1 h2; omega
  | succ f ih =>
    intro i me h1 h2 h3
    refine pk_le k i (fun h => ?_) (fun h => ?_)
    · obtain ⟨r, hr⟩ := qf_ex k me
      refine ⟨k + 2, qf_loop hJ hW hZ hRk H (k + 2) r me (by omega) hr ?_ ?_ ?_⟩
      · intro c hc
        by_cases q : ∃ t, t < 3 ∧ z = some (nt_pt c t)
        · exact Or.inr ((h3 c (by omega)).1 q)
        · exact Or.inl ((h3 c (by omega)).2 q)
      · intro c hc hm
        by_cases q : ∃ t, t < 3 ∧ z = some (nt_pt c t)
        · obtain ⟨t, ht, q⟩ := q
          exact qe_R_cl.1 c t ht (by rw [← hz]; exact q)
        · rw [(h3 c (by omega)).2 q] at hm
          exact absurd hm (by decide)
      · intro c t ht q
        exact (h3 c (by have := hRk c (qe_R_cl.1 c t ht q); omega)).1 ⟨t, ht, by rw [hz]; exact q⟩
    · have ci : (nI i).toNatClampNeg = i := nI_clamp (by omega)
      have iv : vp_in (nI i) 500 := vp_in_nI (by omega) (by decide)
      have stp : ∀ x, (x = 0 ∨ x = 1) → (x = 1 ↔ ∃ t, t < 3 ∧ z = some (nt_pt i t)) → wY_reach_29 post (qd_ey z) gc gw (nI k) (nI W) gl gs f (nI (i + 1)) ky fi sn rk rf rs (upd me i (nI x)) := by
        intro x hx hx'
        refine ih (i + 1) _ (by omega) (by omega) ?_
        intro c hc
        by_cases ce : c = i
        · rw [ce, pk_us]
          refine ⟨fun y => by rw [hx'.mpr y]; rfl, fun y => ?_⟩
          rcases hx with hx | hx
          · rw [hx]; rfl
          · exact absurd (hx'.mp hx) y
        · rw [pk_un ce]; exact h3 c (by omega)
      cases ez : z with
      | none =>
        rw [ez] at stp
        refine br_t (by decide) ⟨iv, nm_r (e' := upd me i (nI 0)) (by rw [ci]; rfl) (nm_r (nI_1 i) (stp 0 (Or.inl rfl) ⟨fun y => by omega, fun y => ?_⟩))⟩
        obtain ⟨t, _, y⟩ := y; cases y
      | some q =>
        rw [ez] at stp
        rw [show qd_ey (some q) = nI q from rfl] at stp ⊢
        rcases hZ e q (by rw [← hz]; exact ez) with q4 | ⟨c, t, ht, hc, _, rfl⟩
        · refine pk_le q 3 (fun _ => ⟨iv, nm_r (e' := upd me i (nI 0)) (by rw [ci]; rfl) (nm_r (nI_1 i) (stp 0 (Or.inl rfl) ⟨fun y => by omega, fun y => ?_⟩))⟩) (fun y => by omega)
          obtain ⟨t, _, y⟩ := y
          exact absurd (Option.some.inj y) (xc_lt4 q4)
        · have bp := yc_lt ht hc hk
          refine pk_le (nt_pt c t) 3 (fun y => by unfold nt_pt at y; omega) (fun _ => ⟨xa_3ne, ?_⟩)
          have dv : (nI (nt_pt c t) - 4) / 3 = nI c := by
            rw [show (4 : Int32) = nI 4 from rfl, pk_sub (by unfold nt_pt; omega), xa_div3 (by unfold nt_pt; omega)]
            exact congrArg nI (by unfold nt_pt; omega)
          rw [dv]
          refine pk_eq c i (fun ce => ⟨iv, nm_r (e' := upd me i (nI 1)) (by rw [ci]; rfl) (nm_r (nI_1 i) (stp 1 (Or.inr rfl) ⟨fun _ => ⟨t, ht, by rw [ce]⟩, fun _ => rfl⟩))⟩) (fun ce => ⟨iv, nm_r (e' := upd me i (nI 0)) (by rw [ci]; rfl) (nm_r (nI_1 i) (stp 0 (Or.inl rfl) ⟨fun y => by omega, fun y => ?_⟩))⟩)
          obtain ⟨t', ht', y⟩ := y
          exact absurd ((nt_pteq ht ht').mp (Option.some.inj y)).1 ce
end
theorem i_vc_reach {k : Nat} {u : SX} {v : SY} (I : i_Rel k u v) (hk : k + 3 ≤ 1536) (v1 : Int32) : wpX_reach (fun r u' => wpY_reach (fun r' v' => r' = r ∧ i_Rel (k + 3) u' v') v v1) u v1 := by
  obtain ⟨fc, fk, fm, fd, fl, ft, fw, kx, wi, ki, go, ot, wa, se, qu⟩ := u
  obtain ⟨gc, gw, rc, rw, gl, gs, ky, fi, sn, rk, rf, rs, me⟩ := v
  obtain ⟨n, V, m, rfl, rfl, rfl, rfl, hB, hK, hX, hY, hf⟩ := id I
  have hV := fn_V hB hY
  refine br_c (fun p1 => br_t p1 ⟨rfl, I⟩) (fun p1 => br_c (fun p2 => ?_) (fun p2 => br_f p1 (br_f p2 ⟨rfl, I⟩)))
  obtain ⟨x, hx, rfl⟩ := nI_of2 (M := 3) (n := 3) (by decide) p1 p2
  refine xg_run hB hK hX hf fun fm fd fl ft fw ki go ot wa hD => ?_
  have rel : ∀ se qu rc rw gl gs rk rf rs me, i_Rel (k + 3) (nI n, 1, fm, fd, fl, ft, fw, ky, wi, ki, go, ot, wa, se, qu) (nI n, nI V, rc, rw, gl, gs, ky, fi, sn, rk, rf, rs, me) := fun _ _ _ _ _ _ _ _ _ _ => ⟨n, V, m, rfl, rfl, rfl, rfl, hB, hK, hX, hY, Or.inr ⟨rfl, hD⟩⟩
  refine br_c (fun h0 => ?_) (fun h0 => ?_)
  · rcases id hD with ⟨_, xk, xlv, xkd, xs, xwt, xlx, xj, xv, xN, x1, x2, x3, x4, x5, x6, x7, x8⟩ | ⟨a, _⟩
    · subst x1
      have xI := nt_stn_inv (bs_KK _) _ _ _ (bs_inv hB) x6
      have hm := x4.1.2.1
      refine ⟨xk + 1, ?_⟩
      refine qe_X x4 (qc_Zm xI x5 hm) (fun c h => (qe_live xI x5 hm h).2) (by omega) (fun r se qu hr => ?_) (xk + 1) 0 se (by omega) (by omega) (fun c hc => by omega)
      refine br_f p1 (br_t p2 ?_)
      refine yd_run hB hK hY (by omega) fun r' rc rw gl gs rk rf rs hE => ?_
      obtain ⟨b, yk, ylv, ykd, ys, yW, yly, yv, y1, y2, y3, y4, y5, y6, y7⟩ := fn_meet2 (bs_KK _) (bs_inv hB) x6 x7 x8 hE
      subst y1 y2
      have hm' := y5.2.1.1
      refine br_f (by rw [b]; decide) ?_
      have fin := qf_Y (post := fun r' v' => r' = nI r ∧ i_Rel (k + 3) (nI n, 1, nI xk, fd, fl, ft, fw, ky, wi, ki, go, ot, wa, se, qu) v') y5 y7 (qc_Zm xI y6 hm') (fun c h => (qe_live xI y6 hm' h).1) (z := ys.1 x) (e := x) rfl (fun q me hq => ⟨by rw [fn_cnt_u (qe_cnt xI x5 hm (by omega) hr) (qe_cnt xI y6 hm' (by omega) hq)], rel _ _ _ _ _ _ _ _ _ _⟩) (yk + 1) 0 me (by omega) (by omega) (fun c hc => by omega) (gc := nI n) (gw := nI V) (gl := gl) (gs := gs) (ky := ky) (fi := fi) (sn := sn)
      refine yb_across y5.2.1 rfl (by omega) y7 (fun z => ⟨yk + 1, ?_⟩) (fun q z => ⟨yk + 1, ?_⟩)
      · rw [z] at fin; exact fin
      · rw [z] at fin; exact fin
    · rw [a] at h0; exact absurd h0 (by decide)
  · refine br_f p1 (br_t p2 ?_)
    refine yd_run hB hK hY (by omega) fun r rc rw gl gs rk rf rs hE => ?_
    rcases fn_meet (bs_KK _) (bs_inv hB) hD hE with ⟨a, b⟩ | ⟨a, b, _⟩
    · exact br_t b ⟨rfl, rel _ _ _ _ _ _ _ _ _ _⟩
    · exact absurd a h0
end

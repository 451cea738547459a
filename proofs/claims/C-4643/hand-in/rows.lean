section
/-! pure rows to paste: stores, nI and lN arithmetic, masks, shifts, narrowing, branches by naturals (pk_le, pk_lt, pk_eq), loops (lp1 .. lp16: the measure of the state; rp1 ..: recursion), negatives. Take what you need -/
theorem pk_us {f : Nat → Int32} {k : Nat} {x : Int32} : upd f k x k = x := if_pos rfl
theorem pk_un {f : Nat → Int32} {k j : Nat} {x : Int32} (h : j ≠ k) : upd f k x j = f j := if_neg h
theorem pk_uLs {f : Nat → Int64} {k : Nat} {x : Int64} : vp_updL f k x k = x := if_pos rfl
theorem pk_uLn {f : Nat → Int64} {k j : Nat} {x : Int64} (h : j ≠ k) : vp_updL f k x j = f j := if_neg h
theorem pk_sub {a b : Nat} (h : b ≤ a) : nI a - nI b = nI (a - b) := by
  obtain ⟨c, rfl⟩ : ∃ c, a = c + b := ⟨a - b, by omega⟩
  rw [← nI_add, Int32.add_sub_cancel, Nat.add_sub_cancel]
theorem pk_m1 (n : Nat) : nI (n + 1) + (-1) = nI n := by
  rw [← nI_1, Int32.add_assoc, show (1 : Int32) + (-1) = 0 from rfl, Int32.add_zero]
theorem pk_mul (a b : Nat) : nI a * nI b = nI (a * b) := (Int32.ofNat_mul a b).symm
theorem pk_div {a d : Nat} (ha : a < 2 ^ 31) (h0 : 0 < d) (hd : d < 2 ^ 31) : nI a / nI d = nI (a / d) := by
  apply Int32.toInt_inj.mp
  rw [lg_idiv_nonneg (by rw [nI_toInt ha]; omega) (by rw [nI_toInt hd]; omega), nI_toInt ha, nI_toInt hd, nI_toInt (Nat.lt_of_le_of_lt (Nat.div_le_self a d) ha)]
  first | rfl | exact (Int.natCast_ediv _ _).symm
theorem pk_rem {a d : Nat} (ha : a < 2 ^ 31) (h0 : 0 < d) (hd : d < 2 ^ 31) : nI a - nI a / nI d * nI d = nI (a % d) := by
  rw [pk_div ha h0 hd, pk_mul, pk_sub (Nat.div_mul_le_self a d)]
  exact congrArg nI (by have := Nat.div_add_mod' a d; omega)
theorem pk_sub_toInt {a b : Nat} (ha : a < 2 ^ 30) (hb : b < 2 ^ 30) : (nI a - nI b).toInt = (a : Int) - b := by
  rw [Int32.toInt_sub, nI_toInt (by omega), nI_toInt (by omega)]
  exact Int.bmod_eq_of_le (by omega) (by omega)
theorem pk_sneg {a b : Nat} (hb : b < 2 ^ 30) (h : a < b) : nI a - nI b < 0 := by
  rw [Int32.lt_iff_toInt_lt, pk_sub_toInt (by omega) hb, show (0 : Int32).toInt = 0 from by decide]
  omega
theorem pk_ix (x : Int32) {n : Nat} (hn : n < 2 ^ 31) : x < 0 ∨ nI n ≤ x ∨ ∃ j : Nat, j < n ∧ x = nI j := by
  by_cases h : x < 0
  · exact Or.inl h
  · obtain ⟨j, hj, rfl⟩ := nI_of h
    by_cases h2 : j < n
    · exact Or.inr (Or.inr ⟨j, h2, rfl⟩)
    · exact Or.inr (Or.inl (nI_le (by omega) hj))
theorem pk_le {x y : Int32} {A B : Prop} (a b : Nat) (f : a ≤ b → A) (g : b < a → B) (hx : x = nI a := by rfl) (hy : y = nI b := by rfl) (ha : a < 2 ^ 31 := by omega) (hb : b < 2 ^ 31 := by omega) : (x ≤ y → A) ∧ (¬ x ≤ y → B) := by
  subst hx hy
  rw [nI_leI ha hb]
  exact ⟨f, fun z => g (by omega)⟩
theorem pk_lt {x y : Int32} {A B : Prop} (a b : Nat) (f : a < b → A) (g : b ≤ a → B) (hx : x = nI a := by rfl) (hy : y = nI b := by rfl) (ha : a < 2 ^ 31 := by omega) (hb : b < 2 ^ 31 := by omega) : (x < y → A) ∧ (¬ x < y → B) := by
  subst hx hy
  rw [nI_ltI ha hb]
  exact ⟨f, fun z => g (by omega)⟩
theorem pk_eq {x y : Int32} {A B : Prop} (a b : Nat) (f : a = b → A) (g : a ≠ b → B) (hx : x = nI a := by rfl) (hy : y = nI b := by rfl) (ha : a < 2 ^ 31 := by omega) (hb : b < 2 ^ 31 := by omega) : (x = y → A) ∧ (¬ x = y → B) := by
  subst hx hy
  rw [nI_eq ha hb]
  exact ⟨f, g⟩
theorem pk_in {x : Int32} (n N : Nat) (h : n < N) (hx : x = nI n := by rfl) (hN : N < 2 ^ 31 := by omega) : vp_in x N := by
  subst hx
  exact vp_in_nI h hN
theorem pk_cl {x : Int32} (n : Nat) (hx : x = nI n := by rfl) (h : n < 2 ^ 31 := by omega) : x.toNatClampNeg = n := by
  subst hx
  exact nI_clamp h
theorem pk_tn {n : Nat} (h : n < 2 ^ 32) : (nI n).toBitVec.toNat = n := Nat.mod_eq_of_lt h
theorem pk_and (x : Int32) {m : Int32} (k : Nat) (hm : m.toBitVec.toNat = 2 ^ k - 1) : x &&& m = nI (x.toBitVec.toNat % 2 ^ k) := by
  apply Int32.toBitVec_inj.mp
  apply BitVec.eq_of_toNat_eq
  rw [Int32.toBitVec_and, BitVec.toNat_and, hm, Nat.and_two_pow_sub_one_eq_mod]
  show _ = (BitVec.ofNat 32 _).toNat
  rw [BitVec.toNat_ofNat]
  exact (Nat.mod_eq_of_lt (Nat.lt_of_le_of_lt (Nat.mod_le _ _) x.toBitVec.isLt)).symm
theorem pk_andN {n : Nat} (h : n < 2 ^ 32) {m : Int32} (k : Nat) (hm : m.toBitVec.toNat = 2 ^ k - 1) : nI n &&& m = nI (n % 2 ^ k) := by
  rw [pk_and _ k hm, pk_tn h]
theorem pk_andE (x : Int32) {m : Int32} (k : Nat) (hm : m.toBitVec.toNat = 2 ^ k - 1) : ∃ j : Nat, j < 2 ^ k ∧ x &&& m = nI j := ⟨_, Nat.mod_lt _ (Nat.two_pow_pos k), pk_and x k hm⟩
theorem pk_andIn (x : Int32) {m : Int32} (k : Nat) (hm : m.toBitVec.toNat = 2 ^ k - 1) (hk : k ≤ 30) : vp_in (x &&& m) (2 ^ k) := by
  obtain ⟨j, hj, e⟩ := pk_andE x k hm
  rw [e]
  exact vp_in_nI hj (Nat.lt_of_le_of_lt (Nat.pow_le_pow_right (by decide) hk) (by decide))
theorem pk_shl (a s : Int32) (k : Nat) (hs : (s.toBitVec.smod 32).toNat = k) : (a <<< s).toBitVec.toNat = a.toBitVec.toNat * 2 ^ k % 2 ^ 32 := by
  show (a.toBitVec <<< (s.toBitVec.smod 32).toNat).toNat = _
  rw [hs, BitVec.toNat_shiftLeft, Nat.shiftLeft_eq]
theorem pk_shlN {n : Nat} (s : Int32) (k : Nat) (hs : (s.toBitVec.smod 32).toNat = k) (h : n * 2 ^ k < 2 ^ 32) : nI n <<< s = nI (n * 2 ^ k) := by
  apply Int32.toBitVec_inj.mp
  apply BitVec.eq_of_toNat_eq
  have hn : n < 2 ^ 32 := Nat.lt_of_le_of_lt (Nat.le_mul_of_pos_right n (Nat.two_pow_pos k)) h
  rw [pk_shl _ _ k hs, pk_tn hn, pk_tn h, Nat.mod_eq_of_lt h]
theorem pk_shr (a s : Int32) (k : Nat) (hs : (s.toBitVec.smod 32).toNat = k) : (a >>> s).toInt = a.toInt >>> k := by
  show (a.toBitVec.sshiftRight (s.toBitVec.smod 32).toNat).toInt = _
  rw [hs, BitVec.toInt_sshiftRight]
  rfl
theorem pk_shrN {n : Nat} (h : n < 2 ^ 31) (s : Int32) (k : Nat) (hs : (s.toBitVec.smod 32).toNat = k) : nI n >>> s = nI (n / 2 ^ k) := by
  apply Int32.toInt_inj.mp
  have h2 : n / 2 ^ k ≤ n := Nat.div_le_self _ _
  rw [pk_shr _ _ k hs, nI_toInt h, nI_toInt (by omega), Int.shiftRight_eq_div_pow]
  rfl
theorem pk_ushr (x s : Int32) (k : Nat) (hs : ((s.toUInt32 &&& Int32.toUInt32 31).toBitVec % 32).toNat = k) : (x.toUInt32 >>> (s.toUInt32 &&& Int32.toUInt32 31)).toInt32.toBitVec.toNat = x.toBitVec.toNat / 2 ^ k := by
  have e : (x.toUInt32 >>> (s.toUInt32 &&& Int32.toUInt32 31)).toInt32.toBitVec = x.toBitVec >>> k := by
    rw [← hs]
    exact UInt32.toBitVec_shiftRight _ _
  rw [e, BitVec.toNat_ushiftRight, Nat.shiftRight_eq_div_pow]
theorem pk_ushrN {n : Nat} (hn : n < 2 ^ 32) (s : Int32) (k : Nat) (hs : ((s.toUInt32 &&& Int32.toUInt32 31).toBitVec % 32).toNat = k) : ((nI n).toUInt32 >>> (s.toUInt32 &&& Int32.toUInt32 31)).toInt32 = nI (n / 2 ^ k) := by
  apply Int32.toBitVec_inj.mp
  apply BitVec.eq_of_toNat_eq
  rw [pk_ushr _ s k hs, pk_tn hn, pk_tn (Nat.lt_of_le_of_lt (Nat.div_le_self _ _) hn)]
theorem pk_nb (z : Int32) : narrow .byte (.int z.toInt8.toInt32) = .int z.toInt8.toInt32 := congrArg Value.int (by simp)
theorem pk_ns (z : Int32) : narrow .short (.int z.toInt16.toInt32) = .int z.toInt16.toInt32 := congrArg Value.int (by simp)
theorem pk_fb (r : Int32) : fits .byte (.int r.toInt8.toInt32) = true := by
  have ⟨a, b⟩ := lg_i2b_range r
  have h1 : (-128 : Int32).toInt = -128 := by decide
  have h2 : (127 : Int32).toInt = 127 := by decide
  simp only [fits, Bool.and_eq_true, decide_eq_true_eq, Int32.le_iff_toInt_le, h1, h2]
  omega
theorem pk_fs (r : Int32) : fits .short (.int r.toInt16.toInt32) = true := by
  have ⟨a, b⟩ := lg_i2s_range r
  have h1 : (-32768 : Int32).toInt = -32768 := by decide
  have h2 : (32767 : Int32).toInt = 32767 := by decide
  simp only [fits, Bool.and_eq_true, decide_eq_true_eq, Int32.le_iff_toInt_le, h1, h2]
  omega
theorem pk_charN {q : Nat} (hq : q < 65536) : narrow .char (.int (nI q)) = .int (nI q) ∧ fits .char (.int (nI q)) = true := by
  constructor
  · have e : (nI q).toUInt32.toUInt16.toUInt32.toInt32 = nI q := by
      apply Int32.toBitVec_inj.mp
      apply BitVec.eq_of_toNat_eq
      show (nI q).toUInt32.toUInt16.toUInt32.toNat = q % 2 ^ 32
      rw [UInt16.toNat_toUInt32, UInt32.toNat_toUInt16, show (nI q).toUInt32.toNat = q % 2 ^ 32 from rfl]
      omega
    exact congrArg Value.int e
  · have a : (0 : Int32) ≤ nI q := nI_pos' (by omega)
    have b : nI q ≤ 65535 := nI_le (b := 65535) (by omega) (by decide)
    show (decide ((0 : Int32) ≤ nI q) && decide (nI q ≤ 65535)) = true
    rw [decide_eq_true a, decide_eq_true b]
    rfl
theorem pk_char (x : Int32) : (x.toUInt32 % 65536).toInt32 = nI (x.toBitVec.toNat % 65536) := by
  apply Int32.toBitVec_inj.mp
  apply BitVec.eq_of_toNat_eq
  rw [pk_tn (by omega)]
  show (x.toUInt32 % 65536).toNat = _
  rw [UInt32.toNat_mod]
  rfl
theorem pk_nc (x : Int32) : narrow .char (.int (x.toUInt32 % 65536).toInt32) = .int (x.toUInt32 % 65536).toInt32 := by
  rw [pk_char]
  exact (pk_charN (Nat.mod_lt _ (by decide))).1
theorem pk_fc (x : Int32) : fits .char (.int (x.toUInt32 % 65536).toInt32) = true := by
  rw [pk_char]
  exact (pk_charN (Nat.mod_lt _ (by decide))).2
theorem pk_vb (z : Int32) : vp_nar .byte z.toInt8.toInt32 = z.toInt8.toInt32 := by rw [vp_nar_byte]; simp
theorem pk_vs (z : Int32) : vp_nar .short z.toInt16.toInt32 = z.toInt16.toInt32 := by rw [vp_nar_short]; simp
theorem pk_vc (z : Int32) : vp_nar .char (z.toUInt32 % 65536).toInt32 = (z.toUInt32 % 65536).toInt32 := Value.int.inj (pk_nc z)
theorem pk_lT {n : Nat} (h : n < 2 ^ 63) : (lN n).toInt = (n : Int) := lg_ofNat_toInt h
theorem pk_lLT {a b : Nat} (ha : a < 2 ^ 63) (hb : b < 2 ^ 63) : lN a < lN b ↔ a < b := by
  rw [Int64.lt_iff_toInt_lt, pk_lT ha, pk_lT hb]; omega
theorem pk_lLE {a b : Nat} (ha : a < 2 ^ 63) (hb : b < 2 ^ 63) : lN a ≤ lN b ↔ a ≤ b := by
  rw [Int64.le_iff_toInt_le, pk_lT ha, pk_lT hb]; omega
theorem pk_lEQ {a b : Nat} (ha : a < 2 ^ 63) (hb : b < 2 ^ 63) : lN a = lN b ↔ a = b := by
  rw [← Int64.toInt_inj, pk_lT ha, pk_lT hb]; omega
theorem pk_lOf {x : Int64} (h : ¬ x < 0) : ∃ k : Nat, k < 2 ^ 63 ∧ x = lN k := by
  rw [Int64.lt_iff_toInt_lt] at h
  have h0 : (0 : Int64).toInt = 0 := by decide
  have hx := Int64.toInt_lt x
  refine ⟨x.toInt.toNat, by omega, Int64.toInt_inj.mp ?_⟩
  rw [pk_lT (by omega)]
  omega
theorem pk_lDiv {a b : Nat} (ha : a < 2 ^ 63) (h0 : 0 < b) (hb : b < 2 ^ 63) : lN a / lN b = lN (a / b) := by
  apply Int64.toInt_inj.mp
  rw [lg_ldiv_nonneg (by rw [pk_lT ha]; omega) (by rw [pk_lT hb]; omega), pk_lT ha, pk_lT hb, pk_lT (Nat.lt_of_le_of_lt (Nat.div_le_self a b) ha)]
  rfl
theorem pk_lRem {a b : Nat} (ha : a < 2 ^ 63) (h0 : 0 < b) (hb : b < 2 ^ 63) : lN a - lN a / lN b * lN b = lN (a % b) := by
  rw [pk_lDiv ha h0 hb, lN_mul, lN_sub (Nat.div_mul_le_self a b)]
  exact congrArg lN (by have := Nat.div_add_mod' a b; omega)
theorem pk_loop {σ : Type} (W : Nat → Nat → σ → Prop) (I : Nat → σ → Prop) (e i0 : Nat) (s : σ) (hi : i0 ≤ e) (h0 : I i0 s) (hx : ∀ n s, I e s → W (n + 1) e s)
    (hs : ∀ n i s, i < e → I i s → (∀ s', I (i + 1) s' → W n (i + 1) s') → W (n + 1) i s) : ∃ n, W n i0 s :=
  ⟨e + 1, loop_i W I e hx hs (e + 1) i0 s hi (by omega) h0⟩
theorem pk_loopD {σ : Type} (W : Nat → Nat → σ → Prop) (I : Nat → σ → Prop) (hx : ∀ n s, I 0 s → W (n + 1) 0 s)
    (hs : ∀ n i s, I (i + 1) s → (∀ s', I i s' → W n i s') → W (n + 1) (i + 1) s) : ∀ (e : Nat) (s : σ), I e s → W (e + 1) e s := by
  intro e
  induction e with
  | zero => exact fun s h => hx 0 s h
  | succ e ih => exact fun s h => hs (e + 1) e s h (fun s' h' => ih s' h')
theorem lp1 {A1 : Type} (W : Nat → A1 → Prop) (I : A1 → Prop) (μ : A1 → Nat) (hs : ∀ (n : Nat) (a1 : A1), I a1 → (∀ (b1 : A1), I b1 → μ b1 < μ a1 → W n b1) → W (n + 1) a1) (a1 : A1) (h : I a1) : ∃ n, W n a1 :=
  loop_m (σ := A1) (fun n s => W n s) (fun s => I s) (fun s => μ s) (fun n s hI hk => hs n s hI (fun b1 h9 hm => hk b1 h9 hm)) a1 h
theorem lp2 {A1 A2 : Type} (W : Nat → A1 → A2 → Prop) (I : A1 → A2 → Prop) (μ : A1 → A2 → Nat) (hs : ∀ (n : Nat) (a1 : A1) (a2 : A2), I a1 a2 → (∀ (b1 : A1) (b2 : A2), I b1 b2 → μ b1 b2 < μ a1 a2 → W n b1 b2) → W (n + 1) a1 a2) (a1 : A1) (a2 : A2) (h : I a1 a2) : ∃ n, W n a1 a2 :=
  loop_m (σ := A1 × A2) (fun n s => W n s.1 s.2) (fun s => I s.1 s.2) (fun s => μ s.1 s.2) (fun n s hI hk => hs n s.1 s.2 hI (fun b1 b2 h9 hm => hk (b1, b2) h9 hm)) (a1, a2) h
theorem lp3 {A1 A2 A3 : Type} (W : Nat → A1 → A2 → A3 → Prop) (I : A1 → A2 → A3 → Prop) (μ : A1 → A2 → A3 → Nat) (hs : ∀ (n : Nat) (a1 : A1) (a2 : A2) (a3 : A3), I a1 a2 a3 → (∀ (b1 : A1) (b2 : A2) (b3 : A3), I b1 b2 b3 → μ b1 b2 b3 < μ a1 a2 a3 → W n b1 b2 b3) → W (n + 1) a1 a2 a3) (a1 : A1) (a2 : A2) (a3 : A3) (h : I a1 a2 a3) : ∃ n, W n a1 a2 a3 :=
  loop_m (σ := A1 × A2 × A3) (fun n s => W n s.1 s.2.1 s.2.2) (fun s => I s.1 s.2.1 s.2.2) (fun s => μ s.1 s.2.1 s.2.2) (fun n s hI hk => hs n s.1 s.2.1 s.2.2 hI (fun b1 b2 b3 h9 hm => hk (b1, b2, b3) h9 hm)) (a1, a2, a3) h
theorem lp4 {A1 A2 A3 A4 : Type} (W : Nat → A1 → A2 → A3 → A4 → Prop) (I : A1 → A2 → A3 → A4 → Prop) (μ : A1 → A2 → A3 → A4 → Nat) (hs : ∀ (n : Nat) (a1 : A1) (a2 : A2) (a3 : A3) (a4 : A4), I a1 a2 a3 a4 → (∀ (b1 : A1) (b2 : A2) (b3 : A3) (b4 : A4), I b1 b2 b3 b4 → μ b1 b2 b3 b4 < μ a1 a2 a3 a4 → W n b1 b2 b3 b4) → W (n + 1) a1 a2 a3 a4) (a1 : A1) (a2 : A2) (a3 : A3) (a4 : A4) (h : I a1 a2 a3 a4) : ∃ n, W n a1 a2 a3 a4 :=
  loop_m (σ := A1 × A2 × A3 × A4) (fun n s => W n s.1 s.2.1 s.2.2.1 s.2.2.2) (fun s => I s.1 s.2.1 s.2.2.1 s.2.2.2) (fun s => μ s.1 s.2.1 s.2.2.1 s.2.2.2) (fun n s hI hk => hs n s.1 s.2.1 s.2.2.1 s.2.2.2 hI (fun b1 b2 b3 b4 h9 hm => hk (b1, b2, b3, b4) h9 hm)) (a1, a2, a3, a4) h
theorem lp5 {A1 A2 A3 A4 A5 : Type} (W : Nat → A1 → A2 → A3 → A4 → A5 → Prop) (I : A1 → A2 → A3 → A4 → A5 → Prop) (μ : A1 → A2 → A3 → A4 → A5 → Nat) (hs : ∀ (n : Nat) (a1 : A1) (a2 : A2) (a3 : A3) (a4 : A4) (a5 : A5), I a1 a2 a3 a4 a5 → (∀ (b1 : A1) (b2 : A2) (b3 : A3) (b4 : A4) (b5 : A5), I b1 b2 b3 b4 b5 → μ b1 b2 b3 b4 b5 < μ a1 a2 a3 a4 a5 → W n b1 b2 b3 b4 b5) → W (n + 1) a1 a2 a3 a4 a5) (a1 : A1) (a2 : A2) (a3 : A3) (a4 : A4) (a5 : A5) (h : I a1 a2 a3 a4 a5) : ∃ n, W n a1 a2 a3 a4 a5 :=
  loop_m (σ := A1 × A2 × A3 × A4 × A5) (fun n s => W n s.1 s.2.1 s.2.2.1 s.2.2.2.1 s.2.2.2.2) (fun s => I s.1 s.2.1 s.2.2.1 s.2.2.2.1 s.2.2.2.2) (fun s => μ s.1 s.2.1 s.2.2.1 s.2.2.2.1 s.2.2.2.2) (fun n s hI hk => hs n s.1 s.2.1 s.2.2.1 s.2.2.2.1 s.2.2.2.2 hI (fun b1 b2 b3 b4 b5 h9 hm => hk (b1, b2, b3, b4, b5) h9 hm)) (a1, a2, a3, a4, a5) h
theorem lp6 {A1 A2 A3 A4 A5 A6 : Type} (W : Nat → A1 → A2 → A3 → A4 → A5 → A6 → Prop) (I : A1 → A2 → A3 → A4 → A5 → A6 → Prop) (μ : A1 → A2 → A3 → A4 → A5 → A6 → Nat) (hs : ∀ (n : Nat) (a1 : A1) (a2 : A2) (a3 : A3) (a4 : A4) (a5 : A5) (a6 : A6), I a1 a2 a3 a4 a5 a6 → (∀ (b1 : A1) (b2 : A2) (b3 : A3) (b4 : A4) (b5 : A5) (b6 : A6), I b1 b2 b3 b4 b5 b6 → μ b1 b2 b3 b4 b5 b6 < μ a1 a2 a3 a4 a5 a6 → W n b1 b2 b3 b4 b5 b6) → W (n + 1) a1 a2 a3 a4 a5 a6) (a1 : A1) (a2 : A2) (a3 : A3) (a4 : A4) (a5 : A5) (a6 : A6) (h : I a1 a2 a3 a4 a5 a6) : ∃ n, W n a1 a2 a3 a4 a5 a6 :=
  loop_m (σ := A1 × A2 × A3 × A4 × A5 × A6) (fun n s => W n s.1 s.2.1 s.2.2.1 s.2.2.2.1 s.2.2.2.2.1 s.2.2.2.2.2) (fun s => I s.1 s.2.1 s.2.2.1 s.2.2.2.1 s.2.2.2.2.1 s.2.2.2.2.2) (fun s => μ s.1 s.2.1 s.2.2.1 s.2.2.2.1 s.2.2.2.2.1 s.2.2.2.2.2) (fun n s hI hk => hs n s.1 s.2.1 s.2.2.1 s.2.2.2.1 s.2.2.2.2.1 s.2.2.2.2.2 hI (fun b1 b2 b3 b4 b5 b6 h9 hm => hk (b1, b2, b3, b4, b5, b6) h9 hm)) (a1, a2, a3, a4, a5, a6) h
theorem lp7 {A1 A2 A3 A4 A5 A6 A7 : Type} (W : Nat → A1 → A2 → A3 → A4 → A5 → A6 → A7 → Prop) (I : A1 → A2 → A3 → A4 → A5 → A6 → A7 → Prop) (μ : A1 → A2 → A3 → A4 → A5 → A6 → A7 → Nat) (hs : ∀ (n : Nat) (a1 : A1) (a2 : A2) (a3 : A3) (a4 : A4) (a5 : A5) (a6 : A6) (a7 : A7), I a1 a2 a3 a4 a5 a6 a7 → (∀ (b1 : A1) (b2 : A2) (b3 : A3) (b4 : A4) (b5 : A5) (b6 : A6) (b7 : A7), I b1 b2 b3 b4 b5 b6 b7 → μ b1 b2 b3 b4 b5 b6 b7 < μ a1 a2 a3 a4 a5 a6 a7 → W n b1 b2 b3 b4 b5 b6 b7) → W (n + 1) a1 a2 a3 a4 a5 a6 a7) (a1 : A1) (a2 : A2) (a3 : A3) (a4 : A4) (a5 : A5) (a6 : A6) (a7 : A7) (h : I a1 a2 a3 a4 a5 a6 a7) : ∃ n, W n a1 a2 a3 a4 a5 a6 a7 :=
  loop_m (σ := A1 × A2 × A3 × A4 × A5 × A6 × A7) (fun n s => W n s.1 s.2.1 s.2.2.1 s.2.2.2.1 s.2.2.2.2.1 s.2.2.2.2.2.1 s.2.2.2.2.2.2) (fun s => I s.1 s.2.1 s.2.2.1 s.2.2.2.1 s.2.2.2.2.1 s.2.2.2.2.2.1 s.2.2.2.2.2.2) (fun s => μ s.1 s.2.1 s.2.2.1 s.2.2.2.1 s.2.2.2.2.1 s.2.2.2.2.2.1 s.2.2.2.2.2.2) (fun n s hI hk => hs n s.1 s.2.1 s.2.2.1 s.2.2.2.1 s.2.2.2.2.1 s.2.2.2.2.2.1 s.2.2.2.2.2.2 hI (fun b1 b2 b3 b4 b5 b6 b7 h9 hm => hk (b1, b2, b3, b4, b5, b6, b7) h9 hm)) (a1, a2, a3, a4, a5, a6, a7) h
theorem lp8 {A1 A2 A3 A4 A5 A6 A7 A8 : Type} (W : Nat → A1 → A2 → A3 → A4 → A5 → A6 → A7 → A8 → Prop) (I : A1 → A2 → A3 → A4 → A5 → A6 → A7 → A8 → Prop) (μ : A1 → A2 → A3 → A4 → A5 → A6 → A7 → A8 → Nat) (hs : ∀ (n : Nat) (a1 : A1) (a2 : A2) (a3 : A3) (a4 : A4) (a5 : A5) (a6 : A6) (a7 : A7) (a8 : A8), I a1 a2 a3 a4 a5 a6 a7 a8 → (∀ (b1 : A1) (b2 : A2) (b3 : A3) (b4 : A4) (b5 : A5) (b6 : A6) (b7 : A7) (b8 : A8), I b1 b2 b3 b4 b5 b6 b7 b8 → μ b1 b2 b3 b4 b5 b6 b7 b8 < μ a1 a2 a3 a4 a5 a6 a7 a8 → W n b1 b2 b3 b4 b5 b6 b7 b8) → W (n + 1) a1 a2 a3 a4 a5 a6 a7 a8) (a1 : A1) (a2 : A2) (a3 : A3) (a4 : A4) (a5 : A5) (a6 : A6) (a7 : A7) (a8 : A8) (h : I a1 a2 a3 a4 a5 a6 a7 a8) : ∃ n, W n a1 a2 a3 a4 a5 a6 a7 a8 :=
  loop_m (σ := A1 × A2 × A3 × A4 × A5 × A6 × A7 × A8) (fun n s => W n s.1 s.2.1 s.2.2.1 s.2.2.2.1 s.2.2.2.2.1 s.2.2.2.2.2.1 s.2.2.2.2.2.2.1 s.2.2.2.2.2.2.2) (fun s => I s.1 s.2.1 s.2.2.1 s.2.2.2.1 s.2.2.2.2.1 s.2.2.2.2.2.1 s.2.2.2.2.2.2.1 s.2.2.2.2.2.2.2) (fun s => μ s.1 s.2.1 s.2.2.1 s.2.2.2.1 s.2.2.2.2.1 s.2.2.2.2.2.1 s.2.2.2.2.2.2.1 s.2.2.2.2.2.2.2) (fun n s hI hk => hs n s.1 s.2.1 s.2.2.1 s.2.2.2.1 s.2.2.2.2.1 s.2.2.2.2.2.1 s.2.2.2.2.2.2.1 s.2.2.2.2.2.2.2 hI (fun b1 b2 b3 b4 b5 b6 b7 b8 h9 hm => hk (b1, b2, b3, b4, b5, b6, b7, b8) h9 hm)) (a1, a2, a3, a4, a5, a6, a7, a8) h
theorem lp9 {A1 A2 A3 A4 A5 A6 A7 A8 A9 : Type} (W : Nat → A1 → A2 → A3 → A4 → A5 → A6 → A7 → A8 → A9 → Prop) (I : A1 → A2 → A3 → A4 → A5 → A6 → A7 → A8 → A9 → Prop) (μ : A1 → A2 → A3 → A4 → A5 → A6 → A7 → A8 → A9 → Nat) (hs : ∀ (n : Nat) (a1 : A1) (a2 : A2) (a3 : A3) (a4 : A4) (a5 : A5) (a6 : A6) (a7 : A7) (a8 : A8) (a9 : A9), I a1 a2 a3 a4 a5 a6 a7 a8 a9 → (∀ (b1 : A1) (b2 : A2) (b3 : A3) (b4 : A4) (b5 : A5) (b6 : A6) (b7 : A7) (b8 : A8) (b9 : A9), I b1 b2 b3 b4 b5 b6 b7 b8 b9 → μ b1 b2 b3 b4 b5 b6 b7 b8 b9 < μ a1 a2 a3 a4 a5 a6 a7 a8 a9 → W n b1 b2 b3 b4 b5 b6 b7 b8 b9) → W (n + 1) a1 a2 a3 a4 a5 a6 a7 a8 a9) (a1 : A1) (a2 : A2) (a3 : A3) (a4 : A4) (a5 : A5) (a6 : A6) (a7 : A7) (a8 : A8) (a9 : A9) (h : I a1 a2 a3 a4 a5 a6 a7 a8 a9) : ∃ n, W n a1 a2 a3 a4 a5 a6 a7 a8 a9 :=
  loop_m (σ := A1 × A2 × A3 × A4 × A5 × A6 × A7 × A8 × A9) (fun n s => W n s.1 s.2.1 s.2.2.1 s.2.2.2.1 s.2.2.2.2.1 s.2.2.2.2.2.1 s.2.2.2.2.2.2.1 s.2.2.2.2.2.2.2.1 s.2.2.2.2.2.2.2.2) (fun s => I s.1 s.2.1 s.2.2.1 s.2.2.2.1 s.2.2.2.2.1 s.2.2.2.2.2.1 s.2.2.2.2.2.2.1 s.2.2.2.2.2.2.2.1 s.2.2.2.2.2.2.2.2) (fun s => μ s.1 s.2.1 s.2.2.1 s.2.2.2.1 s.2.2.2.2.1 s.2.2.2.2.2.1 s.2.2.2.2.2.2.1 s.2.2.2.2.2.2.2.1 s.2.2.2.2.2.2.2.2) (fun n s hI hk => hs n s.1 s.2.1 s.2.2.1 s.2.2.2.1 s.2.2.2.2.1 s.2.2.2.2.2.1 s.2.2.2.2.2.2.1 s.2.2.2.2.2.2.2.1 s.2.2.2.2.2.2.2.2 hI (fun b1 b2 b3 b4 b5 b6 b7 b8 b9 h9 hm => hk (b1, b2, b3, b4, b5, b6, b7, b8, b9) h9 hm)) (a1, a2, a3, a4, a5, a6, a7, a8, a9) h
theorem lp10 {A1 A2 A3 A4 A5 A6 A7 A8 A9 A10 : Type} (W : Nat → A1 → A2 → A3 → A4 → A5 → A6 → A7 → A8 → A9 → A10 → Prop) (I : A1 → A2 → A3 → A4 → A5 → A6 → A7 → A8 → A9 → A10 → Prop) (μ : A1 → A2 → A3 → A4 → A5 → A6 → A7 → A8 → A9 → A10 → Nat) (hs : ∀ (n : Nat) (a1 : A1) (a2 : A2) (a3 : A3) (a4 : A4) (a5 : A5) (a6 : A6) (a7 : A7) (a8 : A8) (a9 : A9) (a10 : A10), I a1 a2 a3 a4 a5 a6 a7 a8 a9 a10 → (∀ (b1 : A1) (b2 : A2) (b3 : A3) (b4 : A4) (b5 : A5) (b6 : A6) (b7 : A7) (b8 : A8) (b9 : A9) (b10 : A10), I b1 b2 b3 b4 b5 b6 b7 b8 b9 b10 → μ b1 b2 b3 b4 b5 b6 b7 b8 b9 b10 < μ a1 a2 a3 a4 a5 a6 a7 a8 a9 a10 → W n b1 b2 b3 b4 b5 b6 b7 b8 b9 b10) → W (n + 1) a1 a2 a3 a4 a5 a6 a7 a8 a9 a10) (a1 : A1) (a2 : A2) (a3 : A3) (a4 : A4) (a5 : A5) (a6 : A6) (a7 : A7) (a8 : A8) (a9 : A9) (a10 : A10) (h : I a1 a2 a3 a4 a5 a6 a7 a8 a9 a10) : ∃ n, W n a1 a2 a3 a4 a5 a6 a7 a8 a9 a10 :=
  loop_m (σ := A1 × A2 × A3 × A4 × A5 × A6 × A7 × A8 × A9 × A10) (fun n s => W n s.1 s.2.1 s.2.2.1 s.2.2.2.1 s.2.2.2.2.1 s.2.2.2.2.2.1 s.2.2.2.2.2.2.1 s.2.2.2.2.2.2.2.1 s.2.2.2.2.2.2.2.2.1 s.2.2.2.2.2.2.2.2.2) (fun s => I s.1 s.2.1 s.2.2.1 s.2.2.2.1 s.2.2.2.2.1 s.2.2.2.2.2.1 s.2.2.2.2.2.2.1 s.2.2.2.2.2.2.2.1 s.2.2.2.2.2.2.2.2.1 s.2.2.2.2.2.2.2.2.2) (fun s => μ s.1 s.2.1 s.2.2.1 s.2.2.2.1 s.2.2.2.2.1 s.2.2.2.2.2.1 s.2.2.2.2.2.2.1 s.2.2.2.2.2.2.2.1 s.2.2.2.2.2.2.2.2.1 s.2.2.2.2.2.2.2.2.2) (fun n s hI hk => hs n s.1 s.2.1 s.2.2.1 s.2.2.2.1 s.2.2.2.2.1 s.2.2.2.2.2.1 s.2.2.2.2.2.2.1 s.2.2.2.2.2.2.2.1 s.2.2.2.2.2.2.2.2.1 s.2.2.2.2.2.2.2.2.2 hI (fun b1 b2 b3 b4 b5 b6 b7 b8 b9 b10 h9 hm => hk (b1, b2, b3, b4, b5, b6, b7, b8, b9, b10) h9 hm)) (a1, a2, a3, a4, a5, a6, a7, a8, a9, a10) h
theorem lp11 {A1 A2 A3 A4 A5 A6 A7 A8 A9 A10 A11 : Type} (W : Nat → A1 → A2 → A3 → A4 → A5 → A6 → A7 → A8 → A9 → A10 → A11 → Prop) (I : A1 → A2 → A3 → A4 → A5 → A6 → A7 → A8 → A9 → A10 → A11 → Prop) (μ : A1 → A2 → A3 → A4 → A5 → A6 → A7 → A8 → A9 → A10 → A11 → Nat) (hs : ∀ (n : Nat) (a1 : A1) (a2 : A2) (a3 : A3) (a4 : A4) (a5 : A5) (a6 : A6) (a7 : A7) (a8 : A8) (a9 : A9) (a10 : A10) (a11 : A11), I a1 a2 a3 a4 a5 a6 a7 a8 a9 a10 a11 → (∀ (b1 : A1) (b2 : A2) (b3 : A3) (b4 : A4) (b5 : A5) (b6 : A6) (b7 : A7) (b8 : A8) (b9 : A9) (b10 : A10) (b11 : A11), I b1 b2 b3 b4 b5 b6 b7 b8 b9 b10 b11 → μ b1 b2 b3 b4 b5 b6 b7 b8 b9 b10 b11 < μ a1 a2 a3 a4 a5 a6 a7 a8 a9 a10 a11 → W n b1 b2 b3 b4 b5 b6 b7 b8 b9 b10 b11) → W (n + 1) a1 a2 a3 a4 a5 a6 a7 a8 a9 a10 a11) (a1 : A1) (a2 : A2) (a3 : A3) (a4 : A4) (a5 : A5) (a6 : A6) (a7 : A7) (a8 : A8) (a9 : A9) (a10 : A10) (a11 : A11) (h : I a1 a2 a3 a4 a5 a6 a7 a8 a9 a10 a11) : ∃ n, W n a1 a2 a3 a4 a5 a6 a7 a8 a9 a10 a11 :=
  loop_m (σ := A1 × A2 × A3 × A4 × A5 × A6 × A7 × A8 × A9 × A10 × A11) (fun n s => W n s.1 s.2.1 s.2.2.1 s.2.2.2.1 s.2.2.2.2.1 s.2.2.2.2.2.1 s.2.2.2.2.2.2.1 s.2.2.2.2.2.2.2.1 s.2.2.2.2.2.2.2.2.1 s.2.2.2.2.2.2.2.2.2.1 s.2.2.2.2.2.2.2.2.2.2) (fun s => I s.1 s.2.1 s.2.2.1 s.2.2.2.1 s.2.2.2.2.1 s.2.2.2.2.2.1 s.2.2.2.2.2.2.1 s.2.2.2.2.2.2.2.1 s.2.2.2.2.2.2.2.2.1 s.2.2.2.2.2.2.2.2.2.1 s.2.2.2.2.2.2.2.2.2.2) (fun s => μ s.1 s.2.1 s.2.2.1 s.2.2.2.1 s.2.2.2.2.1 s.2.2.2.2.2.1 s.2.2.2.2.2.2.1 s.2.2.2.2.2.2.2.1 s.2.2.2.2.2.2.2.2.1 s.2.2.2.2.2.2.2.2.2.1 s.2.2.2.2.2.2.2.2.2.2) (fun n s hI hk => hs n s.1 s.2.1 s.2.2.1 s.2.2.2.1 s.2.2.2.2.1 s.2.2.2.2.2.1 s.2.2.2.2.2.2.1 s.2.2.2.2.2.2.2.1 s.2.2.2.2.2.2.2.2.1 s.2.2.2.2.2.2.2.2.2.1 s.2.2.2.2.2.2.2.2.2.2 hI (fun b1 b2 b3 b4 b5 b6 b7 b8 b9 b10 b11 h9 hm => hk (b1, b2, b3, b4, b5, b6, b7, b8, b9, b10, b11) h9 hm)) (a1, a2, a3, a4, a5, a6, a7, a8, a9, a10, a11) h
theorem lp12 {A1 A2 A3 A4 A5 A6 A7 A8 A9 A10 A11 A12 : Type} (W : Nat → A1 → A2 → A3 → A4 → A5 → A6 → A7 → A8 → A9 → A10 → A11 → A12 → Prop) (I : A1 → A2 → A3 → A4 → A5 → A6 → A7 → A8 → A9 → A10 → A11 → A12 → Prop) (μ : A1 → A2 → A3 → A4 → A5 → A6 → A7 → A8 → A9 → A10 → A11 → A12 → Nat) (hs : ∀ (n : Nat) (a1 : A1) (a2 : A2) (a3 : A3) (a4 : A4) (a5 : A5) (a6 : A6) (a7 : A7) (a8 : A8) (a9 : A9) (a10 : A10) (a11 : A11) (a12 : A12), I a1 a2 a3 a4 a5 a6 a7 a8 a9 a10 a11 a12 → (∀ (b1 : A1) (b2 : A2) (b3 : A3) (b4 : A4) (b5 : A5) (b6 : A6) (b7 : A7) (b8 : A8) (b9 : A9) (b10 : A10) (b11 : A11) (b12 : A12), I b1 b2 b3 b4 b5 b6 b7 b8 b9 b10 b11 b12 → μ b1 b2 b3 b4 b5 b6 b7 b8 b9 b10 b11 b12 < μ a1 a2 a3 a4 a5 a6 a7 a8 a9 a10 a11 a12 → W n b1 b2 b3 b4 b5 b6 b7 b8 b9 b10 b11 b12) → W (n + 1) a1 a2 a3 a4 a5 a6 a7 a8 a9 a10 a11 a12) (a1 : A1) (a2 : A2) (a3 : A3) (a4 : A4) (a5 : A5) (a6 : A6) (a7 : A7) (a8 : A8) (a9 : A9) (a10 : A10) (a11 : A11) (a12 : A12) (h : I a1 a2 a3 a4 a5 a6 a7 a8 a9 a10 a11 a12) : ∃ n, W n a1 a2 a3 a4 a5 a6 a7 a8 a9 a10 a11 a12 :=
  loop_m (σ := A1 × A2 × A3 × A4 × A5 × A6 × A7 × A8 × A9 × A10 × A11 × A12) (fun n s => W n s.1 s.2.1 s.2.2.1 s.2.2.2.1 s.2.2.2.2.1 s.2.2.2.2.2.1 s.2.2.2.2.2.2.1 s.2.2.2.2.2.2.2.1 s.2.2.2.2.2.2.2.2.1 s.2.2.2.2.2.2.2.2.2.1 s.2.2.2.2.2.2.2.2.2.2.1 s.2.2.2.2.2.2.2.2.2.2.2) (fun s => I s.1 s.2.1 s.2.2.1 s.2.2.2.1 s.2.2.2.2.1 s.2.2.2.2.2.1 s.2.2.2.2.2.2.1 s.2.2.2.2.2.2.2.1 s.2.2.2.2.2.2.2.2.1 s.2.2.2.2.2.2.2.2.2.1 s.2.2.2.2.2.2.2.2.2.2.1 s.2.2.2.2.2.2.2.2.2.2.2) (fun s => μ s.1 s.2.1 s.2.2.1 s.2.2.2.1 s.2.2.2.2.1 s.2.2.2.2.2.1 s.2.2.2.2.2.2.1 s.2.2.2.2.2.2.2.1 s.2.2.2.2.2.2.2.2.1 s.2.2.2.2.2.2.2.2.2.1 s.2.2.2.2.2.2.2.2.2.2.1 s.2.2.2.2.2.2.2.2.2.2.2) (fun n s hI hk => hs n s.1 s.2.1 s.2.2.1 s.2.2.2.1 s.2.2.2.2.1 s.2.2.2.2.2.1 s.2.2.2.2.2.2.1 s.2.2.2.2.2.2.2.1 s.2.2.2.2.2.2.2.2.1 s.2.2.2.2.2.2.2.2.2.1 s.2.2.2.2.2.2.2.2.2.2.1 s.2.2.2.2.2.2.2.2.2.2.2 hI (fun b1 b2 b3 b4 b5 b6 b7 b8 b9 b10 b11 b12 h9 hm => hk (b1, b2, b3, b4, b5, b6, b7, b8, b9, b10, b11, b12) h9 hm)) (a1, a2, a3, a4, a5, a6, a7, a8, a9, a10, a11, a12) h
theorem lp13 {A1 A2 A3 A4 A5 A6 A7 A8 A9 A10 A11 A12 A13 : Type} (W : Nat → A1 → A2 → A3 → A4 → A5 → A6 → A7 → A8 → A9 → A10 → A11 → A12 → A13 → Prop) (I : A1 → A2 → A3 → A4 → A5 → A6 → A7 → A8 → A9 → A10 → A11 → A12 → A13 → Prop) (μ : A1 → A2 → A3 → A4 → A5 → A6 → A7 → A8 → A9 → A10 → A11 → A12 → A13 → Nat) (hs : ∀ (n : Nat) (a1 : A1) (a2 : A2) (a3 : A3) (a4 : A4) (a5 : A5) (a6 : A6) (a7 : A7) (a8 : A8) (a9 : A9) (a10 : A10) (a11 : A11) (a12 : A12) (a13 : A13), I a1 a2 a3 a4 a5 a6 a7 a8 a9 a10 a11 a12 a13 → (∀ (b1 : A1) (b2 : A2) (b3 : A3) (b4 : A4) (b5 : A5) (b6 : A6) (b7 : A7) (b8 : A8) (b9 : A9) (b10 : A10) (b11 : A11) (b12 : A12) (b13 : A13), I b1 b2 b3 b4 b5 b6 b7 b8 b9 b10 b11 b12 b13 → μ b1 b2 b3 b4 b5 b6 b7 b8 b9 b10 b11 b12 b13 < μ a1 a2 a3 a4 a5 a6 a7 a8 a9 a10 a11 a12 a13 → W n b1 b2 b3 b4 b5 b6 b7 b8 b9 b10 b11 b12 b13) → W (n + 1) a1 a2 a3 a4 a5 a6 a7 a8 a9 a10 a11 a12 a13) (a1 : A1) (a2 : A2) (a3 : A3) (a4 : A4) (a5 : A5) (a6 : A6) (a7 : A7) (a8 : A8) (a9 : A9) (a10 : A10) (a11 : A11) (a12 : A12) (a13 : A13) (h : I a1 a2 a3 a4 a5 a6 a7 a8 a9 a10 a11 a12 a13) : ∃ n, W n a1 a2 a3 a4 a5 a6 a7 a8 a9 a10 a11 a12 a13 :=
  loop_m (σ := A1 × A2 × A3 × A4 × A5 × A6 × A7 × A8 × A9 × A10 × A11 × A12 × A13) (fun n s => W n s.1 s.2.1 s.2.2.1 s.2.2.2.1 s.2.2.2.2.1 s.2.2.2.2.2.1 s.2.2.2.2.2.2.1 s.2.2.2.2.2.2.2.1 s.2.2.2.2.2.2.2.2.1 s.2.2.2.2.2.2.2.2.2.1 s.2.2.2.2.2.2.2.2.2.2.1 s.2.2.2.2.2.2.2.2.2.2.2.1 s.2.2.2.2.2.2.2.2.2.2.2.2) (fun s => I s.1 s.2.1 s.2.2.1 s.2.2.2.1 s.2.2.2.2.1 s.2.2.2.2.2.1 s.2.2.2.2.2.2.1 s.2.2.2.2.2.2.2.1 s.2.2.2.2.2.2.2.2.1 s.2.2.2.2.2.2.2.2.2.1 s.2.2.2.2.2.2.2.2.2.2.1 s.2.2.2.2.2.2.2.2.2.2.2.1 s.2.2.2.2.2.2.2.2.2.2.2.2) (fun s => μ s.1 s.2.1 s.2.2.1 s.2.2.2.1 s.2.2.2.2.1 s.2.2.2.2.2.1 s.2.2.2.2.2.2.1 s.2.2.2.2.2.2.2.1 s.2.2.2.2.2.2.2.2.1 s.2.2.2.2.2.2.2.2.2.1 s.2.2.2.2.2.2.2.2.2.2.1 s.2.2.2.2.2.2.2.2.2.2.2.1 s.2.2.2.2.2.2.2.2.2.2.2.2) (fun n s hI hk => hs n s.1 s.2.1 s.2.2.1 s.2.2.2.1 s.2.2.2.2.1 s.2.2.2.2.2.1 s.2.2.2.2.2.2.1 s.2.2.2.2.2.2.2.1 s.2.2.2.2.2.2.2.2.1 s.2.2.2.2.2.2.2.2.2.1 s.2.2.2.2.2.2.2.2.2.2.1 s.2.2.2.2.2.2.2.2.2.2.2.1 s.2.2.2.2.2.2.2.2.2.2.2.2 hI (fun b1 b2 b3 b4 b5 b6 b7 b8 b9 b10 b11 b12 b13 h9 hm => hk (b1, b2, b3, b4, b5, b6, b7, b8, b9, b10, b11, b12, b13) h9 hm)) (a1, a2, a3, a4, a5, a6, a7, a8, a9, a10, a11, a12, a13) h
theorem lp14 {A1 A2 A3 A4 A5 A6 A7 A8 A9 A10 A11 A12 A13 A14 : Type} (W : Nat → A1 → A2 → A3 → A4 → A5 → A6 → A7 → A8 → A9 → A10 → A11 → A12 → A13 → A14 → Prop) (I : A1 → A2 → A3 → A4 → A5 → A6 → A7 → A8 → A9 → A10 → A11 → A12 → A13 → A14 → Prop) (μ : A1 → A2 → A3 → A4 → A5 → A6 → A7 → A8 → A9 → A10 → A11 → A12 → A13 → A14 → Nat) (hs : ∀ (n : Nat) (a1 : A1) (a2 : A2) (a3 : A3) (a4 : A4) (a5 : A5) (a6 : A6) (a7 : A7) (a8 : A8) (a9 : A9) (a10 : A10) (a11 : A11) (a12 : A12) (a13 : A13) (a14 : A14), I a1 a2 a3 a4 a5 a6 a7 a8 a9 a10 a11 a12 a13 a14 → (∀ (b1 : A1) (b2 : A2) (b3 : A3) (b4 : A4) (b5 : A5) (b6 : A6) (b7 : A7) (b8 : A8) (b9 : A9) (b10 : A10) (b11 : A11) (b12 : A12) (b13 : A13) (b14 : A14), I b1 b2 b3 b4 b5 b6 b7 b8 b9 b10 b11 b12 b13 b14 → μ b1 b2 b3 b4 b5 b6 b7 b8 b9 b10 b11 b12 b13 b14 < μ a1 a2 a3 a4 a5 a6 a7 a8 a9 a10 a11 a12 a13 a14 → W n b1 b2 b3 b4 b5 b6 b7 b8 b9 b10 b11 b12 b13 b14) → W (n + 1) a1 a2 a3 a4 a5 a6 a7 a8 a9 a10 a11 a12 a13 a14) (a1 : A1) (a2 : A2) (a3 : A3) (a4 : A4) (a5 : A5) (a6 : A6) (a7 : A7) (a8 : A8) (a9 : A9) (a10 : A10) (a11 : A11) (a12 : A12) (a13 : A13) (a14 : A14) (h : I a1 a2 a3 a4 a5 a6 a7 a8 a9 a10 a11 a12 a13 a14) : ∃ n, W n a1 a2 a3 a4 a5 a6 a7 a8 a9 a10 a11 a12 a13 a14 :=
  loop_m (σ := A1 × A2 × A3 × A4 × A5 × A6 × A7 × A8 × A9 × A10 × A11 × A12 × A13 × A14) (fun n s => W n s.1 s.2.1 s.2.2.1 s.2.2.2.1 s.2.2.2.2.1 s.2.2.2.2.2.1 s.2.2.2.2.2.2.1 s.2.2.2.2.2.2.2.1 s.2.2.2.2.2.2.2.2.1 s.2.2.2.2.2.2.2.2.2.1 s.2.2.2.2.2.2.2.2.2.2.1 s.2.2.2.2.2.2.2.2.2.2.2.1 s.2.2.2.2.2.2.2.2.2.2.2.2.1 s.2.2.2.2.2.2.2.2.2.2.2.2.2) (fun s => I s.1 s.2.1 s.2.2.1 s.2.2.2.1 s.2.2.2.2.1 s.2.2.2.2.2.1 s.2.2.2.2.2.2.1 s.2.2.2.2.2.2.2.1 s.2.2.2.2.2.2.2.2.1 s.2.2.2.2.2.2.2.2.2.1 s.2.2.2.2.2.2.2.2.2.2.1 s.2.2.2.2.2.2.2.2.2.2.2.1 s.2.2.2.2.2.2.2.2.2.2.2.2.1 s.2.2.2.2.2.2.2.2.2.2.2.2.2) (fun s => μ s.1 s.2.1 s.2.2.1 s.2.2.2.1 s.2.2.2.2.1 s.2.2.2.2.2.1 s.2.2.2.2.2.2.1 s.2.2.2.2.2.2.2.1 s.2.2.2.2.2.2.2.2.1 s.2.2.2.2.2.2.2.2.2.1 s.2.2.2.2.2.2.2.2.2.2.1 s.2.2.2.2.2.2.2.2.2.2.2.1 s.2.2.2.2.2.2.2.2.2.2.2.2.1 s.2.2.2.2.2.2.2.2.2.2.2.2.2) (fun n s hI hk => hs n s.1 s.2.1 s.2.2.1 s.2.2.2.1 s.2.2.2.2.1 s.2.2.2.2.2.1 s.2.2.2.2.2.2.1 s.2.2.2.2.2.2.2.1 s.2.2.2.2.2.2.2.2.1 s.2.2.2.2.2.2.2.2.2.1 s.2.2.2.2.2.2.2.2.2.2.1 s.2.2.2.2.2.2.2.2.2.2.2.1 s.2.2.2.2.2.2.2.2.2.2.2.2.1 s.2.2.2.2.2.2.2.2.2.2.2.2.2 hI (fun b1 b2 b3 b4 b5 b6 b7 b8 b9 b10 b11 b12 b13 b14 h9 hm => hk (b1, b2, b3, b4, b5, b6, b7, b8, b9, b10, b11, b12, b13, b14) h9 hm)) (a1, a2, a3, a4, a5, a6, a7, a8, a9, a10, a11, a12, a13, a14) h
theorem lp15 {A1 A2 A3 A4 A5 A6 A7 A8 A9 A10 A11 A12 A13 A14 A15 : Type} (W : Nat → A1 → A2 → A3 → A4 → A5 → A6 → A7 → A8 → A9 → A10 → A11 → A12 → A13 → A14 → A15 → Prop) (I : A1 → A2 → A3 → A4 → A5 → A6 → A7 → A8 → A9 → A10 → A11 → A12 → A13 → A14 → A15 → Prop) (μ : A1 → A2 → A3 → A4 → A5 → A6 → A7 → A8 → A9 → A10 → A11 → A12 → A13 → A14 → A15 → Nat) (hs : ∀ (n : Nat) (a1 : A1) (a2 : A2) (a3 : A3) (a4 : A4) (a5 : A5) (a6 : A6) (a7 : A7) (a8 : A8) (a9 : A9) (a10 : A10) (a11 : A11) (a12 : A12) (a13 : A13) (a14 : A14) (a15 : A15), I a1 a2 a3 a4 a5 a6 a7 a8 a9 a10 a11 a12 a13 a14 a15 → (∀ (b1 : A1) (b2 : A2) (b3 : A3) (b4 : A4) (b5 : A5) (b6 : A6) (b7 : A7) (b8 : A8) (b9 : A9) (b10 : A10) (b11 : A11) (b12 : A12) (b13 : A13) (b14 : A14) (b15 : A15), I b1 b2 b3 b4 b5 b6 b7 b8 b9 b10 b11 b12 b13 b14 b15 → μ b1 b2 b3 b4 b5 b6 b7 b8 b9 b10 b11 b12 b13 b14 b15 < μ a1 a2 a3 a4 a5 a6 a7 a8 a9 a10 a11 a12 a13 a14 a15 → W n b1 b2 b3 b4 b5 b6 b7 b8 b9 b10 b11 b12 b13 b14 b15) → W (n + 1) a1 a2 a3 a4 a5 a6 a7 a8 a9 a10 a11 a12 a13 a14 a15) (a1 : A1) (a2 : A2) (a3 : A3) (a4 : A4) (a5 : A5) (a6 : A6) (a7 : A7) (a8 : A8) (a9 : A9) (a10 : A10) (a11 : A11) (a12 : A12) (a13 : A13) (a14 : A14) (a15 : A15) (h : I a1 a2 a3 a4 a5 a6 a7 a8 a9 a10 a11 a12 a13 a14 a15) : ∃ n, W n a1 a2 a3 a4 a5 a6 a7 a8 a9 a10 a11 a12 a13 a14 a15 :=
  loop_m (σ := A1 × A2 × A3 × A4 × A5 × A6 × A7 × A8 × A9 × A10 × A11 × A12 × A13 × A14 × A15) (fun n s => W n s.1 s.2.1 s.2.2.1 s.2.2.2.1 s.2.2.2.2.1 s.2.2.2.2.2.1 s.2.2.2.2.2.2.1 s.2.2.2.2.2.2.2.1 s.2.2.2.2.2.2.2.2.1 s.2.2.2.2.2.2.2.2.2.1 s.2.2.2.2.2.2.2.2.2.2.1 s.2.2.2.2.2.2.2.2.2.2.2.1 s.2.2.2.2.2.2.2.2.2.2.2.2.1 s.2.2.2.2.2.2.2.2.2.2.2.2.2.1 s.2.2.2.2.2.2.2.2.2.2.2.2.2.2) (fun s => I s.1 s.2.1 s.2.2.1 s.2.2.2.1 s.2.2.2.2.1 s.2.2.2.2.2.1 s.2.2.2.2.2.2.1 s.2.2.2.2.2.2.2.1 s.2.2.2.2.2.2.2.2.1 s.2.2.2.2.2.2.2.2.2.1 s.2.2.2.2.2.2.2.2.2.2.1 s.2.2.2.2.2.2.2.2.2.2.2.1 s.2.2.2.2.2.2.2.2.2.2.2.2.1 s.2.2.2.2.2.2.2.2.2.2.2.2.2.1 s.2.2.2.2.2.2.2.2.2.2.2.2.2.2) (fun s => μ s.1 s.2.1 s.2.2.1 s.2.2.2.1 s.2.2.2.2.1 s.2.2.2.2.2.1 s.2.2.2.2.2.2.1 s.2.2.2.2.2.2.2.1 s.2.2.2.2.2.2.2.2.1 s.2.2.2.2.2.2.2.2.2.1 s.2.2.2.2.2.2.2.2.2.2.1 s.2.2.2.2.2.2.2.2.2.2.2.1 s.2.2.2.2.2.2.2.2.2.2.2.2.1 s.2.2.2.2.2.2.2.2.2.2.2.2.2.1 s.2.2.2.2.2.2.2.2.2.2.2.2.2.2) (fun n s hI hk => hs n s.1 s.2.1 s.2.2.1 s.2.2.2.1 s.2.2.2.2.1 s.2.2.2.2.2.1 s.2.2.2.2.2.2.1 s.2.2.2.2.2.2.2.1 s.2.2.2.2.2.2.2.2.1 s.2.2.2.2.2.2.2.2.2.1 s.2.2.2.2.2.2.2.2.2.2.1 s.2.2.2.2.2.2.2.2.2.2.2.1 s.2.2.2.2.2.2.2.2.2.2.2.2.1 s.2.2.2.2.2.2.2.2.2.2.2.2.2.1 s.2.2.2.2.2.2.2.2.2.2.2.2.2.2 hI (fun b1 b2 b3 b4 b5 b6 b7 b8 b9 b10 b11 b12 b13 b14 b15 h9 hm => hk (b1, b2, b3, b4, b5, b6, b7, b8, b9, b10, b11, b12, b13, b14, b15) h9 hm)) (a1, a2, a3, a4, a5, a6, a7, a8, a9, a10, a11, a12, a13, a14, a15) h
theorem lp16 {A1 A2 A3 A4 A5 A6 A7 A8 A9 A10 A11 A12 A13 A14 A15 A16 : Type} (W : Nat → A1 → A2 → A3 → A4 → A5 → A6 → A7 → A8 → A9 → A10 → A11 → A12 → A13 → A14 → A15 → A16 → Prop) (I : A1 → A2 → A3 → A4 → A5 → A6 → A7 → A8 → A9 → A10 → A11 → A12 → A13 → A14 → A15 → A16 → Prop) (μ : A1 → A2 → A3 → A4 → A5 → A6 → A7 → A8 → A9 → A10 → A11 → A12 → A13 → A14 → A15 → A16 → Nat) (hs : ∀ (n : Nat) (a1 : A1) (a2 : A2) (a3 : A3) (a4 : A4) (a5 : A5) (a6 : A6) (a7 : A7) (a8 : A8) (a9 : A9) (a10 : A10) (a11 : A11) (a12 : A12) (a13 : A13) (a14 : A14) (a15 : A15) (a16 : A16), I a1 a2 a3 a4 a5 a6 a7 a8 a9 a10 a11 a12 a13 a14 a15 a16 → (∀ (b1 : A1) (b2 : A2) (b3 : A3) (b4 : A4) (b5 : A5) (b6 : A6) (b7 : A7) (b8 : A8) (b9 : A9) (b10 : A10) (b11 : A11) (b12 : A12) (b13 : A13) (b14 : A14) (b15 : A15) (b16 : A16), I b1 b2 b3 b4 b5 b6 b7 b8 b9 b10 b11 b12 b13 b14 b15 b16 → μ b1 b2 b3 b4 b5 b6 b7 b8 b9 b10 b11 b12 b13 b14 b15 b16 < μ a1 a2 a3 a4 a5 a6 a7 a8 a9 a10 a11 a12 a13 a14 a15 a16 → W n b1 b2 b3 b4 b5 b6 b7 b8 b9 b10 b11 b12 b13 b14 b15 b16) → W (n + 1) a1 a2 a3 a4 a5 a6 a7 a8 a9 a10 a11 a12 a13 a14 a15 a16) (a1 : A1) (a2 : A2) (a3 : A3) (a4 : A4) (a5 : A5) (a6 : A6) (a7 : A7) (a8 : A8) (a9 : A9) (a10 : A10) (a11 : A11) (a12 : A12) (a13 : A13) (a14 : A14) (a15 : A15) (a16 : A16) (h : I a1 a2 a3 a4 a5 a6 a7 a8 a9 a10 a11 a12 a13 a14 a15 a16) : ∃ n, W n a1 a2 a3 a4 a5 a6 a7 a8 a9 a10 a11 a12 a13 a14 a15 a16 :=
  loop_m (σ := A1 × A2 × A3 × A4 × A5 × A6 × A7 × A8 × A9 × A10 × A11 × A12 × A13 × A14 × A15 × A16) (fun n s => W n s.1 s.2.1 s.2.2.1 s.2.2.2.1 s.2.2.2.2.1 s.2.2.2.2.2.1 s.2.2.2.2.2.2.1 s.2.2.2.2.2.2.2.1 s.2.2.2.2.2.2.2.2.1 s.2.2.2.2.2.2.2.2.2.1 s.2.2.2.2.2.2.2.2.2.2.1 s.2.2.2.2.2.2.2.2.2.2.2.1 s.2.2.2.2.2.2.2.2.2.2.2.2.1 s.2.2.2.2.2.2.2.2.2.2.2.2.2.1 s.2.2.2.2.2.2.2.2.2.2.2.2.2.2.1 s.2.2.2.2.2.2.2.2.2.2.2.2.2.2.2) (fun s => I s.1 s.2.1 s.2.2.1 s.2.2.2.1 s.2.2.2.2.1 s.2.2.2.2.2.1 s.2.2.2.2.2.2.1 s.2.2.2.2.2.2.2.1 s.2.2.2.2.2.2.2.2.1 s.2.2.2.2.2.2.2.2.2.1 s.2.2.2.2.2.2.2.2.2.2.1 s.2.2.2.2.2.2.2.2.2.2.2.1 s.2.2.2.2.2.2.2.2.2.2.2.2.1 s.2.2.2.2.2.2.2.2.2.2.2.2.2.1 s.2.2.2.2.2.2.2.2.2.2.2.2.2.2.1 s.2.2.2.2.2.2.2.2.2.2.2.2.2.2.2) (fun s => μ s.1 s.2.1 s.2.2.1 s.2.2.2.1 s.2.2.2.2.1 s.2.2.2.2.2.1 s.2.2.2.2.2.2.1 s.2.2.2.2.2.2.2.1 s.2.2.2.2.2.2.2.2.1 s.2.2.2.2.2.2.2.2.2.1 s.2.2.2.2.2.2.2.2.2.2.1 s.2.2.2.2.2.2.2.2.2.2.2.1 s.2.2.2.2.2.2.2.2.2.2.2.2.1 s.2.2.2.2.2.2.2.2.2.2.2.2.2.1 s.2.2.2.2.2.2.2.2.2.2.2.2.2.2.1 s.2.2.2.2.2.2.2.2.2.2.2.2.2.2.2) (fun n s hI hk => hs n s.1 s.2.1 s.2.2.1 s.2.2.2.1 s.2.2.2.2.1 s.2.2.2.2.2.1 s.2.2.2.2.2.2.1 s.2.2.2.2.2.2.2.1 s.2.2.2.2.2.2.2.2.1 s.2.2.2.2.2.2.2.2.2.1 s.2.2.2.2.2.2.2.2.2.2.1 s.2.2.2.2.2.2.2.2.2.2.2.1 s.2.2.2.2.2.2.2.2.2.2.2.2.1 s.2.2.2.2.2.2.2.2.2.2.2.2.2.1 s.2.2.2.2.2.2.2.2.2.2.2.2.2.2.1 s.2.2.2.2.2.2.2.2.2.2.2.2.2.2.2 hI (fun b1 b2 b3 b4 b5 b6 b7 b8 b9 b10 b11 b12 b13 b14 b15 b16 h9 hm => hk (b1, b2, b3, b4, b5, b6, b7, b8, b9, b10, b11, b12, b13, b14, b15, b16) h9 hm)) (a1, a2, a3, a4, a5, a6, a7, a8, a9, a10, a11, a12, a13, a14, a15, a16) h
theorem pk_least (P : Nat → Prop) (h : ∃ k, P k) : ∃ k, P k ∧ ∀ j, j < k → ¬ P j := by
  obtain ⟨k, hk⟩ := h
  induction k using Nat.strongRecOn with
  | ind k ih =>
    by_cases e : ∃ j, j < k ∧ P j
    · obtain ⟨j, hj, pj⟩ := e
      exact ih j hj pj
    · exact ⟨k, hk, fun j hj pj => e ⟨j, hj, pj⟩⟩
theorem rp1 {ρ A1 : Type} (W : Nat → (ρ → Prop) → A1 → Prop) (ok : A1 → Prop) (μ : A1 → Nat) (val : A1 → ρ)
    (hs : ∀ (d : Nat) (post : ρ → Prop) (a1 : A1), ok a1 → post (val a1) → (∀ (post' : ρ → Prop) (b1 : A1), ok b1 → μ b1 < μ a1 → post' (val b1) → W d post' b1) → W (d + 1) post a1) :
    ∀ (d : Nat) (post : ρ → Prop) (a1 : A1), ok a1 → μ a1 < d → post (val a1) → W d post a1 := by
  intro d
  induction d with
  | zero => intro post a1 _ h; omega
  | succ d ih =>
    intro post a1 ho hm hp
    exact hs d post a1 ho hp (fun post' b1 ho' hm' hp' => ih post' b1 ho' (by omega) hp')
theorem rp2 {ρ A1 A2 : Type} (W : Nat → (ρ → Prop) → A1 → A2 → Prop) (ok : A1 → A2 → Prop) (μ : A1 → A2 → Nat) (val : A1 → A2 → ρ)
    (hs : ∀ (d : Nat) (post : ρ → Prop) (a1 : A1) (a2 : A2), ok a1 a2 → post (val a1 a2) → (∀ (post' : ρ → Prop) (b1 : A1) (b2 : A2), ok b1 b2 → μ b1 b2 < μ a1 a2 → post' (val b1 b2) → W d post' b1 b2) → W (d + 1) post a1 a2) :
    ∀ (d : Nat) (post : ρ → Prop) (a1 : A1) (a2 : A2), ok a1 a2 → μ a1 a2 < d → post (val a1 a2) → W d post a1 a2 := by
  intro d
  induction d with
  | zero => intro post a1 a2 _ h; omega
  | succ d ih =>
    intro post a1 a2 ho hm hp
    exact hs d post a1 a2 ho hp (fun post' b1 b2 ho' hm' hp' => ih post' b1 b2 ho' (by omega) hp')
theorem rp3 {ρ A1 A2 A3 : Type} (W : Nat → (ρ → Prop) → A1 → A2 → A3 → Prop) (ok : A1 → A2 → A3 → Prop) (μ : A1 → A2 → A3 → Nat) (val : A1 → A2 → A3 → ρ)
    (hs : ∀ (d : Nat) (post : ρ → Prop) (a1 : A1) (a2 : A2) (a3 : A3), ok a1 a2 a3 → post (val a1 a2 a3) → (∀ (post' : ρ → Prop) (b1 : A1) (b2 : A2) (b3 : A3), ok b1 b2 b3 → μ b1 b2 b3 < μ a1 a2 a3 → post' (val b1 b2 b3) → W d post' b1 b2 b3) → W (d + 1) post a1 a2 a3) :
    ∀ (d : Nat) (post : ρ → Prop) (a1 : A1) (a2 : A2) (a3 : A3), ok a1 a2 a3 → μ a1 a2 a3 < d → post (val a1 a2 a3) → W d post a1 a2 a3 := by
  intro d
  induction d with
  | zero => intro post a1 a2 a3 _ h; omega
  | succ d ih =>
    intro post a1 a2 a3 ho hm hp
    exact hs d post a1 a2 a3 ho hp (fun post' b1 b2 b3 ho' hm' hp' => ih post' b1 b2 b3 ho' (by omega) hp')
theorem rp4 {ρ A1 A2 A3 A4 : Type} (W : Nat → (ρ → Prop) → A1 → A2 → A3 → A4 → Prop) (ok : A1 → A2 → A3 → A4 → Prop) (μ : A1 → A2 → A3 → A4 → Nat) (val : A1 → A2 → A3 → A4 → ρ)
    (hs : ∀ (d : Nat) (post : ρ → Prop) (a1 : A1) (a2 : A2) (a3 : A3) (a4 : A4), ok a1 a2 a3 a4 → post (val a1 a2 a3 a4) → (∀ (post' : ρ → Prop) (b1 : A1) (b2 : A2) (b3 : A3) (b4 : A4), ok b1 b2 b3 b4 → μ b1 b2 b3 b4 < μ a1 a2 a3 a4 → post' (val b1 b2 b3 b4) → W d post' b1 b2 b3 b4) → W (d + 1) post a1 a2 a3 a4) :
    ∀ (d : Nat) (post : ρ → Prop) (a1 : A1) (a2 : A2) (a3 : A3) (a4 : A4), ok a1 a2 a3 a4 → μ a1 a2 a3 a4 < d → post (val a1 a2 a3 a4) → W d post a1 a2 a3 a4 := by
  intro d
  induction d with
  | zero => intro post a1 a2 a3 a4 _ h; omega
  | succ d ih =>
    intro post a1 a2 a3 a4 ho hm hp
    exact hs d post a1 a2 a3 a4 ho hp (fun post' b1 b2 b3 b4 ho' hm' hp' => ih post' b1 b2 b3 b4 ho' (by omega) hp')
theorem rp5 {ρ A1 A2 A3 A4 A5 : Type} (W : Nat → (ρ → Prop) → A1 → A2 → A3 → A4 → A5 → Prop) (ok : A1 → A2 → A3 → A4 → A5 → Prop) (μ : A1 → A2 → A3 → A4 → A5 → Nat) (val : A1 → A2 → A3 → A4 → A5 → ρ)
    (hs : ∀ (d : Nat) (post : ρ → Prop) (a1 : A1) (a2 : A2) (a3 : A3) (a4 : A4) (a5 : A5), ok a1 a2 a3 a4 a5 → post (val a1 a2 a3 a4 a5) → (∀ (post' : ρ → Prop) (b1 : A1) (b2 : A2) (b3 : A3) (b4 : A4) (b5 : A5), ok b1 b2 b3 b4 b5 → μ b1 b2 b3 b4 b5 < μ a1 a2 a3 a4 a5 → post' (val b1 b2 b3 b4 b5) → W d post' b1 b2 b3 b4 b5) → W (d + 1) post a1 a2 a3 a4 a5) :
    ∀ (d : Nat) (post : ρ → Prop) (a1 : A1) (a2 : A2) (a3 : A3) (a4 : A4) (a5 : A5), ok a1 a2 a3 a4 a5 → μ a1 a2 a3 a4 a5 < d → post (val a1 a2 a3 a4 a5) → W d post a1 a2 a3 a4 a5 := by
  intro d
  induction d with
  | zero => intro post a1 a2 a3 a4 a5 _ h; omega
  | succ d ih =>
    intro post a1 a2 a3 a4 a5 ho hm hp
    exact hs d post a1 a2 a3 a4 a5 ho hp (fun post' b1 b2 b3 b4 b5 ho' hm' hp' => ih post' b1 b2 b3 b4 b5 ho' (by omega) hp')
theorem rp6 {ρ A1 A2 A3 A4 A5 A6 : Type} (W : Nat → (ρ → Prop) → A1 → A2 → A3 → A4 → A5 → A6 → Prop) (ok : A1 → A2 → A3 → A4 → A5 → A6 → Prop) (μ : A1 → A2 → A3 → A4 → A5 → A6 → Nat) (val : A1 → A2 → A3 → A4 → A5 → A6 → ρ)
    (hs : ∀ (d : Nat) (post : ρ → Prop) (a1 : A1) (a2 : A2) (a3 : A3) (a4 : A4) (a5 : A5) (a6 : A6), ok a1 a2 a3 a4 a5 a6 → post (val a1 a2 a3 a4 a5 a6) → (∀ (post' : ρ → Prop) (b1 : A1) (b2 : A2) (b3 : A3) (b4 : A4) (b5 : A5) (b6 : A6), ok b1 b2 b3 b4 b5 b6 → μ b1 b2 b3 b4 b5 b6 < μ a1 a2 a3 a4 a5 a6 → post' (val b1 b2 b3 b4 b5 b6) → W d post' b1 b2 b3 b4 b5 b6) → W (d + 1) post a1 a2 a3 a4 a5 a6) :
    ∀ (d : Nat) (post : ρ → Prop) (a1 : A1) (a2 : A2) (a3 : A3) (a4 : A4) (a5 : A5) (a6 : A6), ok a1 a2 a3 a4 a5 a6 → μ a1 a2 a3 a4 a5 a6 < d → post (val a1 a2 a3 a4 a5 a6) → W d post a1 a2 a3 a4 a5 a6 := by
  intro d
  induction d with
  | zero => intro post a1 a2 a3 a4 a5 a6 _ h; omega
  | succ d ih =>
    intro post a1 a2 a3 a4 a5 a6 ho hm hp
    exact hs d post a1 a2 a3 a4 a5 a6 ho hp (fun post' b1 b2 b3 b4 b5 b6 ho' hm' hp' => ih post' b1 b2 b3 b4 b5 b6 ho' (by omega) hp')
theorem rec_p {σ ρ : Type} (W : Nat → (ρ → Prop) → σ → Prop) (ok : σ → Prop) (μ : σ → Nat) (val : σ → ρ)
    (hs : ∀ d s post, ok s → post (val s) → (∀ s' post', ok s' → μ s' < μ s → post' (val s') → W d post' s') → W (d + 1) post s) :
    ∀ d s post, ok s → μ s < d → post (val s) → W d post s := by
  intro d
  induction d with
  | zero => intro s post _ h; omega
  | succ d ih =>
    intro s post ho hm hp
    exact hs d s post ho hp (fun s' post' ho' hm' hp' => ih s' post' ho' (by omega) hp')
theorem rec_q {σ ρ : Type} (W : Nat → (ρ → Prop) → σ → Prop) (ok : σ → Prop) (μ : σ → Nat) (Q : σ → ρ → Prop)
    (hs : ∀ d s post, ok s → (∀ r, Q s r → post r) → (∀ s' post', ok s' → μ s' < μ s → (∀ r, Q s' r → post' r) → W d post' s') → W (d + 1) post s) :
    ∀ d s post, ok s → μ s < d → (∀ r, Q s r → post r) → W d post s := by
  intro d
  induction d with
  | zero => intro s post _ h; omega
  | succ d ih =>
    intro s post ho hm hp
    exact hs d s post ho hp (fun s' post' ho' hm' hp' => ih s' post' ho' (by omega) hp')
def bx_sum (f : Nat → Int32) : Nat → Int32
  | 0 => 0
  | n + 1 => bx_sum f n + f n
theorem ek_u {A : Prop} {B : Nat → Prop} {k N : Nat} (hk : k < N) (h : B k) : (some k = none → A) ∧ (∀ y : Nat, some k = some y → (y < N ∧ B y)) :=
  ⟨fun z => absurd z (Option.some_ne_none k), fun _ e => (by cases e; exact ⟨hk, h⟩)⟩
theorem ek_nu {A : Prop} {B : Nat → Prop} (h : A) : ((none : Option Nat) = none → A) ∧ (∀ y : Nat, (none : Option Nat) = some y → B y) :=
  ⟨fun _ => h, fun _ e => (by cases e)⟩
theorem ek_if {c d A B : Prop} (e : c ↔ d) (f : d → A) (g : ¬ d → B) : (c → A) ∧ (¬ c → B) :=
  ⟨fun z => f (e.mp z), fun z => g (fun y => z (e.mpr y))⟩
theorem ek_v {α : Sort _} {P : α → Prop} {a b : α} (e : a = b) (h : P b) : P a := e ▸ h
theorem co_some {x : Option Nat} {A : Prop} {B : Nat → Prop} (i : Nat) (h : B i) (hx : x = some i := by rfl) : (x = none → A) ∧ (∀ y : Nat, x = some y → B y) := by
  subst hx
  exact ⟨fun e => (nomatch e), fun y e => Option.some.inj e ▸ h⟩
theorem co_none {x : Option Nat} {A : Prop} {B : Nat → Prop} (h : A) (hx : x = none := by rfl) : (x = none → A) ∧ (∀ y : Nat, x = some y → B y) := by
  subst hx
  exact ⟨fun _ => h, fun y e => (nomatch e)⟩
theorem co_any {x : Option Nat} {A : Prop} {B : Nat → Prop} (hn : x = none → A) (hs : ∀ i : Nat, x = some i → B i) : (x = none → A) ∧ (∀ y : Nat, x = some y → B y) := ⟨hn, hs⟩
theorem co_2 {P : Nat → Prop} (h0 : P 0) (h1 : P 1) {i : Nat} (hi : i < 2) : P i :=
  match i, hi with
  | 0, _ => h0
  | 1, _ => h1
theorem co_3 {P : Nat → Prop} (h0 : P 0) (h1 : P 1) (h2 : P 2) {i : Nat} (hi : i < 3) : P i :=
  match i, hi with
  | 0, _ => h0
  | 1, _ => h1
  | 2, _ => h2
theorem co_4 {P : Nat → Prop} (h0 : P 0) (h1 : P 1) (h2 : P 2) (h3 : P 3) {i : Nat} (hi : i < 4) : P i :=
  match i, hi with
  | 0, _ => h0
  | 1, _ => h1
  | 2, _ => h2
  | 3, _ => h3
theorem co_dec {N : Nat} {P : Nat → Prop} [DecidablePred P] (h : (List.range N).all (fun i => decide (P i)) = true) {i : Nat} (hi : i < N) : P i := by
  have := List.all_eq_true.mp h i (List.mem_range.mpr hi)
  exact of_decide_eq_true this
theorem co_tab {α : Type} {l : List α} {d : α} {P : α → Prop} (h : ∀ a, a ∈ l → P a) {i : Nat} (hi : i < l.length) : P (l.getD i d) := by
  rw [List.getD_eq_getElem?_getD, List.getElem?_eq_getElem hi]
  exact h _ (List.getElem_mem hi)
theorem pk_mu {x : Int32} {L : Nat} (h0 : ¬ x < 0) (h : ¬ nI L ≤ x) (hL : L < 2 ^ 31) : ∃ j : Nat, j < L ∧ x = nI j ∧ x + 1 = nI (j + 1) ∧ x.toNatClampNeg = j ∧ L - (x + 1).toNatClampNeg < L - x.toNatClampNeg := by
  obtain ⟨j, hj, rfl⟩ := nI_of h0
  have hl : j < L := Nat.not_le.mp fun q => h (nI_le q hj)
  refine ⟨j, hl, rfl, nI_1 j, nI_clamp hj, ?_⟩
  rw [nI_1, nI_clamp (by omega), nI_clamp hj]
  omega
theorem op_s {α : Type} {r : Option α} {A : Prop} {B : α → Prop} {y : α} (h : r = some y) (b : B y) : (r = none → A) ∧ ∀ z, r = some z → B z :=
  ⟨fun e => (by rw [h] at e; cases e), fun z e => (by rw [h] at e; cases e; exact b)⟩
def l_holds {α : Type} (a : Nat → Option Nat) (LP : List Nat) (p : Nat → α) (c : Nat) (b : Nat → α) : Prop :=
  ∀ j, j < c → ∃ y, a j = some y ∧ y ∈ LP ∧ p y = b j
theorem l_holds_0 {α : Type} {a : Nat → Option Nat} {LP : List Nat} {p b : Nat → α} : l_holds a LP p 0 b := fun j h => absurd h (Nat.not_lt_zero j)
theorem l_in_new (LP : List Nat) (q : Nat) : q ∈ LP ++ [q] := List.mem_append.mpr (Or.inr (List.mem_singleton.mpr rfl))
def l_sum (b : Nat → Int32) : Nat → Int32
  | 0 => 0
  | k + 1 => l_sum b k + b k
theorem sb_shr0 (x : Int32) : x >>> ((0 : Int32) &&& 31) = x := by
  rw [show ((0 : Int32) &&& 31) = 0 by decide]
  simp
theorem sb_shl0 (x : Int32) : x <<< ((0 : Int32) &&& 31) = x := by
  rw [show ((0 : Int32) &&& 31) = 0 by decide]
  simp
theorem sb_cl0 : (0 : Int32).toNatClampNeg = 0 := by decide
theorem sb_m1 {p : Nat} (h : 0 < p) : nI p + (-1) = nI (p - 1) := by
  obtain ⟨q, rfl⟩ : ∃ q, p = q + 1 := ⟨p - 1, by omega⟩
  exact pk_m1 q
def sb_b (c : Nat) : Int32 := (nI c).toInt8.toInt32
theorem sb_byte : ∀ c, c < 256 → sb_b c &&& 255 = nI c ∧ ((nI c).toUInt32 % 65536).toInt32 = nI c ∧ nI c ≤ 255 := by decide +kernel
def sb_Fit (a : Nat → Int32) : Prop := ∀ j, fits .byte (.int (a j)) = true
def sb_Lat (t : Nat → Nat) (n : Nat) (a : Nat → Int32) : Prop := ∀ j, j < n → t j < 256 ∧ a j = sb_b (t j)
theorem sb_fitB (c : Nat) : fits .byte (.int (sb_b c)) = true := pk_fb _
theorem sb_fit0 : sb_Fit (fun _ => 0) := fun _ => by
  show fits .byte (.int 0) = true
  decide
theorem sb_fitU {a : Nat → Int32} {k : Nat} {x : Int32} (h : sb_Fit a) (hx : fits .byte (.int x) = true) : sb_Fit (upd a k x) := by
  intro j
  by_cases e : j = k
  · subst e
    rw [pk_us]
    exact hx
  · rw [pk_un e]
    exact h j
def sb_cat (t : Nat → Nat) (n : Nat) (s : Nat → Nat) : Nat → Nat := fun j => if j < n then t j else s (j - n)
theorem sb_cat_lo {t s : Nat → Nat} {n j : Nat} (h : j < n) : sb_cat t n s j = t j := if_pos h
theorem sb_cat_hi {t s : Nat → Nat} {n j : Nat} : sb_cat t n s (n + j) = s j := by
  show (if n + j < n then t (n + j) else s (n + j - n)) = s j
  rw [if_neg (by omega), Nat.add_sub_cancel_left]
theorem sb_latPut {t s : Nat → Nat} {n w : Nat} {a a' : Nat → Int32} (h : sb_Lat t n a) (hk : ∀ j, j < n → a' j = a j) (hs : ∀ i, i < w → s i < 256 ∧ a' (n + i) = sb_b (s i)) : sb_Lat (sb_cat t n s) (n + w) a' := by
  intro j hj
  by_cases e : j < n
  · rw [sb_cat_lo e, hk j e]
    exact h j e
  · obtain ⟨i, rfl⟩ : ∃ i, j = n + i := ⟨j - n, by omega⟩
    rw [sb_cat_hi]
    exact hs i (by omega)
theorem sb_latKeep {t : Nat → Nat} {n : Nat} {a a' : Nat → Int32} (h : sb_Lat t n a) (hk : ∀ j, j < n → a' j = a j) : sb_Lat t n a' := fun j hj => by
  rw [hk j hj]
  exact h j hj
def sb_cap (q m : Nat) : Nat := if q ≤ m then m else if 2 * m + 2 < q then q else 2 * m + 2
def sb_Room (q m mc ms : Nat) : Prop := q ≤ m ∨ (1 ≤ mc ∧ sb_cap q m ≤ ms ∧ sb_cap q m ≤ 65536)
theorem sb_cap_ge (q m : Nat) : q ≤ sb_cap q m := by
  unfold sb_cap
  split
  · omega
  · split <;> omega
theorem sb_cap_gem (q m : Nat) : m ≤ sb_cap q m := by
  unfold sb_cap
  split
  · omega
  · split <;> omega
theorem sb_cap_le {q m mc ms : Nat} (hm : m ≤ 65536) (hr : sb_Room q m mc ms) : sb_cap q m ≤ 65536 := by
  rcases hr with h | h
  · rw [sb_cap, if_pos h]
    exact hm
  · exact h.2.2
theorem sb_at {P : Int32 → Prop} {x y : Int32} (e : x = y) (h : P y) : P x := e ▸ h
def sb_dg (w : Nat) : Nat := if w < 10 then 1 else if w < 100 then 2 else if w < 1000 then 3 else if w < 10000 then 4 else if w < 100000 then 5 else if w < 1000000 then 6 else if w < 10000000 then 7 else if w < 100000000 then 8 else if w < 1000000000 then 9 else 10
def sb_dec (v : Nat) : Nat → Nat := fun i => 48 + v / 10 ^ (sb_dg v - 1 - i) % 10
theorem sb_dg_in (w : Nat) : 1 ≤ sb_dg w ∧ sb_dg w ≤ 10 := by
  unfold sb_dg
  constructor <;> (repeat' split) <;> omega
theorem sb_dg100 {w : Nat} (h : 100 ≤ w) (hw : w < 2 ^ 31) : sb_dg w = sb_dg (w / 100) + 2 := by
  rw [sb_dg, sb_dg, if_neg (show ¬ w < 10 by omega), if_neg (show ¬ w < 100 by omega)]
  by_cases h3 : w < 1000
  · rw [if_pos h3, if_pos (show w / 100 < 10 by omega)]
  rw [if_neg h3, if_neg (show ¬ w / 100 < 10 by omega)]
  by_cases h4 : w < 10000
  · rw [if_pos h4, if_pos (show w / 100 < 100 by omega)]
  rw [if_neg h4, if_neg (show ¬ w / 100 < 100 by omega)]
  by_cases h5 : w < 100000
  · rw [if_pos h5, if_pos (show w / 100 < 1000 by omega)]
  rw [if_neg h5, if_neg (show ¬ w / 100 < 1000 by omega)]
  by_cases h6 : w < 1000000
  · rw [if_pos h6, if_pos (show w / 100 < 10000 by omega)]
  rw [if_neg h6, if_neg (show ¬ w / 100 < 10000 by omega)]
  by_cases h7 : w < 10000000
  · rw [if_pos h7, if_pos (show w / 100 < 100000 by omega)]
  rw [if_neg h7, if_neg (show ¬ w / 100 < 100000 by omega)]
  by_cases h8 : w < 100000000
  · rw [if_pos h8, if_pos (show w / 100 < 1000000 by omega)]
  rw [if_neg h8, if_neg (show ¬ w / 100 < 1000000 by omega)]
  by_cases h9 : w < 1000000000
  · rw [if_pos h9, if_pos (show w / 100 < 10000000 by omega)]
  rw [if_neg h9, if_neg (show ¬ w / 100 < 10000000 by omega)]
  rw [if_pos (show w / 100 < 100000000 by omega)]
theorem sb_negT {w : Nat} (h : w < 2 ^ 31) : (-nI w).toInt = -(w : Int) := by
  rw [Int32.toInt_neg, nI_toInt h]
  exact Int.bmod_eq_of_le (by omega) (by omega)
theorem sb_nle {a b : Nat} (ha : a < 2 ^ 31) (hb : b < 2 ^ 31) : -nI a ≤ -nI b ↔ b ≤ a := by
  rw [Int32.le_iff_toInt_le, sb_negT ha, sb_negT hb]
  omega
theorem sb_nlt {a b : Nat} (ha : a < 2 ^ 31) (hb : b < 2 ^ 31) : -nI a < -nI b ↔ b < a := by
  rw [Int32.lt_iff_toInt_lt, sb_negT ha, sb_negT hb]
  omega
theorem sb_cmp {A B : Prop} {x : Int32} (v c : Nat) (f : c ≤ v → A) (g : v < c → B) (hv : v < 2 ^ 31) (hx : x = -nI c := by rfl) (hc : c < 2 ^ 31 := by omega) : (-nI v ≤ x → A) ∧ (¬ -nI v ≤ x → B) := by
  subst hx
  rw [sb_nle hv hc]
  exact ⟨f, fun z => g (by omega)⟩
theorem sb_ndiv {w : Nat} (hw : w < 2 ^ 31) : (-nI w) / 100 = -nI (w / 100) := by
  apply Int32.toInt_inj.mp
  have h100 : (100 : Int32).toInt = 100 := by decide
  rw [Int32.toInt_div, sb_negT hw, h100, sb_negT (by omega), Int.neg_tdiv, Int.tdiv_eq_ediv_of_nonneg (by omega), Int.bmod_eq_of_le (by omega) (by omega)]
  omega
theorem sb_nrem {w : Nat} (hw : w < 2 ^ 31) : (-nI (w / 100)) * 100 - (-nI w) = nI (w % 100) := by
  have h := pk_rem (a := w) (d := 100) hw (by decide) (by decide)
  rw [pk_div hw (by decide) (by decide)] at h
  rw [← h]
  show (-nI (w / 100)) * nI 100 - (-nI w) = nI w - nI (w / 100) * nI 100
  rw [Int32.neg_mul, Int32.sub_neg, Int32.add_comm, ← Int32.sub_eq_add_neg]
end
section
/-! rows on bits, shifts and unsigned numbers, to paste: each family out of a closed proof of our own, whole with what it rests on; each by itself clean at Lean in its own claim (generation 39, form 5). Take a family whole -/
/-! ===== Int32 by its bits: bt x i ===== -/
def bt (x : Int32) (i : Nat) : Bool := x.toBitVec.getLsbD i
theorem b_ext {x y : Int32} (h : ∀ i, i < 32 → bt x i = bt y i) : x = y := Int32.toBitVec_inj.mp (BitVec.eq_of_getLsbD_eq (fun i hi => h i hi))
theorem b_or (x y : Int32) (i : Nat) : bt (x ||| y) i = (bt x i || bt y i) := by unfold bt; rw [Int32.toBitVec_or, BitVec.getLsbD_or]
theorem b_and (x y : Int32) (i : Nat) : bt (x &&& y) i = (bt x i && bt y i) := by unfold bt; rw [Int32.toBitVec_and, BitVec.getLsbD_and]
theorem b_xor (x y : Int32) (i : Nat) : bt (x ^^^ y) i = (bt x i ^^ bt y i) := by unfold bt; rw [Int32.toBitVec_xor, BitVec.getLsbD_xor]
theorem b_big {x : Int32} {i : Nat} (h : 32 ≤ i) : bt x i = false := BitVec.getLsbD_of_ge _ _ h
theorem b_255 (i : Nat) : bt 255 i = decide (i < 8) := by
  rcases Nat.lt_or_ge i 32 with h | h
  · exact (by decide +kernel : ∀ i, i < 32 → bt 255 i = decide (i < 8)) i h
  · rw [b_big h, decide_eq_false (by omega)]
theorem b_65535 (i : Nat) : bt 65535 i = decide (i < 16) := by
  rcases Nat.lt_or_ge i 32 with h | h
  · exact (by decide +kernel : ∀ i, i < 32 → bt 65535 i = decide (i < 16)) i h
  · rw [b_big h, decide_eq_false (by omega)]
theorem b_m1 : ∀ i, i < 32 → bt (-1) i = true := by decide +kernel
theorem b_0 (i : Nat) : bt 0 i = false := BitVec.getLsbD_zero
theorem s_l : ∀ n, n < 32 → ((nI n &&& 31).toBitVec.smod 32).toNat = n := by decide +kernel
theorem s_u : ∀ n, n < 32 → (((nI n).toUInt32 &&& Int32.toUInt32 31).toBitVec % 32).toNat = n := by decide +kernel
theorem b_shl (n : Nat) (hn : n < 32) (x : Int32) {i : Nat} (hi : i < 32) : bt (x <<< (nI n &&& 31)) i = (decide (n ≤ i) && bt x (i - n)) := by
  unfold bt
  rw [Int32.toBitVec_shiftLeft]
  show (x.toBitVec <<< ((nI n &&& 31).toBitVec.smod 32).toNat).getLsbD i = _
  rw [s_l n hn, BitVec.getLsbD_shiftLeft]
  rcases Nat.lt_or_ge i n with h | h
  · simp [h, Nat.not_le.mpr h]
  · simp [hi, h, Nat.not_lt.mpr h]
theorem b_ushr (n : Nat) (hn : n < 32) (x : Int32) (i : Nat) : bt ((x.toUInt32 >>> ((nI n).toUInt32 &&& Int32.toUInt32 31)).toInt32) i = bt x (n + i) := by
  show (x.toUInt32 >>> ((nI n).toUInt32 &&& Int32.toUInt32 31)).toBitVec.getLsbD i = x.toUInt32.toBitVec.getLsbD (n + i)
  rw [UInt32.toBitVec_shiftRight]
  show (x.toUInt32.toBitVec >>> (((nI n).toUInt32 &&& Int32.toUInt32 31).toBitVec % 32).toNat).getLsbD i = _
  rw [s_u n hn, BitVec.getLsbD_ushiftRight]
theorem b_sshr (n : Nat) (hn : n < 32) (x : Int32) {i : Nat} (hi : i < 32) : bt (x >>> (nI n &&& 31)) i = if n + i < 32 then bt x (n + i) else bt x 31 := by
  unfold bt
  rw [Int32.toBitVec_shiftRight]
  show (x.toBitVec.sshiftRight ((nI n &&& 31).toBitVec.smod 32).toNat).getLsbD i = _
  rw [s_l n hn, BitVec.getLsbD_sshiftRight, BitVec.msb_eq_getLsbD_last]
  simp [hi]
theorem b_shl8 (x : Int32) {i : Nat} (hi : i < 32) : bt (x <<< ((8 : Int32) &&& 31)) i = (decide (8 ≤ i) && bt x (i - 8)) := b_shl 8 (by omega) x hi
theorem b_shl16 (x : Int32) {i : Nat} (hi : i < 32) : bt (x <<< ((16 : Int32) &&& 31)) i = (decide (16 ≤ i) && bt x (i - 16)) := b_shl 16 (by omega) x hi
theorem b_shl24 (x : Int32) {i : Nat} (hi : i < 32) : bt (x <<< ((24 : Int32) &&& 31)) i = (decide (24 ≤ i) && bt x (i - 24)) := b_shl 24 (by omega) x hi
theorem b_sshr8 (x : Int32) {i : Nat} (hi : i < 32) : bt (x >>> ((8 : Int32) &&& 31)) i = if 8 + i < 32 then bt x (8 + i) else bt x 31 := b_sshr 8 (by omega) x hi
/-! ===== nI under and, xor, >>>, one bit, 65535 ===== -/
theorem nx_and (a b : Nat) : nI a &&& nI b = nI (a &&& b) := by
  apply Int32.toBitVec_inj.1
  show BitVec.ofNat 32 a &&& BitVec.ofNat 32 b = BitVec.ofNat 32 (a &&& b)
  apply BitVec.eq_of_getLsbD_eq
  intro i hi
  simp [hi]
theorem nx_xor (a b : Nat) : nI a ^^^ nI b = nI (a ^^^ b) := by
  apply Int32.toBitVec_inj.1
  show BitVec.ofNat 32 a ^^^ BitVec.ofNat 32 b = BitVec.ofNat 32 (a ^^^ b)
  apply BitVec.eq_of_getLsbD_eq
  intro i hi
  simp [hi]
theorem nx_cnt : ∀ j : Fin 32, (UInt32.ofNat j.val &&& Int32.toUInt32 31).toNat % 32 = j.val := by decide +kernel
theorem nx_ush {k j : Nat} (hk : k < 65536) (hj : j < 32) : ((nI k).toUInt32 >>> ((nI j).toUInt32 &&& Int32.toUInt32 31)).toInt32 = nI (k >>> j) := by
  have hs : k >>> j ≤ k := by
    rw [Nat.shiftRight_eq_div_pow]
    exact Nat.div_le_self _ _
  have e2 : UInt32.ofNat k >>> (UInt32.ofNat j &&& Int32.toUInt32 31) = UInt32.ofNat (k >>> j) := by
    apply UInt32.toNat_inj.1
    have h1 : (UInt32.ofNat k).toNat = k := Nat.mod_eq_of_lt (by omega)
    have h2 : (UInt32.ofNat (k >>> j)).toNat = k >>> j := Nat.mod_eq_of_lt (by omega)
    rw [UInt32.toNat_shiftRight, nx_cnt ⟨j, hj⟩, h1, h2]
  show (UInt32.ofNat k >>> (UInt32.ofNat j &&& Int32.toUInt32 31)).toInt32 = _
  rw [e2]
  rfl
theorem nx_bit {k j : Nat} (hk : k < 65536) (hj : j < 16) : (((nI k).toUInt32 >>> ((nI j).toUInt32 &&& Int32.toUInt32 31)).toInt32 &&& 1) = 0 ↔ k.testBit j = false := by
  rw [nx_ush hk (by omega)]
  show nI (k >>> j) &&& nI 1 = 0 ↔ _
  rw [nx_and, Nat.and_one_is_mod, ← nI_0, nI_eq (by omega) (by omega), Nat.testBit_eq_decide_div_mod_eq, Nat.shiftRight_eq_div_pow, decide_eq_false_iff_not]
  generalize k / 2 ^ j = z
  omega
theorem nx_mod (k : Nat) : nI k &&& 65535 = nI (k % 65536) := by
  show nI k &&& nI 65535 = _
  rw [nx_and, show (65535 : Nat) = 2 ^ 16 - 1 from rfl, Nat.and_two_pow_sub_one_eq_mod]
theorem nx_m16 {k : Nat} (h : k < 65536) : nI k &&& 65535 = nI k := by rw [nx_mod, Nat.mod_eq_of_lt h]
theorem nx_mask (x : Int32) : ∃ k, k < 65536 ∧ x &&& 65535 = nI k := by
  have e : x = nI x.toBitVec.toNat := by
    apply Int32.toBitVec_inj.1
    show x.toBitVec = BitVec.ofNat 32 x.toBitVec.toNat
    simp
  refine ⟨x.toBitVec.toNat % 65536, Nat.mod_lt _ (by omega), ?_⟩
  rw [← nx_mod, ← e]
/-! ===== Int32 as a set of bits: test, set ===== -/
def nf_M (m : Int32) : Nat := 4294967296 - m.toBitVec.toNat
theorem nf_sh : ∀ l, l < 32 → ((1 : Int32) <<< (nI l &&& 31)).toBitVec = BitVec.twoPow 32 l := by decide +kernel
theorem nf_sl : ∀ l, l < 32 → (((nI l).toUInt32 &&& Int32.toUInt32 31).toBitVec % 32).toNat = l := by decide +kernel
theorem nf_tp : ∀ l, l < 32 → BitVec.twoPow 32 l ≠ 0#32 := by decide +kernel
theorem nf_bit (m : Int32) (l : Nat) (hl : l < 32) : ((m.toUInt32 >>> ((nI l).toUInt32 &&& Int32.toUInt32 31)).toInt32 &&& 1) = 0 ↔ (m &&& ((1 : Int32) <<< (nI l &&& 31))) = 0 := by
  have e : ((m.toUInt32 >>> ((nI l).toUInt32 &&& Int32.toUInt32 31)).toInt32).toBitVec = m.toBitVec >>> l := by
    show m.toBitVec >>> (((nI l).toUInt32 &&& Int32.toUInt32 31).toBitVec % 32) = m.toBitVec >>> l
    rw [BitVec.ushiftRight_eq', nf_sl l hl]
  rw [← Int32.toBitVec_inj, ← Int32.toBitVec_inj, Int32.toBitVec_and, Int32.toBitVec_and, nf_sh l hl, e, BitVec.and_twoPow]
  show (m.toBitVec >>> l &&& 1#32) = 0#32 ↔ _ = 0#32
  rw [BitVec.and_one_eq_setWidth_ofBool_getLsbD, BitVec.getLsbD_ushiftRight, Nat.add_zero]
  cases hb : m.toBitVec.getLsbD l
  · exact ⟨fun _ => by simp, fun _ => by decide⟩
  · exact ⟨fun z => absurd z (by decide), fun z => absurd ((if_pos rfl).symm.trans z) (nf_tp l hl)⟩
theorem nf_gr (m k : Int32) (h : m &&& k = 0) (hk : k ≠ 0) : nf_M (m ||| k) < nf_M m := by
  have hm := m.toBitVec.isLt
  have hm' := (m ||| k).toBitVec.isLt
  have h1 : m.toBitVec.toNat ≤ (m ||| k).toBitVec.toNat := by
    rw [Int32.toBitVec_or, BitVec.toNat_or]
    exact Nat.left_le_or
  have h2 : m.toBitVec.toNat ≠ (m ||| k).toBitVec.toNat := by
    intro e
    have e2 : m = m ||| k := Int32.toBitVec_inj.mp (BitVec.eq_of_toNat_eq e)
    apply hk
    apply Int32.toBitVec_inj.mp
    show k.toBitVec = 0#32
    apply BitVec.eq_of_getLsbD_eq
    intro i hi
    have a : m.toBitVec.getLsbD i = (m.toBitVec.getLsbD i || k.toBitVec.getLsbD i) := by rw [← BitVec.getLsbD_or, ← Int32.toBitVec_or, ← e2]
    have b : (m.toBitVec.getLsbD i && k.toBitVec.getLsbD i) = false := by
      rw [← BitVec.getLsbD_and, ← Int32.toBitVec_and, h]
      exact BitVec.getLsbD_zero
    rw [BitVec.getLsbD_zero]
    revert a b
    cases m.toBitVec.getLsbD i <;> cases k.toBitVec.getLsbD i <;> simp
  unfold nf_M
  omega
/-! ===== a byte read unsigned ===== -/
theorem bp_b (x : Int32) : x.toInt8.toInt32 &&& 255 = x &&& 255 := by
  apply Int32.toBitVec_inj.mp
  rw [Int32.toBitVec_and, Int32.toBitVec_and, Int8.toBitVec_toInt32, Int32.toBitVec_toInt8]
  apply BitVec.eq_of_getLsbD_eq
  intro i hi
  rw [BitVec.getLsbD_and, BitVec.getLsbD_and]
  have hm : ∀ i < 32, 8 ≤ i → (255 : Int32).toBitVec.getLsbD i = false := by decide
  rcases Nat.lt_or_ge i 8 with z | z
  · rw [BitVec.getLsbD_signExtend, BitVec.getLsbD_signExtend, if_pos z, if_pos hi]
    simp only [z, hi, decide_true, Bool.true_and]
  · rw [hm i hi z]; simp
/-! ===== the char cast and 65535 ===== -/
theorem em_w (v : Int32) : ∃ w : Nat, w < 65536 ∧ (v.toUInt32 % 65536).toInt32 = nI w ∧ v &&& 65535 = nI w := by
  have hr := lw_u16_r v
  have h0 : (0 : Int32).toInt = 0 := by decide
  obtain ⟨w, h1, h2⟩ := nI_of (x := lw_u16 v) (by rw [Int32.lt_iff_toInt_lt]; omega)
  have h3 : (v.toUInt32 % 65536).toInt32 = nI w := h2
  rw [h2, nI_toInt h1] at hr
  exact ⟨w, by omega, h3, by rw [← lg_i2c_mask, ← lg_i2c_nf, h3]⟩
/-! ===== Int64 as a set of bits: test, set, clear ===== -/
theorem ts_nf {x : Bool} (h : ¬ x = false) : x = true := by cases x <;> first | rfl | exact absurd rfl h
theorem ts_nt {x : Bool} (h : ¬ x = true) : x = false := by cases x <;> first | rfl | exact absurd rfl h
theorem ts_bit {w : Int64} {s : UInt64} {j : Nat} (hj : j < 64) (hs : s.toNat = j) : ((w.toUInt64 >>> s).toInt64 &&& 1) = 0 ↔ w.toBitVec.getLsbD j = false := by
  have e : (w.toUInt64 >>> s).toInt64.toBitVec = w.toBitVec >>> j := by
    apply BitVec.eq_of_toNat_eq
    show (w.toUInt64 >>> s).toNat = _
    rw [UInt64.toNat_shiftRight, hs, Nat.mod_eq_of_lt hj, BitVec.toNat_ushiftRight]
    rfl
  rw [← Int64.toBitVec_inj, Int64.toBitVec_and, e]
  show w.toBitVec >>> j &&& 1#64 = 0#64 ↔ _
  constructor
  · intro h
    have t := congrArg (fun x => x.getLsbD 0) h
    simpa using t
  · intro h
    apply BitVec.eq_of_getLsbD_eq
    intro i hi
    cases i with
    | zero => simp [h]
    | succ i => simp
theorem ts_or {w m : Int64} {j : Nat} (hj : j < 64) (hm : m.toBitVec = BitVec.twoPow 64 j) : (w ||| m) = w ↔ w.toBitVec.getLsbD j = true := by
  rw [← Int64.toBitVec_inj, Int64.toBitVec_or, hm]
  constructor
  · intro h
    have t := congrArg (fun x => x.getLsbD j) h
    simp only [BitVec.getLsbD_or, BitVec.getLsbD_twoPow] at t
    simpa [hj] using t.symm
  · intro h
    apply BitVec.eq_of_getLsbD_eq
    intro i hi
    rw [BitVec.getLsbD_or, BitVec.getLsbD_twoPow]
    by_cases e : j = i
    · subst e; rw [h, Bool.true_or]
    · simp [e]
theorem ts_and {w m : Int64} {j : Nat} (hj : j < 64) (hm : m.toBitVec = BitVec.twoPow 64 j) : (w &&& (m ^^^ (-1))) = w ↔ w.toBitVec.getLsbD j = false := by
  have ha : (-1 : Int64).toBitVec = BitVec.allOnes 64 := by decide
  rw [← Int64.toBitVec_inj, Int64.toBitVec_and, Int64.toBitVec_xor, hm, ha]
  constructor
  · intro h
    have t := congrArg (fun x => x.getLsbD j) h
    simp only [BitVec.getLsbD_and, BitVec.getLsbD_xor, BitVec.getLsbD_twoPow, BitVec.getLsbD_allOnes] at t
    simpa [hj] using t.symm
  · intro h
    apply BitVec.eq_of_getLsbD_eq
    intro i hi
    rw [BitVec.getLsbD_and, BitVec.getLsbD_xor, BitVec.getLsbD_twoPow, BitVec.getLsbD_allOnes]
    by_cases e : j = i
    · subst e; rw [h, Bool.false_and]
    · simp [e, hi]
/-! ===== lN n to 2^64: shifts, and, or, masks, one bit ===== -/
theorem wb_tb (n : Nat) : (lN n).toBitVec = BitVec.ofNat 64 n := rfl
theorem wb_inj {a b : Int64} (h : a.toBitVec = b.toBitVec) : a = b := Int64.toBitVec_inj.mp h
theorem wb_tn {n : Nat} (h : n < 2 ^ 64) : (lN n).toBitVec.toNat = n := by rw [wb_tb, BitVec.toNat_ofNat, Nat.mod_eq_of_lt h]
theorem wb_of (x : Int64) : ∃ n, n < 2 ^ 64 ∧ x = lN n := ⟨x.toBitVec.toNat, x.toBitVec.isLt, wb_inj (by rw [wb_tb]; simp)⟩
theorem wb_of32 (x : Int32) : ∃ n, n < 2 ^ 32 ∧ x = nI n := ⟨x.toBitVec.toNat, x.toBitVec.isLt, Int32.toBitVec_inj.mp (by show _ = BitVec.ofNat 32 _; simp)⟩
theorem wb_c : ∀ k, k < 64 → ((nI k).toInt64 &&& 63) = lN k := by decide +kernel
theorem wb_cu : ∀ k, k < 64 → ((nI k).toInt64.toUInt64 &&& Int64.toUInt64 63) = UInt64.ofNat k := by decide +kernel
theorem wb_sm : ∀ k, k < 64 → (BitVec.ofNat 64 k).smod 64 = BitVec.ofNat 64 k := by decide +kernel
theorem wb_pw {a b : Nat} (h : a ≤ b) : 2 ^ b = 2 ^ a * 2 ^ (b - a) := by rw [← Nat.pow_add]; congr 1; omega
theorem wb_lt2 {a b : Nat} (h : a < b) : 2 ^ a < 2 ^ b := Nat.pow_lt_pow_right (by decide) h
theorem wb_mod (n : Nat) : lN n = lN (n % 2 ^ 64) := wb_inj (by rw [wb_tb, wb_tb]; apply BitVec.eq_of_toNat_eq; rw [BitVec.toNat_ofNat, BitVec.toNat_ofNat, Nat.mod_mod])
theorem wb_shr {n k : Nat} (hn : n < 2 ^ 64) (hk : k < 64) : ((lN n).toUInt64 >>> ((nI k).toInt64.toUInt64 &&& Int64.toUInt64 63)).toInt64 = lN (n / 2 ^ k) := by
  rw [wb_cu k hk]
  apply wb_inj
  apply BitVec.eq_of_toNat_eq
  show ((lN n).toUInt64 >>> UInt64.ofNat k).toNat = (BitVec.ofNat 64 _).toNat
  have h1 : (UInt64.ofNat k).toNat = k := by
    show (BitVec.ofNat 64 k).toNat = k
    rw [BitVec.toNat_ofNat, Nat.mod_eq_of_lt (by omega)]
  have h2 : (lN n).toUInt64.toNat = n := wb_tn hn
  rw [UInt64.toNat_shiftRight, h1, h2, Nat.mod_eq_of_lt hk, Nat.shiftRight_eq_div_pow, BitVec.toNat_ofNat, Nat.mod_eq_of_lt (Nat.lt_of_le_of_lt (Nat.div_le_self _ _) hn)]
theorem wb_shl (n : Nat) {k : Nat} (hk : k < 64) : lN n <<< ((nI k).toInt64 &&& 63) = lN (n * 2 ^ k) := by
  rw [wb_c k hk]
  apply wb_inj
  rw [Int64.toBitVec_shiftLeft, wb_tb, wb_tb, wb_tb, wb_sm k hk]
  apply BitVec.eq_of_toNat_eq
  rw [BitVec.shiftLeft_eq', BitVec.toNat_shiftLeft, BitVec.toNat_ofNat, BitVec.toNat_ofNat, BitVec.toNat_ofNat, Nat.mod_eq_of_lt (show k < 2 ^ 64 by omega), Nat.shiftLeft_eq, Nat.mul_mod, Nat.mod_mod, ← Nat.mul_mod]
theorem wb_and {a b : Nat} (ha : a < 2 ^ 64) (hb : b < 2 ^ 64) : lN a &&& lN b = lN (a &&& b) := by
  apply wb_inj
  rw [Int64.toBitVec_and, wb_tb, wb_tb, wb_tb]
  apply BitVec.eq_of_toNat_eq
  rw [BitVec.toNat_and, BitVec.toNat_ofNat, BitVec.toNat_ofNat, BitVec.toNat_ofNat, Nat.mod_eq_of_lt ha, Nat.mod_eq_of_lt hb, Nat.mod_eq_of_lt (Nat.and_lt_two_pow _ hb)]
theorem wb_or {a b : Nat} (ha : a < 2 ^ 64) (hb : b < 2 ^ 64) : lN a ||| lN b = lN (a ||| b) := by
  apply wb_inj
  rw [Int64.toBitVec_or, wb_tb, wb_tb, wb_tb]
  apply BitVec.eq_of_toNat_eq
  rw [BitVec.toNat_or, BitVec.toNat_ofNat, BitVec.toNat_ofNat, BitVec.toNat_ofNat, Nat.mod_eq_of_lt ha, Nat.mod_eq_of_lt hb, Nat.mod_eq_of_lt (Nat.or_lt_two_pow ha hb)]
theorem wb_mask {n k : Nat} (hn : n < 2 ^ 64) (hk : k < 64) : lN n &&& lN (2 ^ k - 1) = lN (n % 2 ^ k) := by
  rw [wb_and hn (by have := wb_lt2 hk; omega), Nat.and_two_pow_sub_one_eq_mod]
theorem wb_a1 {n : Nat} (hn : n < 2 ^ 64) : lN n &&& 1 = lN (n % 2) := wb_mask (k := 1) hn (by decide)
theorem wb_bit {n k : Nat} (hn : n < 2 ^ 64) (hk : k < 64) : ((lN n).toUInt64 >>> ((nI k).toInt64.toUInt64 &&& Int64.toUInt64 63)).toInt64 &&& 1 = lN (n / 2 ^ k % 2) := by
  rw [wb_shr hn hk, wb_a1 (Nat.lt_of_le_of_lt (Nat.div_le_self _ _) hn)]
theorem wb_xor {q k : Nat} (hk : k < 63) (h : 2 ^ k ≤ q) (h2 : q < 2 ^ (k + 1)) : lN q ^^^ lN (2 ^ k) = lN (q - 2 ^ k) := by
  obtain ⟨r, rfl⟩ : ∃ r, q = 2 ^ k + r := ⟨q - 2 ^ k, by omega⟩
  have hr : r < 2 ^ k := by rw [Nat.pow_succ] at h2; omega
  have hx : (2 ^ k + r) ^^^ 2 ^ k = r := by
    apply Nat.eq_of_testBit_eq
    intro i
    rw [Nat.testBit_xor, Nat.testBit_two_pow]
    rcases Nat.lt_trichotomy i k with h | h | h
    · rw [Nat.testBit_two_pow_add_gt h]
      simp [show ¬ k = i by omega]
    · subst h
      rw [Nat.testBit_two_pow_add_eq]
      simp
    · have a1 : 2 ^ (k + 1) ≤ 2 ^ i := Nat.pow_le_pow_right (by decide) h
      rw [Nat.testBit_lt_two_pow (show 2 ^ k + r < 2 ^ i by omega), Nat.testBit_lt_two_pow (show r < 2 ^ i by omega)]
      simp [show ¬ k = i by omega]
  have b1 := wb_lt2 (show k + 1 < 64 by omega)
  have b2 := wb_lt2 (show k < 64 by omega)
  apply wb_inj
  rw [Int64.toBitVec_xor, wb_tb, wb_tb, wb_tb]
  apply BitVec.eq_of_toNat_eq
  rw [BitVec.toNat_xor, BitVec.toNat_ofNat, BitVec.toNat_ofNat, BitVec.toNat_ofNat, Nat.mod_eq_of_lt (by omega : 2 ^ k + r < 2 ^ 64), Nat.mod_eq_of_lt b2, hx, Nat.add_sub_cancel_left, Nat.mod_eq_of_lt (by omega)]
/-! ===== lN: masks, 'or' of parts that don't overlap is a sum ===== -/
theorem u_tn {n : Nat} (h : n < 2 ^ 64) : (UInt64.ofNat n).toNat = n := Nat.mod_eq_of_lt h
theorem g_and {a b c : Nat} (ha : a < 2 ^ 64) (hb : b < 2 ^ 64) (hc : a &&& b = c) : lN a &&& lN b = lN c := by
  subst hc
  have h : UInt64.ofNat a &&& UInt64.ofNat b = UInt64.ofNat (a &&& b) := UInt64.toNat_inj.mp (by rw [UInt64.toNat_and, u_tn ha, u_tn hb, u_tn (Nat.and_lt_two_pow a hb)])
  have h2 := congrArg UInt64.toInt64 h
  exact h2
theorem g_and1 {a : Nat} (ha : a < 2 ^ 64) : lN a &&& 1 = lN (a % 2) := g_and (b := 1) ha (by decide) (Nat.and_two_pow_sub_one_eq_mod a 1)
theorem g_mask {a s p : Nat} (hp : 2 ^ s = p) (hs : s < 64) (ha : a < 2 ^ 64) : lN a &&& lN (p - 1) = lN (a % p) := by
  subst hp
  have := Nat.pow_lt_pow_right (show 1 < 2 by decide) hs
  exact g_and ha (by omega) (Nat.and_two_pow_sub_one_eq_mod a s)
theorem g_or {k p a b : Nat} (hp : 2 ^ k = p) (ha : a < p) (h : b * p + a < 2 ^ 64) : lN (b * p) ||| lN a = lN (b * p + a) := by
  subst hp
  have h1 : b * 2 ^ k ||| a = b * 2 ^ k + a := by rw [← Nat.shiftLeft_eq, Nat.shiftLeft_add_eq_or_of_lt ha]
  have h3 : UInt64.ofNat (b * 2 ^ k) ||| UInt64.ofNat a = UInt64.ofNat (b * 2 ^ k + a) := UInt64.toNat_inj.mp (by rw [UInt64.toNat_or, u_tn (by omega), u_tn (by omega), u_tn h, h1])
  have h2 := congrArg UInt64.toInt64 h3
  exact h2
theorem g_or' {k p a b : Nat} (hp : 2 ^ k = p) (ha : a < p) (h : a + b * p < 2 ^ 64) : lN a ||| lN (b * p) = lN (a + b * p) := by
  rw [Int64.or_comm, g_or hp ha (by omega), Nat.add_comm]
theorem g_ushr {a k p : Nat} {y : UInt64} (hy : y = UInt64.ofNat k) (hk : k < 64) (hp : 2 ^ k = p) (ha : a < 2 ^ 64) : ((lN a).toUInt64 >>> y).toInt64 = lN (a / p) := by
  subst hy hp
  have h : UInt64.ofNat a >>> UInt64.ofNat k = UInt64.ofNat (a / 2 ^ k) := UInt64.toNat_inj.mp (by rw [UInt64.toNat_shiftRight, u_tn ha, u_tn (by omega), u_tn (Nat.lt_of_le_of_lt (Nat.div_le_self _ _) ha), Nat.mod_eq_of_lt hk, Nat.shiftRight_eq_div_pow])
  have h2 := congrArg UInt64.toInt64 h
  exact h2
theorem g_shl {a k p : Nat} {y : Int64} (hy : y.toBitVec.smod 64 = BitVec.ofNat 64 k) (hk : k < 64) (hp : 2 ^ k = p) (ha : a < 2 ^ 64) : lN a <<< y = lN (a * p) := by
  subst hp
  apply Int64.toBitVec_inj.mp
  rw [Int64.toBitVec_shiftLeft, hy]
  apply BitVec.eq_of_toNat_eq
  have hb : (lN a).toBitVec.toNat = a := Nat.mod_eq_of_lt ha
  have hk' : (BitVec.ofNat 64 k).toNat = k := Nat.mod_eq_of_lt (by omega)
  have h : ((lN a).toBitVec <<< BitVec.ofNat 64 k).toNat = (a * 2 ^ k) % 2 ^ 64 := by simp only [BitVec.shiftLeft_eq', BitVec.toNat_shiftLeft, hb, hk', Nat.shiftLeft_eq]
  exact h
/-! ===== lN to 2^62 under >> and >>> ===== -/
theorem pf_lI {a : Nat} (h : a < 2 ^ 63) : (lN a).toInt = (a : Int) := lg_ofNat_toInt h
theorem pf_shr {a d : Nat} {D : Int64} (hD : (D.toBitVec.smod 64).toNat = d) (h : a < 2 ^ 62) : lN a >>> D = lN (a / 2 ^ d) := by
  have hd : a / 2 ^ d ≤ a := Nat.div_le_self _ _
  apply Int64.toInt_inj.mp
  have e : (lN a >>> D).toInt = (lN a).toInt >>> d := by
    rw [← hD]
    exact BitVec.toInt_sshiftRight ..
  rw [e, Int.shiftRight_eq_div_pow, pf_lI (by omega), pf_lI (by omega)]
  rfl
theorem pf_ushr {a d : Nat} {D : UInt64} (hD : D.toNat % 64 = d) (h : a < 2 ^ 62) : ((lN a).toUInt64 >>> D).toInt64 = lN (a / 2 ^ d) := by
  have hd : a / 2 ^ d ≤ a := Nat.div_le_self _ _
  have e : (lN a).toUInt64 >>> D = UInt64.ofNat (a / 2 ^ d) := UInt64.toNat_inj.mp (by
    rw [UInt64.toNat_shiftRight, hD, Nat.shiftRight_eq_div_pow, UInt64.toNat_ofNat']
    show (UInt64.ofNat a).toNat / 2 ^ d = _
    rw [UInt64.toNat_ofNat', Nat.mod_eq_of_lt (by omega), Nat.mod_eq_of_lt (by omega)])
  rw [e]
  rfl
theorem pf_andw (x : Int64) : ∃ m, m < 2 ^ 32 ∧ x &&& 4294967295 = lN m := ⟨x.toBitVec.toNat % 2 ^ 32, Nat.mod_lt _ (by decide), Int64.toBitVec_inj.mp (BitVec.eq_of_toNat_eq (by
  show (x.toBitVec &&& 4294967295#64).toNat = (BitVec.ofNat 64 (x.toBitVec.toNat % 2 ^ 32)).toNat
  rw [BitVec.toNat_and, show (4294967295#64).toNat = 2 ^ 32 - 1 from by decide, Nat.and_two_pow_sub_one_eq_mod, BitVec.toNat_ofNat]
  omega))⟩
/-! ===== Int64 as an unsigned number: uN x ===== -/
def uN (x : Int64) : Nat := x.toUInt64.toNat
theorem uN_lt (x : Int64) : uN x < 18446744073709551616 := x.toUInt64.toNat_lt
theorem uN_inj {x y : Int64} (h : uN x = uN y) : x = y := congrArg UInt64.toInt64 (UInt64.toNat_inj.mp h)
theorem uN_add (x y : Int64) : uN (x + y) = (uN x + uN y) % 18446744073709551616 := by
  show (x.toUInt64 + y.toUInt64).toNat = _
  exact UInt64.toNat_add _ _
theorem uN_mul (x y : Int64) : uN (x * y) = (uN x * uN y) % 18446744073709551616 := by
  show (x.toUInt64 * y.toUInt64).toNat = _
  exact UInt64.toNat_mul _ _
theorem uN_shl (x : Int64) : uN (x <<< ((1 : Int32).toInt64 &&& 63)) = (2 * uN x) % 18446744073709551616 := by
  have h : (((1 : Int32).toInt64 &&& 63).toBitVec.smod 64).toNat = 1 := by decide
  show (x.toBitVec <<< (((1 : Int32).toInt64 &&& 63).toBitVec.smod 64).toNat).toNat = _
  rw [h, BitVec.toNat_shiftLeft, Nat.shiftLeft_eq, Nat.mul_comm]
  rfl
theorem uN_shr (x : Int64) (s : UInt64) : uN (x.toUInt64 >>> s).toInt64 = uN x / 2 ^ (s.toNat % 64) := by
  show (x.toUInt64 >>> s).toNat = _
  rw [UInt64.toNat_shiftRight, Nat.shiftRight_eq_div_pow]
  rfl
theorem uN_s32 (x : Int64) : uN (x.toUInt64 >>> ((32 : Int32).toInt64.toUInt64 &&& Int64.toUInt64 63)).toInt64 = uN x / 4294967296 := by
  have h : ((32 : Int32).toInt64.toUInt64 &&& Int64.toUInt64 63).toNat % 64 = 32 := by decide
  rw [uN_shr, h]
theorem uN_s63 (x : Int64) : uN (x.toUInt64 >>> ((63 : Int32).toInt64.toUInt64 &&& Int64.toUInt64 63)).toInt64 = uN x / 9223372036854775808 := by
  have h : ((63 : Int32).toInt64.toUInt64 &&& Int64.toUInt64 63).toNat % 64 = 63 := by decide
  rw [uN_shr, h]
theorem uN_lo (x : Int64) : uN (x &&& 4294967295) = uN x % 4294967296 := by
  show (x.toUInt64 &&& Int64.toUInt64 4294967295).toNat = _
  rw [UInt64.toNat_and]
  exact Nat.and_two_pow_sub_one_eq_mod _ 32
theorem uN_bit (x : Int64) : (x &&& 1) = 0 ↔ uN x % 2 = 0 := by
  have h : uN (x &&& 1) = uN x % 2 := by
    show (x.toUInt64 &&& Int64.toUInt64 1).toNat = _
    rw [UInt64.toNat_and]
    exact Nat.and_two_pow_sub_one_eq_mod _ 1
  rw [← h]
  exact ⟨fun z => by rw [z]; rfl, fun z => uN_inj (z.trans rfl)⟩
theorem uN_or {x y : Int64} (hy : uN y < 2) : uN ((x <<< ((1 : Int32).toInt64 &&& 63)) ||| y) = (2 * uN x) % 18446744073709551616 + uN y := by
  have h1 : uN ((x <<< ((1 : Int32).toInt64 &&& 63)) ||| y) = uN (x <<< ((1 : Int32).toInt64 &&& 63)) ||| uN y := UInt64.toNat_or _ _
  have h2 : (2 * uN x) % 18446744073709551616 = 2 ^ 1 * (uN x % 9223372036854775808) := by omega
  rw [h1, uN_shl, h2]
  exact (Nat.two_pow_add_eq_or_of_lt (i := 1) hy _).symm
theorem nat_xor {a : Nat} (h : a < 18446744073709551616) : a ^^^ 2 ^ 63 = (a + 9223372036854775808) % 18446744073709551616 := by
  have h1 : (a ^^^ 2 ^ 63) % 2 ^ 63 = a % 2 ^ 63 := by rw [Nat.xor_mod_two_pow, Nat.mod_self, Nat.xor_zero]
  have h2 : (a ^^^ 2 ^ 63) / 2 ^ 63 = (a / 2 ^ 63) ^^^ 1 := by rw [Nat.xor_div_two_pow, Nat.div_self (Nat.two_pow_pos 63)]
  have h3 : a / 2 ^ 63 = 0 ∨ a / 2 ^ 63 = 1 := by omega
  generalize a ^^^ 2 ^ 63 = t at h1 h2
  rcases h3 with h3 | h3
  · rw [h3] at h2
    have h2 : t / 2 ^ 63 = 1 := h2
    omega
  · rw [h3] at h2
    have h2 : t / 2 ^ 63 = 0 := h2
    omega
theorem uN_xor (x : Int64) : uN (x ^^^ (-9223372036854775808)) = (uN x + 9223372036854775808) % 18446744073709551616 := by
  rw [← nat_xor (uN_lt x)]
  exact UInt64.toNat_xor _ _
theorem uN_int (x : Int64) : x.toInt = if 2 * uN x < 18446744073709551616 then (uN x : Int) else (uN x : Int) - 18446744073709551616 := BitVec.toInt_eq_toNat_cond _
theorem uN_le (x y : Int64) : (x ^^^ (-9223372036854775808)) ≤ (y ^^^ (-9223372036854775808)) ↔ uN x ≤ uN y := by
  have hx := uN_lt x
  have hy := uN_lt y
  rw [Int64.le_iff_toInt_le, uN_int, uN_int, uN_xor, uN_xor]
  omega
theorem uN_sk (x : Int64) {k : Nat} (hk : k < 64) : uN (x.toUInt64 >>> ((nI k).toInt64.toUInt64 &&& Int64.toUInt64 63)).toInt64 = uN x / 2 ^ k := by
  have h : ((nI k).toInt64.toUInt64 &&& Int64.toUInt64 63).toNat % 64 = k := by
    rw [nI_l (by omega), UInt64.toNat_and]
    have e : (lN k).toUInt64.toNat = k % 2 ^ 64 := rfl
    have e2 : (Int64.toUInt64 63).toNat = 2 ^ 6 - 1 := by decide
    rw [e, e2, Nat.and_two_pow_sub_one_eq_mod]
    omega
  rw [uN_shr, h]
/-! ===== unsigned comparison by xor with the least ===== -/
theorem lN_bv (n : Nat) : (lN n).toBitVec = BitVec.ofNat 64 n := rfl
theorem lN_nat {n : Nat} (h : n < 2 ^ 64) : (lN n).toBitVec.toNat = n := by rw [lN_bv, BitVec.toNat_ofNat]; exact Nat.mod_eq_of_lt h
theorem lN_xor (a b : Nat) : lN a ^^^ lN b = lN (a ^^^ b) := by
  apply Int64.toBitVec_inj.mp; rw [Int64.toBitVec_xor, lN_bv, lN_bv, lN_bv]; apply BitVec.eq_of_getLsbD_eq; intro i hi; simp [BitVec.getLsbD_ofNat, Nat.testBit_xor, hi]
theorem lN_ti {m : Nat} (h : m < 2 ^ 64) : (lN m).toInt = if m < 2 ^ 63 then (m : Int) else (m : Int) - 2 ^ 64 := by
  have c := BitVec.toInt_eq_toNat_cond (lN m).toBitVec
  rw [lN_nat h] at c
  show (lN m).toBitVec.toInt = _
  rw [c]
  split <;> split <;> omega
theorem xor63 {x : Nat} (h : x < 2 ^ 63) : x ^^^ 2 ^ 63 = 2 ^ 63 + x := by
  apply Nat.eq_of_testBit_eq
  intro i
  rw [Nat.testBit_xor, Nat.testBit_two_pow]
  rcases Nat.lt_trichotomy i 63 with z | z | z
  · rw [Nat.testBit_two_pow_add_gt z, decide_eq_false (by omega)]; simp
  · subst z; rw [Nat.testBit_two_pow_add_eq]; simp
  · have hp : 2 ^ 64 ≤ 2 ^ i := Nat.pow_le_pow_right (by decide) z
    rw [Nat.testBit_lt_two_pow (show x < 2 ^ i by omega), Nat.testBit_lt_two_pow (show 2 ^ 63 + x < 2 ^ i by omega), decide_eq_false (by omega)]; rfl
theorem xorS {a : Nat} (h : a < 2 ^ 64) : (lN a ^^^ (-9223372036854775808)).toInt = (a : Int) - 2 ^ 63 := by
  rw [show (-9223372036854775808 : Int64) = lN (2 ^ 63) from by decide +kernel, lN_xor]
  rcases Nat.lt_or_ge a (2 ^ 63) with z | z
  · rw [xor63 z, lN_ti (by omega), if_neg (by omega)]; omega
  · obtain ⟨x, rfl⟩ : ∃ x, a = 2 ^ 63 + x := ⟨a - 2 ^ 63, by omega⟩
    rw [← xor63 (by omega), Nat.xor_assoc, Nat.xor_self, Nat.xor_zero, lN_ti (by omega), if_pos (by omega), xor63 (by omega)]; omega
theorem ultL {a b : Nat} (ha : a < 2 ^ 64) (hb : b < 2 ^ 64) : ((lN b ^^^ (-9223372036854775808)) ≤ (lN a ^^^ (-9223372036854775808))) ↔ b ≤ a := by
  rw [Int64.le_iff_toInt_le, xorS ha, xorS hb]; omega
/-! ===== Int64 masks of n low bits ===== -/
theorem cr_bits (W U M : BitVec 64) : ((W &&& U) &&& (U &&& (M ^^^ BitVec.allOnes 64))) = 0#64 ↔ (W &&& U) &&& M = W &&& U := by
  constructor
  · intro h
    apply BitVec.eq_of_getLsbD_eq
    intro i hi
    have e := congrArg (fun x => BitVec.getLsbD x i) h
    simp only [BitVec.getLsbD_and, BitVec.getLsbD_xor, BitVec.getLsbD_allOnes, BitVec.getLsbD_zero, hi, decide_true] at e ⊢
    revert e
    cases W.getLsbD i <;> cases U.getLsbD i <;> cases M.getLsbD i <;> decide
  · intro h
    apply BitVec.eq_of_getLsbD_eq
    intro i hi
    have e := congrArg (fun x => BitVec.getLsbD x i) h
    simp only [BitVec.getLsbD_and, BitVec.getLsbD_xor, BitVec.getLsbD_allOnes, BitVec.getLsbD_zero, hi, decide_true] at e ⊢
    revert e
    cases W.getLsbD i <;> cases U.getLsbD i <;> cases M.getLsbD i <;> decide
theorem cr_mask (w U m : Int64) (n : Nat) (hm : m.toBitVec.toNat = 2 ^ n - 1) : ((w &&& U) &&& (U &&& (m ^^^ (-1)))) = 0 ↔ (w &&& U).toBitVec.toNat < 2 ^ n := by
  have e0 : (-1 : Int64).toBitVec = BitVec.allOnes 64 := by decide
  have z0 : (0 : Int64).toBitVec = 0#64 := by decide
  rw [← Int64.toBitVec_inj, z0, Int64.toBitVec_and, Int64.toBitVec_and, Int64.toBitVec_and, Int64.toBitVec_xor, e0, cr_bits]
  generalize w.toBitVec &&& U.toBitVec = T
  rw [← BitVec.toNat_inj, BitVec.toNat_and, hm, Nat.and_two_pow_sub_one_eq_mod]
  constructor
  · intro h
    have t := Nat.mod_lt T.toNat (Nat.two_pow_pos n)
    rw [h] at t
    exact t
  · exact Nat.mod_eq_of_lt
theorem cr_shr (t : Int64) (x : UInt64) (n : Nat) (hx : x.toNat % 64 = n) : (t.toUInt64 >>> x).toInt64 = 0 ↔ t.toBitVec.toNat < 2 ^ n := by
  rw [← Int64.toBitVec_inj, ← BitVec.toNat_inj]
  show (t.toUInt64 >>> x).toNat = 0 ↔ t.toUInt64.toNat < 2 ^ n
  rw [UInt64.toNat_shiftRight, hx, Nat.shiftRight_eq_div_pow]
  constructor
  · intro h
    have d : t.toUInt64.toNat / 2 ^ n < 1 := by
      rw [h]
      decide
    have e := (Nat.div_lt_iff_lt_mul (Nat.two_pow_pos n)).mp d
    rw [Nat.one_mul] at e
    exact e
  · exact Nat.div_eq_of_lt
theorem cr_amt (s : Int64) : ∃ n, n < 64 ∧ s &&& 63 = lN n ∧ (s.toUInt64 &&& Int64.toUInt64 63).toNat % 64 = n := by
  have e : (s.toUInt64 &&& Int64.toUInt64 63).toNat = s.toUInt64.toNat % 2 ^ 6 := by
    rw [UInt64.toNat_and, show (Int64.toUInt64 63).toNat = 2 ^ 6 - 1 from by decide, Nat.and_two_pow_sub_one_eq_mod]
  refine ⟨s.toUInt64.toNat % 2 ^ 6, by omega, ?_, by omega⟩
  rw [← Int64.toBitVec_inj, ← BitVec.toNat_inj]
  show (s.toUInt64 &&& Int64.toUInt64 63).toNat = (BitVec.ofNat 64 (s.toUInt64.toNat % 2 ^ 6)).toNat
  rw [e, BitVec.toNat_ofNat]
  omega
end
section
/-! brackets as a function o; tc_n: openings before a place; tc_l: the level before a place -/
def tc_n (o : Nat → Bool) : Nat → Nat
  | 0 => 0
  | k + 1 => tc_n o k + (if o k = true then 1 else 0)
def tc_l (o : Nat → Bool) (k : Nat) : Int := 2 * (tc_n o k : Int) - (k : Int)
section
variable {o : Nat → Bool}
theorem tc_n0 : tc_n o 0 = 0 := rfl
theorem tc_l0 : tc_l o 0 = 0 := by simp [tc_l, tc_n]
theorem tc_nt {k : Nat} (h : o k = true) : tc_n o (k + 1) = tc_n o k + 1 := by simp [tc_n, h]
theorem tc_nf {k : Nat} (h : o k = false) : tc_n o (k + 1) = tc_n o k := by simp [tc_n, h]
theorem tc_lt {k : Nat} (h : o k = true) : tc_l o (k + 1) = tc_l o k + 1 := by
  unfold tc_l
  rw [tc_nt h]
  omega
theorem tc_lf {k : Nat} (h : o k = false) : tc_l o (k + 1) = tc_l o k - 1 := by
  unfold tc_l
  rw [tc_nf h]
  omega
/-- one bracket: up or down -/
theorem tc_st (k : Nat) : (o k = true ∧ tc_l o (k + 1) = tc_l o k + 1 ∧ tc_n o (k + 1) = tc_n o k + 1) ∨ (o k = false ∧ tc_l o (k + 1) = tc_l o k - 1 ∧ tc_n o (k + 1) = tc_n o k) := by
  cases h : o k with
  | true => exact Or.inl ⟨rfl, tc_lt h, tc_nt h⟩
  | false => exact Or.inr ⟨rfl, tc_lf h, tc_nf h⟩
theorem tc_nb (k : Nat) : tc_n o k ≤ k := by
  induction k with
  | zero => exact Nat.le_refl _
  | succ k ih => rcases tc_st (o := o) k with ⟨_, _, h⟩ | ⟨_, _, h⟩ <;> omega
theorem tc_lb (k : Nat) : -(k : Int) ≤ tc_l o k ∧ tc_l o k ≤ (k : Int) := by
  have h := tc_nb (o := o) k
  unfold tc_l
  omega
theorem tc_nm {i k : Nat} (h : i ≤ k) : tc_n o i ≤ tc_n o k := by
  induction k with
  | zero => have : i = 0 := by omega
            subst this
            exact Nat.le_refl _
  | succ k ih =>
    by_cases e : i = k + 1
    · subst e; exact Nat.le_refl _
    · have := ih (by omega)
      rcases tc_st (o := o) k with ⟨_, _, h⟩ | ⟨_, _, h⟩ <;> omega
theorem tc_nd {i k : Nat} (h : i ≤ k) : tc_n o k ≤ tc_n o i + (k - i) := by
  induction k with
  | zero => have : i = 0 := by omega
            subst this
            omega
  | succ k ih =>
    by_cases e : i = k + 1
    · subst e; omega
    · have := ih (by omega)
      rcases tc_st (o := o) k with ⟨_, _, h⟩ | ⟨_, _, h⟩ <;> omega
theorem tc_ns {i k : Nat} (h : o i = true) (hk : i < k) : tc_n o i < tc_n o k := by
  have a := tc_nt h
  have b := tc_nm (o := o) (show i + 1 ≤ k from hk)
  omega
theorem tc_inj {i j : Nat} (hi : o i = true) (hj : o j = true) (e : tc_n o i = tc_n o j) : i = j := by
  rcases Nat.lt_trichotomy i j with h | h | h
  · have := tc_ns hi h; omega
  · exact h
  · have := tc_ns hj h; omega
theorem tc_ld {i k : Nat} (h : i ≤ k) : tc_l o i - ((k : Int) - i) ≤ tc_l o k ∧ tc_l o k ≤ tc_l o i + ((k : Int) - i) := by
  have a := tc_nm (o := o) h
  have b := tc_nd (o := o) h
  unfold tc_l
  omega
theorem tc_node (k : Nat) : ∀ m, m < tc_n o k → ∃ p, p < k ∧ o p = true ∧ tc_n o p = m := by
  induction k with
  | zero => intro m hm; rw [tc_n0] at hm; omega
  | succ k ih =>
    intro m hm
    by_cases e : m < tc_n o k
    · obtain ⟨p, h1, h2, h3⟩ := ih m e
      exact ⟨p, by omega, h2, h3⟩
    · rcases tc_st (o := o) k with ⟨h, _, h2⟩ | ⟨h, _, h2⟩
      · exact ⟨k, by omega, h, by omega⟩
      · omega
theorem tc_no {a b : Nat} (hab : a ≤ b) (h : ∀ i, a ≤ i → i < b → o i = false) : tc_n o b = tc_n o a := by
  induction b with
  | zero => have : a = 0 := by omega
            subst this
            rfl
  | succ b ih =>
    by_cases e : a = b + 1
    · subst e; rfl
    · rw [tc_nf (h b (by omega) (by omega))]
      exact ih (by omega) (fun i h1 h2 => h i h1 (by omega))
theorem tc_cg {o' : Nat → Bool} {k : Nat} (h : ∀ i, i < k → o' i = o i) : tc_n o' k = tc_n o k := by
  induction k with
  | zero => rfl
  | succ k ih =>
    have e := ih (fun i hi => h i (by omega))
    have e2 := h k (by omega)
    simp only [tc_n, e, e2]
theorem tc_cl {o' : Nat → Bool} {k : Nat} (h : ∀ i, i < k → o' i = o i) : tc_l o' k = tc_l o k := by
  unfold tc_l
  rw [tc_cg h]
end
/-! the last place j before p with level g (an opening bracket): the ancestor at depth g of a node at p -/
def tc_A (o : Nat → Bool) (g : Int) (p j : Nat) : Prop := j < p ∧ tc_l o j = g ∧ o j = true ∧ ∀ i, j < i → i ≤ p → g < tc_l o i
/-- p's node is q's node or above it -/
def tc_U (o : Nat → Bool) (p q : Nat) : Prop := p ≤ q ∧ ∀ i, p < i → i ≤ q → tc_l o p < tc_l o i
def tc_C (o : Nat → Bool) (p q : Nat) : Prop := p < q ∧ tc_l o q = tc_l o p + 1 ∧ tc_U o p q
def tc_S (o : Nat → Bool) (q r : Nat) : Prop := q < r ∧ tc_l o r = tc_l o q ∧ ∀ i, q ≤ i → i ≤ r → tc_l o q ≤ tc_l o i
/-- e: the closing bracket of p, or n -/
def tc_E (o : Nat → Bool) (n p e : Nat) : Prop := p ≤ e ∧ e ≤ n ∧ (∀ i, p < i → i ≤ e → tc_l o p < tc_l o i) ∧ (e < n → tc_l o (e + 1) ≤ tc_l o p)
section
variable {o : Nat → Bool}
theorem tc_A_u {g : Int} {p j k : Nat} (h : tc_A o g p j) (h' : tc_A o g p k) : j = k := by
  obtain ⟨a1, a2, a3, a4⟩ := h
  obtain ⟨b1, b2, b3, b4⟩ := h'
  rcases Nat.lt_trichotomy j k with e | e | e
  · have := a4 k e (by omega); omega
  · exact e
  · have := b4 j e (by omega); omega
theorem tc_U_r (p : Nat) : tc_U o p p := ⟨Nat.le_refl _, fun i h1 h2 => absurd h1 (by omega)⟩
theorem tc_U_s {p q j : Nat} (hpq : p ≠ q) (hA : tc_A o (tc_l o q - 1) q j) : tc_U o p q ↔ tc_U o p j := by
  obtain ⟨a1, a2, a3, a4⟩ := hA
  constructor
  · intro ⟨h1, h2⟩
    have hlt : tc_l o p < tc_l o q := h2 q (by omega) (Nat.le_refl _)
    have hpj : p ≤ j := by
      by_cases e : p ≤ j
      · exact e
      · have := a4 p (by omega) h1; omega
    exact ⟨hpj, fun i h3 h4 => h2 i h3 (by omega)⟩
  · intro ⟨h1, h2⟩
    refine ⟨by omega, fun i h3 h4 => ?_⟩
    by_cases e : i ≤ j
    · exact h2 i h3 e
    · have h5 := a4 i (by omega) h4
      by_cases e2 : p = j
      · subst e2; omega
      · have := h2 j (by omega) (Nat.le_refl _); omega
theorem tc_U_0 {p q : Nat} (hp : 0 ≤ tc_l o p) (hpq : p ≠ q) (h0 : tc_l o q = 0) : ¬ tc_U o p q := by
  intro ⟨h1, h2⟩
  have := h2 q (by omega) (Nat.le_refl _)
  omega
/-- ends -/
theorem tc_E_u {n p e f : Nat} (h : tc_E o n p e) (h' : tc_E o n p f) : e = f := by
  obtain ⟨a1, a2, a3, a4⟩ := h
  obtain ⟨b1, b2, b3, b4⟩ := h'
  rcases Nat.lt_trichotomy e f with x | x | x
  · have h1 := a4 (by omega)
    have h2 := b3 (e + 1) (by omega) (by omega)
    omega
  · exact x
  · have h1 := b4 (by omega)
    have h2 := a3 (f + 1) (by omega) (by omega)
    omega
theorem tc_E_p {n p e : Nat} (h : tc_E o n p e) (ho : o p = true) (hp : p < n) : p < e := by
  obtain ⟨a1, a2, a3, a4⟩ := h
  by_cases x : p < e
  · exact x
  · have y : e = p := by omega
    subst y
    have h1 := a4 hp
    have h2 := tc_lt ho
    omega
theorem tc_E_c {n p e : Nat} (h : tc_E o n p e) (ho : o p = true) (hp : p < n) (he : e < n) : tc_l o (e + 1) = tc_l o p ∧ o e = false := by
  have hpe := tc_E_p h ho hp
  obtain ⟨a1, a2, a3, a4⟩ := h
  have h1 := a4 he
  have h2 := a3 e hpe (Nat.le_refl _)
  rcases tc_st (o := o) e with ⟨h3, h4, _⟩ | ⟨h3, h4, _⟩
  · omega
  · exact ⟨by omega, h3⟩
theorem tc_E_U {n p e q : Nat} (h : tc_E o n p e) (ho : o p = true) (hp : p < n) (hq : q < n) (hoq : o q = true) : tc_U o p q ↔ p ≤ q ∧ q < e := by
  constructor
  · intro ⟨h1, h2⟩
    refine ⟨h1, ?_⟩
    by_cases x : q < e
    · exact x
    · have hc := tc_E_c h ho hp (by omega)
      by_cases y : e = q
      · subst y
        rw [hoq] at hc
        exact absurd hc.2 (by decide)
      · have hpe := tc_E_p h ho hp
        have := h2 (e + 1) (by omega) (by omega)
        omega
  · intro ⟨h1, h2⟩
    exact ⟨h1, fun i h3 h4 => h.2.2.1 i h3 (by omega)⟩
end
end
section
/-! ints of either sign: tc_z; branches by ints -/
def tc_z (z : Int) : Int32 := Int32.ofInt z
theorem tc_zn (n : Nat) : tc_z (n : Int) = nI n := Int32.ofInt_eq_ofNat
theorem tc_zt {z : Int} (h1 : -2147483648 ≤ z) (h2 : z < 2147483648) : (tc_z z).toInt = z := Int32.toInt_ofInt_of_le (by omega) (by omega)
theorem tc_za (a b : Int) : tc_z a + tc_z b = tc_z (a + b) := (Int32.ofInt_add a b).symm
theorem tc_zs (a b : Int) : tc_z a - tc_z b = tc_z (a - b) := (Int32.ofInt_sub a b).symm
theorem tc_zm (a b : Int) : tc_z a * tc_z b = tc_z (a * b) := (Int32.ofInt_mul a b).symm
theorem tc_z0 : tc_z 0 = 0 := by decide
theorem tc_z1 : tc_z 1 = 1 := by decide
theorem tc_z2 : tc_z 2 = 2 := by decide
theorem tc_zm1 : tc_z (-1) = -1 := by decide
theorem tc_z8 : tc_z 8 = 8 := by decide
theorem tc_zm8 : tc_z (-8) = -8 := by decide
theorem tc_z64 : tc_z 64 = 64 := by decide
theorem tc_p1 (a : Int) : tc_z a + 1 = tc_z (a + 1) := by rw [← tc_z1, tc_za]
theorem tc_m1 (a : Int) : tc_z a + (-1) = tc_z (a - 1) := by
  rw [← tc_zm1, tc_za]
  rfl
theorem tc_s1 (a : Int) : tc_z a - 1 = tc_z (a - 1) := by rw [← tc_z1, tc_zs]
theorem tc_sm1 (a : Int) : tc_z a - (-1) = tc_z (a + 1) := by
  rw [← tc_zm1, tc_zs]
  exact congrArg tc_z (by omega)
theorem tc_lz (m p : Nat) : 2 * nI m - nI p = tc_z (2 * (m : Int) - (p : Int)) := by
  rw [← tc_zs, ← tc_zm, tc_zn, tc_zn, tc_z2]
theorem tc_zi {a b : Int} (ha : -2147483648 ≤ a) (ha2 : a < 2147483648) (hb : -2147483648 ≤ b) (hb2 : b < 2147483648) : tc_z a = tc_z b ↔ a = b := by
  constructor
  · intro h
    have h1 := congrArg Int32.toInt h
    rw [tc_zt ha ha2, tc_zt hb hb2] at h1
    exact h1
  · intro h; rw [h]
theorem tc_le {x y : Int32} {A B : Prop} (a b : Int) (hx : x = tc_z a) (hy : y = tc_z b) (f : a ≤ b → A) (g : b < a → B) (ha : -2147483648 ≤ a := by omega) (ha2 : a < 2147483648 := by omega) (hb : -2147483648 ≤ b := by omega) (hb2 : b < 2147483648 := by omega) : (x ≤ y → A) ∧ (¬ x ≤ y → B) := by
  subst hx hy
  rw [Int32.le_iff_toInt_le, tc_zt ha ha2, tc_zt hb hb2]
  exact ⟨f, fun z => g (by omega)⟩
theorem tc_ltb {x y : Int32} {A B : Prop} (a b : Int) (hx : x = tc_z a) (hy : y = tc_z b) (f : a < b → A) (g : b ≤ a → B) (ha : -2147483648 ≤ a := by omega) (ha2 : a < 2147483648 := by omega) (hb : -2147483648 ≤ b := by omega) (hb2 : b < 2147483648 := by omega) : (x < y → A) ∧ (¬ x < y → B) := by
  subst hx hy
  rw [Int32.lt_iff_toInt_lt, tc_zt ha ha2, tc_zt hb hb2]
  exact ⟨f, fun z => g (by omega)⟩
theorem tc_eqb {x y : Int32} {A B : Prop} (a b : Int) (hx : x = tc_z a) (hy : y = tc_z b) (f : a = b → A) (g : a ≠ b → B) (ha : -2147483648 ≤ a := by omega) (ha2 : a < 2147483648 := by omega) (hb : -2147483648 ≤ b := by omega) (hb2 : b < 2147483648 := by omega) : (x = y → A) ∧ (¬ x = y → B) := by
  subst hx hy
  rw [tc_zi ha ha2 hb hb2]
  exact ⟨f, g⟩
theorem tc_by {v : Int} (h1 : -128 ≤ v) (h2 : v < 128) : vp_nar .byte (tc_z v).toInt8.toInt32 = tc_z v := by
  have e := tc_zt (z := v) (by omega) (by omega)
  rw [pk_vb, lg_i2b_small (by omega) (by omega)]
theorem tc_nm1 {m : Nat} (h : m < 2147483648) : nI m ≠ -1 := by
  intro e
  have h1 := congrArg Int32.toInt e
  rw [nI_toInt (by omega)] at h1
  have h2 : (-1 : Int32).toInt = -1 := by decide
  omega
theorem tc_f1 {f d : Nat} (h : d < f) : ∃ g, f = g + 1 ∧ d ≤ g := ⟨f - 1, by omega, by omega⟩
/-! the bits of the word -/
def tc_o (w : Int64) (i : Nat) : Bool := w.toBitVec.getLsbD i
theorem tc_tp {n : Nat} (hn : n < 64) : ((1 : Int64) <<< ((nI n).toInt64 &&& 63)).toBitVec = BitVec.twoPow 64 n := by
  have h := wb_shl 1 hn
  have e : (lN 1 : Int64) = 1 := by decide
  rw [e] at h
  rw [h, wb_tb, Nat.one_mul]
  apply BitVec.eq_of_toNat_eq
  rw [BitVec.toNat_ofNat, BitVec.toNat_twoPow]
theorem tc_o_s {w : Int64} {n : Nat} (hn : n < 64) (i : Nat) : tc_o (w ||| ((1 : Int64) <<< ((nI n).toInt64 &&& 63))) i = (tc_o w i || decide (i = n)) := by
  unfold tc_o
  rw [Int64.toBitVec_or, tc_tp hn, BitVec.getLsbD_or, BitVec.getLsbD_twoPow]
  by_cases e : i = n
  · subst e; simp [hn]
  · have e2 : n ≠ i := fun z => e z.symm
    simp [e, e2]
theorem tc_o_c {w : Int64} {n : Nat} (hn : n < 64) {i : Nat} (hi : i < 64) : tc_o (w &&& (((1 : Int64) <<< ((nI n).toInt64 &&& 63)) ^^^ (-1))) i = (tc_o w i && !decide (i = n)) := by
  unfold tc_o
  have ha : (-1 : Int64).toBitVec = BitVec.allOnes 64 := by decide
  rw [Int64.toBitVec_and, Int64.toBitVec_xor, tc_tp hn, ha, BitVec.getLsbD_and, BitVec.getLsbD_xor, BitVec.getLsbD_twoPow, BitVec.getLsbD_allOnes]
  by_cases e : i = n
  · subst e; simp [hn]
  · have e2 : n ≠ i := fun z => e z.symm
    simp [e, e2, hi]
/-! the parent of the node at q, as an int -/
def tc_L (o : Nat → Bool) (q : Nat) (x : Int32) : Prop := (tc_l o q = 0 ∧ x = -1) ∨ (0 < tc_l o q ∧ ∃ j, tc_A o (tc_l o q - 1) q j ∧ x = nI (tc_n o j))
section
variable {o : Nat → Bool}
theorem tc_L_u {q : Nat} {x y : Int32} (h : tc_L o q x) (h' : tc_L o q y) : x = y := by
  rcases h with ⟨h1, h2⟩ | ⟨h1, j, h2, h3⟩ <;> rcases h' with ⟨k1, k2⟩ | ⟨k1, k, k2, k3⟩
  · rw [h2, k2]
  · omega
  · omega
  · rw [h3, k3, tc_A_u h2 k2]
theorem tc_L_o {k : Nat} (h : o k = true) (hk : 0 ≤ tc_l o k) : tc_L o (k + 1) (nI (tc_n o k)) := by
  have e := tc_lt h
  refine Or.inr ⟨by omega, k, ⟨by omega, by omega, h, fun i h1 h2 => ?_⟩, rfl⟩
  have : i = k + 1 := by omega
  subst this
  omega
theorem tc_L_c {k j : Nat} {y : Int32} (h : o k = false) (hA : tc_A o (tc_l o k - 1) k j) (hL : tc_L o j y) : tc_L o (k + 1) y := by
  have e := tc_lf h
  obtain ⟨a1, a2, a3, a4⟩ := hA
  rcases hL with ⟨h1, h2⟩ | ⟨h1, i, ⟨b1, b2, b3, b4⟩, h3⟩
  · exact Or.inl ⟨by omega, h2⟩
  · refine Or.inr ⟨by omega, i, ⟨by omega, by omega, b3, fun t h4 h5 => ?_⟩, h3⟩
    by_cases x : t ≤ j
    · have := b4 t h4 x; omega
    · by_cases y : t = k + 1
      · subst y; omega
      · have := a4 t (by omega) (by omega); omega
theorem tc_C_L {p q : Nat} {x : Int32} (hp : o p = true) (h0 : 0 ≤ tc_l o p) (hp64 : p < 64) (hq64 : q < 64) (hL : tc_L o q x) : x = nI (tc_n o p) ↔ tc_C o p q := by
  have np := tc_nb (o := o) p
  rcases hL with ⟨h1, h2⟩ | ⟨h1, j, hA, h3⟩
  · subst h2
    constructor
    · intro e
      exact absurd e.symm (tc_nm1 (by omega))
    · intro ⟨_, e, _⟩
      omega
  · subst h3
    have nj := tc_nb (o := o) j
    have hj := hA.1
    rw [nI_eq (by omega) (by omega)]
    constructor
    · intro e
      have e2 := tc_inj hA.2.2.1 hp e
      subst e2
      obtain ⟨a1, a2, a3, a4⟩ := hA
      exact ⟨a1, by omega, by omega, fun i h4 h5 => by have := a4 i h4 h5; omega⟩
    · intro ⟨c1, c2, c3, c4⟩
      have hA2 : tc_A o (tc_l o q - 1) q p := ⟨c1, by omega, hp, fun i h4 h5 => by have := c4 i h4 h5; omega⟩
      rw [tc_A_u hA hA2]
theorem tc_S_L {q r : Nat} {x y : Int32} (hqr : q < r) (hr : r < 64) (hv : ∀ k, k ≤ r → 0 ≤ tc_l o k) (hL : tc_L o q x) (hL' : tc_L o r y) : y = x ↔ tc_S o q r := by
  rcases hL with ⟨h1, h2⟩ | ⟨h1, j, hA, h3⟩ <;> rcases hL' with ⟨k1, k2⟩ | ⟨k1, k, hB, k3⟩
  · subst h2 k2
    exact ⟨fun _ => ⟨hqr, by omega, fun i _ h => by have := hv i h; omega⟩, fun _ => rfl⟩
  · subst h2 k3
    have nk := tc_nb (o := o) k
    have hk := hB.1
    constructor
    · intro e; exact absurd e (tc_nm1 (by omega))
    · intro ⟨_, e, _⟩; omega
  · subst h3 k2
    have nk := tc_nb (o := o) j
    have hk := hA.1
    constructor
    · intro e; exact absurd e.symm (tc_nm1 (by omega))
    · intro ⟨_, e, _⟩; omega
  · subst h3 k3
    have nk := tc_nb (o := o) k
    have nj := tc_nb (o := o) j
    have hj := hA.1
    have hk := hB.1
    rw [nI_eq (by omega) (by omega)]
    constructor
    · intro e
      have e2 := tc_inj hB.2.2.1 hA.2.2.1 e
      subst e2
      obtain ⟨a1, a2, a3, a4⟩ := hA
      obtain ⟨b1, b2, b3, b4⟩ := hB
      exact ⟨hqr, by omega, fun i h4 h5 => by have := b4 i (by omega) h5; omega⟩
    · intro ⟨_, c2, c3⟩
      obtain ⟨a1, a2, a3, a4⟩ := hA
      have hA2 : tc_A o (tc_l o r - 1) r j := ⟨by omega, by omega, a3, fun i h4 h5 => by
        by_cases x : i ≤ q
        · have := a4 i h4 x; omega
        · have := c3 i (by omega) h5; omega⟩
      rw [tc_A_u hB hA2]
end
end
section
/-! summaries of a block that begins at a, after t brackets -/
def tc_mn (o : Nat → Bool) (a : Nat) : Nat → Int
  | 0 => 8
  | t + 1 => if tc_mn o a t ≤ tc_l o (a + t + 1) - tc_l o a then tc_mn o a t else tc_l o (a + t + 1) - tc_l o a
def tc_mx (o : Nat → Bool) (a : Nat) : Nat → Int
  | 0 => -8
  | t + 1 => if tc_l o (a + t + 1) - tc_l o a ≤ tc_mx o a t then tc_mx o a t else tc_l o (a + t + 1) - tc_l o a
def tc_len (n b : Nat) : Nat := min 8 (n - b * 8)
section
variable {o : Nat → Bool}
theorem tc_mn_t {a t : Nat} (h : tc_mn o a t ≤ tc_l o (a + t + 1) - tc_l o a) : tc_mn o a (t + 1) = tc_mn o a t := if_pos h
theorem tc_mn_f {a t : Nat} (h : tc_l o (a + t + 1) - tc_l o a < tc_mn o a t) : tc_mn o a (t + 1) = tc_l o (a + t + 1) - tc_l o a := if_neg (by omega)
theorem tc_mx_t {a t : Nat} (h : tc_l o (a + t + 1) - tc_l o a ≤ tc_mx o a t) : tc_mx o a (t + 1) = tc_mx o a t := if_pos h
theorem tc_mx_f {a t : Nat} (h : tc_mx o a t < tc_l o (a + t + 1) - tc_l o a) : tc_mx o a (t + 1) = tc_l o (a + t + 1) - tc_l o a := if_neg (by omega)
theorem tc_mn_s (a t : Nat) : (∀ s, s < t → tc_mn o a t ≤ tc_l o (a + s + 1) - tc_l o a) ∧ (tc_mn o a t = 8 ∨ ∃ s, s < t ∧ tc_mn o a t = tc_l o (a + s + 1) - tc_l o a) := by
  induction t with
  | zero => exact ⟨fun s hs => absurd hs (by omega), Or.inl rfl⟩
  | succ t ih =>
    obtain ⟨h1, h2⟩ := ih
    by_cases e : tc_mn o a t ≤ tc_l o (a + t + 1) - tc_l o a
    · rw [tc_mn_t e]
      refine ⟨fun s hs => ?_, ?_⟩
      · by_cases x : s = t
        · subst x; exact e
        · exact h1 s (by omega)
      · rcases h2 with h2 | ⟨s, h3, h4⟩
        · exact Or.inl h2
        · exact Or.inr ⟨s, by omega, h4⟩
    · rw [tc_mn_f (by omega)]
      refine ⟨fun s hs => ?_, Or.inr ⟨t, by omega, rfl⟩⟩
      by_cases x : s = t
      · subst x; omega
      · have := h1 s (by omega); omega
theorem tc_mx_s (a t : Nat) : (∀ s, s < t → tc_l o (a + s + 1) - tc_l o a ≤ tc_mx o a t) ∧ (tc_mx o a t = -8 ∨ ∃ s, s < t ∧ tc_mx o a t = tc_l o (a + s + 1) - tc_l o a) := by
  induction t with
  | zero => exact ⟨fun s hs => absurd hs (by omega), Or.inl rfl⟩
  | succ t ih =>
    obtain ⟨h1, h2⟩ := ih
    by_cases e : tc_l o (a + t + 1) - tc_l o a ≤ tc_mx o a t
    · rw [tc_mx_t e]
      refine ⟨fun s hs => ?_, ?_⟩
      · by_cases x : s = t
        · subst x; exact e
        · exact h1 s (by omega)
      · rcases h2 with h2 | ⟨s, h3, h4⟩
        · exact Or.inl h2
        · exact Or.inr ⟨s, by omega, h4⟩
    · rw [tc_mx_f (by omega)]
      refine ⟨fun s hs => ?_, Or.inr ⟨t, by omega, rfl⟩⟩
      by_cases x : s = t
      · subst x; omega
      · have := h1 s (by omega); omega
theorem tc_mn_b {a t : Nat} (ht : t ≤ 8) : -8 ≤ tc_mn o a t ∧ tc_mn o a t ≤ 8 := by
  rcases (tc_mn_s (o := o) a t).2 with h | ⟨s, h1, h2⟩
  · omega
  · have := tc_ld (o := o) (show a ≤ a + s + 1 by omega)
    omega
theorem tc_mx_b {a t : Nat} (ht : t ≤ 8) : -8 ≤ tc_mx o a t ∧ tc_mx o a t ≤ 8 := by
  rcases (tc_mx_s (o := o) a t).2 with h | ⟨s, h1, h2⟩
  · omega
  · have := tc_ld (o := o) (show a ≤ a + s + 1 by omega)
    omega
/-- a block that isn't empty: the least level is one of its levels -/
theorem tc_mn_a {a t : Nat} (h0 : 0 < t) : ∃ s, s < t ∧ tc_mn o a t = tc_l o (a + s + 1) - tc_l o a := by
  rcases (tc_mn_s (o := o) a t).2 with h | h
  · have h1 := (tc_mn_s (o := o) a t).1 0 h0
    have h2 := tc_ld (o := o) (show a ≤ a + 0 + 1 by omega)
    omega
  · exact h
theorem tc_mx_a {a t : Nat} (h0 : 0 < t) : ∃ s, s < t ∧ tc_mx o a t = tc_l o (a + s + 1) - tc_l o a := by
  rcases (tc_mx_s (o := o) a t).2 with h | h
  · have h1 := (tc_mx_s (o := o) a t).1 0 h0
    have h2 := tc_ld (o := o) (show a ≤ a + 0 + 1 by omega)
    omega
  · exact h
theorem tc_mn_c {o' : Nat → Bool} {a t k : Nat} (hk : a + t ≤ k) (h : ∀ i, i < k → o' i = o i) : tc_mn o' a t = tc_mn o a t := by
  induction t with
  | zero => rfl
  | succ t ih =>
    have e1 := ih (by omega)
    have e2 : tc_l o' (a + t + 1) = tc_l o (a + t + 1) := tc_cl (fun i hi => h i (by omega))
    have e3 : tc_l o' a = tc_l o a := tc_cl (fun i hi => h i (by omega))
    simp only [tc_mn, e1, e2, e3]
theorem tc_mx_c {o' : Nat → Bool} {a t k : Nat} (hk : a + t ≤ k) (h : ∀ i, i < k → o' i = o i) : tc_mx o' a t = tc_mx o a t := by
  induction t with
  | zero => rfl
  | succ t ih =>
    have e1 := ih (by omega)
    have e2 : tc_l o' (a + t + 1) = tc_l o (a + t + 1) := tc_cl (fun i hi => h i (by omega))
    have e3 : tc_l o' a = tc_l o a := tc_cl (fun i hi => h i (by omega))
    simp only [tc_mx, e1, e2, e3]
end
/-- block b's summary is right -/
def tc_B (o : Nat → Bool) (n : Nat) (aO aR aL aM : Nat → Int32) (b : Nat) : Prop :=
  aO b = nI (tc_n o (b * 8 + tc_len n b) - tc_n o (b * 8)) ∧ aR b = tc_z (tc_l o (b * 8 + tc_len n b) - tc_l o (b * 8)) ∧ (0 < tc_len n b → aL b = tc_z (tc_mn o (b * 8) (tc_len n b)) ∧ aM b = tc_z (tc_mx o (b * 8) (tc_len n b)))
/-- the component's state is right -/
def tc_G (w : Int64) (n : Nat) (aO aR aL aM : Nat → Int32) : Prop :=
  n ≤ 64 ∧ (∀ k, k ≤ n → 0 ≤ tc_l (tc_o w) k) ∧ ∀ b, b < 8 → tc_B (tc_o w) n aO aR aL aM b
section
variable {o : Nat → Bool} {n : Nat} {aO aR aL aM : Nat → Int32}
theorem tc_len8 {b : Nat} (h : b * 8 + 8 ≤ n) : tc_len n b = 8 := by unfold tc_len; omega
theorem tc_len0 {b : Nat} (h : n ≤ b * 8) : tc_len n b = 0 := by unfold tc_len; omega
theorem tc_len_le (b : Nat) : tc_len n b ≤ 8 := by unfold tc_len; omega
theorem tc_B_c {o' : Nat → Bool} {m b : Nat} (hb : b * 8 + 8 ≤ n ∧ n ≤ m ∨ n ≤ b * 8 ∧ m ≤ b * 8) (h : ∀ i, i < n → o' i = o i) (H : tc_B o n aO aR aL aM b) : tc_B o' m aO aR aL aM b := by
  obtain ⟨h1, h2, h3⟩ := H
  rcases hb with ⟨e1, e2⟩ | ⟨e1, e2⟩
  · have l1 := tc_len8 e1
    have l2 : tc_len m b = 8 := tc_len8 (by omega)
    unfold tc_B
    rw [l1] at h1 h2 h3
    rw [l2, tc_cg (o' := o') (o := o) (fun i hi => h i (by omega)), tc_cg (o' := o') (o := o) (k := b * 8) (fun i hi => h i (by omega)), tc_cl (o' := o') (o := o) (fun i hi => h i (by omega)), tc_cl (o' := o') (o := o) (k := b * 8) (fun i hi => h i (by omega)), tc_mn_c (o' := o') (o := o) (k := n) e1 h, tc_mx_c (o' := o') (o := o) (k := n) e1 h]
    exact ⟨h1, h2, h3⟩
  · have l1 := tc_len0 e1
    have l2 : tc_len m b = 0 := tc_len0 e2
    unfold tc_B
    rw [l1] at h1 h2
    rw [l2]
    refine ⟨?_, ?_, fun z => absurd z (by omega)⟩
    · rw [h1, Nat.add_zero, Nat.sub_self, Nat.sub_self]
    · rw [h2, Nat.add_zero, Int.sub_self, Int.sub_self]
theorem tc_B_O {b : Nat} (hb : b * 8 + 8 ≤ n) (H : tc_B o n aO aR aL aM b) : aO b = nI (tc_n o ((b + 1) * 8) - tc_n o (b * 8)) := by
  have h := H.1
  rw [tc_len8 hb] at h
  rw [h, show (b + 1) * 8 = b * 8 + 8 by omega]
theorem tc_B_R {b : Nat} (hb : b * 8 + 8 ≤ n) (H : tc_B o n aO aR aL aM b) : aR b = tc_z (tc_l o (b * 8 + 8) - tc_l o (b * 8)) := by
  have h := H.2.1
  rw [tc_len8 hb] at h
  exact h
theorem tc_B_L {b : Nat} (hb : b * 8 + 8 ≤ n) (H : tc_B o n aO aR aL aM b) : aL b = tc_z (tc_mn o (b * 8) 8) ∧ aM b = tc_z (tc_mx o (b * 8) 8) := by
  have h := H.2.2
  rw [tc_len8 hb] at h
  exact h (by decide)
end
end
section
/-! the component's walks: bits, counts, levels -/
section
variable {w : Int64} {n : Nat} {c : Int32} {aO aR aL aM : Nat → Int32} {post : Int32 → Prop}
theorem tx_at {i : Nat} (hi : i < 64) (ht : tc_o w i = true → post 1) (hf : tc_o w i = false → post 0) : wpX_opensAt post (w, c, aO, aR, aL, aM) (nI i) := by
  have k := ts_bit (w := w) (s := UInt64.ofNat i) hi (u_tn (by omega))
  unfold wpX_opensAt
  dsimp only
  rw [wb_cu i hi]
  exact ⟨fun z => hf (k.mp z), fun z => ht (ts_nf (fun y => z (k.mpr y)))⟩
theorem tx_br {A B : Prop} {i : Nat} (hi : i < 64) (ht : tc_o w i = true → B) (hf : tc_o w i = false → A) : wpX_opensAt (fun r => ((r = 0 → A) ∧ (¬ r = 0 → B))) (w, c, aO, aR, aL, aM) (nI i) :=
  tx_at hi (fun h => br_f (by decide) (ht h)) (fun h => br_t rfl (hf h))
theorem tx_ob38 {p : Nat} (hp : p ≤ 64) (h : post (nI (tc_n (tc_o w) p))) : ∀ d i, i + d = p → ∀ f, d < f → wX_opensBefore_38 post (nI p) w c aO aR aL aM f (nI (tc_n (tc_o w) i)) (nI i) := by
  intro d
  induction d with
  | zero =>
    intro i hi f hf
    obtain ⟨f, rfl, hf⟩ := tc_f1 hf
    have e : i = p := by omega
    subst e
    exact br_t (nI_le (Nat.le_refl _) (by omega)) h
  | succ d ih =>
    intro i hi f hf
    obtain ⟨f, rfl, hf⟩ := tc_f1 hf
    refine br_f (nI_ge (by omega) (by omega)) (tx_br (by omega) (fun ht => ?_) (fun hn => ?_))
    · exact nm_r (e' := nI (tc_n (tc_o w) (i + 1))) (by rw [tc_nt ht]; exact nI_1 _) (nm_r (nI_1 i) (ih (i + 1) (by omega) f (by omega)))
    · exact nm_r (e' := nI (tc_n (tc_o w) (i + 1))) (by rw [tc_nf hn]; exact Int32.add_zero _) (nm_r (nI_1 i) (ih (i + 1) (by omega) f (by omega)))
theorem tx_ob10 (G : tc_G w n aO aR aL aM) {p : Nat} (hp : p ≤ n) (h : post (nI (tc_n (tc_o w) p))) : ∀ d b, b + d = p / 8 → ∀ f, d < f → wX_opensBefore_10 post (nI p) (nI (p / 8)) w c aO aR aL aM f (nI (tc_n (tc_o w) (b * 8))) (nI b) := by
  have hn := G.1
  intro d
  induction d with
  | zero =>
    intro b hb f hf
    obtain ⟨f, rfl, hf⟩ := tc_f1 hf
    have e : b = p / 8 := by omega
    subst e
    exact br_t (nI_le (Nat.le_refl _) (by omega)) (nm_r (e' := nI (p / 8 * 8)) (pk_mul (p / 8) 8) ⟨65, tx_ob38 (by omega) h (p - p / 8 * 8) (p / 8 * 8) (by omega) 65 (by omega)⟩)
  | succ d ih =>
    intro b hb f hf
    obtain ⟨f, rfl, hf⟩ := tc_f1 hf
    have e := tc_B_O (by omega) (G.2.2 b (by omega))
    have m := tc_nm (o := tc_o w) (show b * 8 ≤ (b + 1) * 8 by omega)
    exact br_f (nI_ge (by omega) (by omega)) ⟨vp_in_nI (by omega) (by omega), nm_r (e' := nI (tc_n (tc_o w) ((b + 1) * 8))) (by rw [nI_clamp (by omega), e, nI_add]; exact congrArg nI (by omega)) (nm_r (nI_1 b) (ih (b + 1) (by omega) f (by omega)))⟩
theorem tx_ob (G : tc_G w n aO aR aL aM) {p : Nat} (hp : p ≤ n) (h : post (nI (tc_n (tc_o w) p))) : wpX_opensBefore post (w, c, aO, aR, aL, aM) (nI p) := by
  have hn := G.1
  have k := tx_ob10 (c := c) G hp h (p / 8) 0 (by omega) (p / 8 + 1) (by omega)
  rw [Nat.zero_mul] at k
  exact And.intro (by decide) (nm_r (e' := nI (p / 8)) (pk_div (d := 8) (by omega) (by omega) (by omega)) ⟨_, k⟩)
theorem tx_nodes (G : tc_G w n aO aR aL aM) (h : post (nI (tc_n (tc_o w) n))) : wpX_nodes post (w, nI n, aO, aR, aL, aM) := by
  unfold wpX_nodes
  exact tx_ob G (Nat.le_refl _) h
theorem tx_lv (G : tc_G w n aO aR aL aM) {p : Nat} (hp : p ≤ n) (h : post (tc_z (tc_l (tc_o w) p))) : wpX_levelBefore post (w, c, aO, aR, aL, aM) (nI p) := by
  unfold wpX_levelBefore
  refine tx_ob G hp ?_
  rw [tc_lz]
  exact h
theorem tx_on (G : tc_G w n aO aR aL aM) (h : post (tc_z (tc_l (tc_o w) n))) : wpX_openNodes post (w, nI n, aO, aR, aL, aM) := by
  unfold wpX_openNodes
  exact tx_lv G (Nat.le_refl _) h
theorem tx_in1 (G : tc_G w n aO aR aL aM) {p : Nat} (hp : p < n) (ho : tc_o w p = true) (h : post 1) : wpX_isNode post (w, nI n, aO, aR, aL, aM) (nI (tc_n (tc_o w) p)) := by
  have hn := G.1
  have a := tc_ns ho hp
  have b := tc_nb (o := tc_o w) n
  unfold wpX_isNode
  exact br_f (nI_pos (by omega)) (tx_nodes G (br_f (nI_ge a (by omega)) h))
theorem tx_in0 (G : tc_G w n aO aR aL aM) {v : Int32} (hv : v < 0 ∨ nI (tc_n (tc_o w) n) ≤ v) (h : post 0) : wpX_isNode post (w, nI n, aO, aR, aL, aM) v := by
  unfold wpX_isNode
  by_cases z : v < 0
  · exact br_t z h
  · rcases hv with hv | hv
    · exact absurd hv z
    · exact br_f z (tx_nodes G (br_t hv h))
/-- a node's place -/
theorem tx_po41 {p : Nat} (hp : p < 64) (ho : tc_o w p = true) (h : post (nI p)) : ∀ d i, i + d = p → ∀ f, d < f → wX_placeOf_41 post w c aO aR aL aM f (nI (tc_n (tc_o w) p - tc_n (tc_o w) i)) (nI i) := by
  have np := tc_nb (o := tc_o w) p
  intro d
  induction d with
  | zero =>
    intro i hi f hf
    obtain ⟨f, rfl, hf⟩ := tc_f1 hf
    have e : i = p := by omega
    subst e
    exact pk_le 63 i (fun _ => h) (fun _ => pk_lt 0 (tc_n (tc_o w) i - tc_n (tc_o w) i) (fun z => absurd z (by omega)) (fun _ => tx_br (by omega) (fun _ => h) (fun z => absurd (ho.symm.trans z) (by decide))))
  | succ d ih =>
    intro i hi f hf
    obtain ⟨f, rfl, hf⟩ := tc_f1 hf
    have m := tc_nm (o := tc_o w) (show i + 1 ≤ p by omega)
    have K : wX_placeOf_61 post (wX_placeOf_41 post w c aO aR aL aM f) (nI (tc_n (tc_o w) p - tc_n (tc_o w) i)) (nI i) w c aO aR aL aM := by
      refine tx_br (by omega) (fun ht => ?_) (fun hn => ?_)
      · have a := tc_nt ht
        exact nm_r (e' := nI (tc_n (tc_o w) p - tc_n (tc_o w) (i + 1))) ((pk_sub (b := 1) (by omega)).trans (congrArg nI (by omega))) (nm_r (nI_1 i) (ih (i + 1) (by omega) f (by omega)))
      · have a := tc_nf hn
        exact nm_r (e' := nI (tc_n (tc_o w) p - tc_n (tc_o w) (i + 1))) ((Int32.sub_zero _).trans (congrArg nI (by omega))) (nm_r (nI_1 i) (ih (i + 1) (by omega) f (by omega)))
    exact pk_le 63 i (fun z => absurd z (by omega)) (fun _ => pk_lt 0 (tc_n (tc_o w) p - tc_n (tc_o w) i) (fun _ => K) (fun z => tx_br (by omega) (fun ht => absurd (tc_ns ht (show i < p by omega)) (by omega)) (fun _ => K)))
theorem tx_po4 (G : tc_G w n aO aR aL aM) {p : Nat} (hp : p < n) (ho : tc_o w p = true) (h : post (nI p)) : ∀ d b, b + d = 7 → b * 8 ≤ p → ∀ f, d < f → wX_placeOf_4 post w c aO aR aL aM f (nI (tc_n (tc_o w) p - tc_n (tc_o w) (b * 8))) (nI b) := by
  have hn := G.1
  have np := tc_nb (o := tc_o w) p
  intro d
  induction d with
  | zero =>
    intro b hb h8 f hf
    obtain ⟨f, rfl, hf⟩ := tc_f1 hf
    have e : b = 7 := by omega
    subst e
    exact br_t (by decide) (nm_r (e' := nI (7 * 8)) (pk_mul 7 8) ⟨65, tx_po41 (by omega) ho h (p - 7 * 8) (7 * 8) (by omega) 65 (by omega)⟩)
  | succ d ih =>
    intro b hb h8 f hf
    obtain ⟨f, rfl, hf⟩ := tc_f1 hf
    have e := (G.2.2 b (by omega)).1
    have ll : tc_len n b ≤ 8 := tc_len_le b
    have m := tc_nm (o := tc_o w) (show b * 8 ≤ b * 8 + tc_len n b by omega)
    have nb := tc_nb (o := tc_o w) (b * 8 + tc_len n b)
    have e2 : aO (nI b).toNatClampNeg = nI (tc_n (tc_o w) (b * 8 + tc_len n b) - tc_n (tc_o w) (b * 8)) := by rw [nI_clamp (by omega), e]
    refine br_f (nI_ge (b := 7) (by omega) (by decide)) ⟨vp_in_nI (by omega) (by omega), ?_⟩
    rw [e2]
    refine pk_lt _ _ (fun _ => ?_) (fun z => ?_) rfl rfl (by omega) (by omega)
    · exact nm_r (e' := nI (b * 8)) (pk_mul b 8) ⟨65, tx_po41 (by omega) ho h (p - b * 8) (b * 8) (by omega) 65 (by omega)⟩
    · have m1 := tc_nm (o := tc_o w) h8
      have hge : b * 8 + tc_len n b ≤ p := by
        by_cases x : b * 8 + tc_len n b ≤ p
        · exact x
        · have := tc_ns ho (show p < b * 8 + tc_len n b by omega); omega
      have l8 : tc_len n b = 8 := by unfold tc_len at hge ⊢; omega
      rw [l8] at z m ⊢
      have e3 : b * 8 + 8 = (b + 1) * 8 := by omega
      rw [e3] at z m ⊢
      exact ⟨vp_in_nI (by omega) (by omega), nm_r (e' := nI (tc_n (tc_o w) p - tc_n (tc_o w) ((b + 1) * 8))) ((pk_sub (by omega)).trans (congrArg nI (by omega))) (nm_r (nI_1 b) (ih (b + 1) (by omega) (by omega) f (by omega)))⟩
theorem tx_po (G : tc_G w n aO aR aL aM) {p : Nat} (hp : p < n) (ho : tc_o w p = true) (h : post (nI p)) : wpX_placeOf post (w, c, aO, aR, aL, aM) (nI (tc_n (tc_o w) p)) := by
  have k := tx_po4 (c := c) G hp ho h 7 0 (by omega) (by omega) 8 (by omega)
  rw [Nat.zero_mul, tc_n0, Nat.sub_zero] at k
  exact ⟨8, k⟩
theorem tx_na1 (G : tc_G w n aO aR aL aM) {p : Nat} (hp : p < n) (ho : tc_o w p = true) (h : post (nI (tc_n (tc_o w) p))) : wpX_nodeAt post (w, nI n, aO, aR, aL, aM) (nI p) := by
  have hn := G.1
  unfold wpX_nodeAt
  exact br_f (nI_ge hp (by omega)) (tx_br (by omega) (fun _ => tx_ob G (by omega) h) (fun z => absurd (ho.symm.trans z) (by decide)))
theorem tx_na0 (G : tc_G w n aO aR aL aM) {p : Nat} (hp : p < 2000) (ho : n ≤ p ∨ tc_o w p = false) (h : post (-1)) : wpX_nodeAt post (w, nI n, aO, aR, aL, aM) (nI p) := by
  have hn := G.1
  unfold wpX_nodeAt
  refine pk_le n p (fun _ => h) (fun z => tx_br (by omega) (fun ht => ?_) (fun _ => h))
  rcases ho with x | x
  · omega
  · exact absurd (ht.symm.trans x) (by decide)
end
end
section
/-! the component's searches for levels -/
section
variable {w : Int64} {n : Nat} {c : Int32} {aO aR aL aM : Nat → Int32} {post : Int32 → Prop}
theorem tx_fw9 (G : tc_G w n aO aR aL aM) {p : Nat} (hp : p < n) (h : ∀ e, tc_E (tc_o w) n p e → post (nI e)) : ∀ d i x, n ≤ i + d → i ≤ 72 → p ≤ i → (i ≤ n → x = tc_z (tc_l (tc_o w) i)) → (∀ j, p < j → j ≤ i → j ≤ n → tc_l (tc_o w) p < tc_l (tc_o w) j) → ∀ f, d < f → wX_forwardTo_9 post (tc_z (tc_l (tc_o w) p)) w (nI n) aO aR aL aM f x (nI i) := by
  have hn := G.1
  have bp := tc_lb (o := tc_o w) p
  intro d
  induction d with
  | zero =>
    intro i x hd hi hpi hx hj f hf
    obtain ⟨f, rfl, hf⟩ := tc_f1 hf
    exact br_t (nI_le (by omega) (by omega)) (h n ⟨by omega, Nat.le_refl _, fun j h1 h2 => hj j h1 (by omega) h2, fun z => absurd z (by omega)⟩)
  | succ d ih =>
    intro i x hd hi hpi hx hj f hf
    obtain ⟨f, rfl, hf⟩ := tc_f1 hf
    refine pk_le n i (fun z => h n ⟨by omega, Nat.le_refl _, fun j h1 h2 => hj j h1 (by omega) h2, fun z => absurd z (by omega)⟩) (fun hin => ?_)
    have hx := hx (by omega)
    subst hx
    have bi := tc_lb (o := tc_o w) i
    have bi1 := tc_lb (o := tc_o w) (i + 1)
    have S : ∀ z0, tc_z (tc_l (tc_o w) i) + z0 = tc_z (tc_l (tc_o w) (i + 1)) → wX_forwardTo_89 post (wX_forwardTo_9 post (tc_z (tc_l (tc_o w) p)) w (nI n) aO aR aL aM f) (tc_z (tc_l (tc_o w) p)) (nI i) z0 (tc_z (tc_l (tc_o w) i)) w (nI n) aO aR aL aM := by
      intro z0 hz
      refine nm_r hz (tc_ltb _ _ rfl rfl (fun hlt => nm_r (nI_1 i) (ih (i + 1) _ (by omega) (by omega) (by omega) (fun _ => rfl) (fun j h1 h2 h3 => ?_) f (by omega))) (fun hge => h i ⟨hpi, by omega, fun j h1 h2 => hj j h1 h2 (by omega), fun _ => hge⟩))
      by_cases e : j = i + 1
      · subst e; exact hlt
      · exact hj j h1 (by omega) h3
    have K : wX_forwardTo_50 post (wX_forwardTo_9 post (tc_z (tc_l (tc_o w) p)) w (nI n) aO aR aL aM f) (tc_z (tc_l (tc_o w) p)) (tc_z (tc_l (tc_o w) i)) (nI i) (nI (i / 8)) w (nI n) aO aR aL aM :=
      br_t rfl (tx_br (by omega) (fun ht => S 1 (by rw [tc_lt ht]; exact tc_p1 _)) (fun hf => S (-1) (by rw [tc_lf hf]; exact tc_m1 _)))
    refine ⟨by decide, nm_r (e' := nI (i / 8)) (pk_div (d := 8) (by omega) (by omega) (by omega)) ⟨by decide, pk_eq (i % 8) 0 (fun h8 => ?_) (fun _ => K) (pk_rem (d := 8) (by omega) (by omega) (by omega))⟩⟩
    refine ⟨vp_in_nI (by omega) (by omega), ?_⟩
    have ec : (nI (i / 8)).toNatClampNeg = i / 8 := nI_clamp (by omega)
    have e8 : i / 8 * 8 = i := by omega
    have hB := G.2.2 (i / 8) (by omega)
    have l0 : 0 < tc_len n (i / 8) := by unfold tc_len; omega
    have lle : tc_len n (i / 8) ≤ 8 := tc_len_le _
    have eL := (hB.2.2 l0).1
    have eR := hB.2.1
    rw [e8] at eL eR
    have bm := tc_mn_b (o := tc_o w) (a := i) lle
    refine tc_le (tc_l (tc_o w) i + tc_mn (tc_o w) i (tc_len n (i / 8))) (tc_l (tc_o w) p) (by rw [ec, eL]; exact tc_za _ _) rfl (fun _ => K) (fun hsk => ?_)
    refine br_f (by decide) ⟨vp_in_nI (by omega) (by omega), nm_r (e' := tc_z (tc_l (tc_o w) (i + tc_len n (i / 8)))) (by rw [ec, eR, tc_za]; exact congrArg tc_z (by omega)) (nm_r (e' := nI (i + 8)) (nI_add i 8) (ih (i + 8) _ (by omega) (by omega) (by omega) (fun z => ?_) (fun j h1 h2 h3 => ?_) f (by omega)))⟩
    · have : tc_len n (i / 8) = 8 := by unfold tc_len; omega
      rw [this]
    · by_cases e : j ≤ i
      · exact hj j h1 e h3
      · obtain ⟨s, rfl⟩ : ∃ s, j = i + s + 1 := ⟨j - i - 1, by omega⟩
        have := (tc_mn_s (o := tc_o w) i (tc_len n (i / 8))).1 s (by unfold tc_len; omega)
        omega
theorem tx_end (G : tc_G w n aO aR aL aM) {p : Nat} (hp : p < n) (h : ∀ e, tc_E (tc_o w) n p e → post (nI e)) : wpX_endOf post (w, nI n, aO, aR, aL, aM) (nI p) := by
  have hn := G.1
  unfold wpX_endOf
  refine tx_lv G (by omega) ?_
  unfold wpX_forwardTo
  exact tx_lv G (by omega) ⟨n + 1, tx_fw9 G hp h n p _ (by omega) (by omega) (Nat.le_refl _) (fun _ => rfl) (fun j h1 h2 _ => absurd h1 (by omega)) (n + 1) (by omega)⟩
theorem tx_bt9 (G : tc_G w n aO aR aL aM) {p : Nat} {g : Int} (hp : p ≤ n) (hg : 0 ≤ g) (hg2 : g < 2147483648) (h : ∀ j, tc_A (tc_o w) g p j → post (nI j)) : ∀ d i, i ≤ d → i ≤ p → (∀ j, i ≤ j → j ≤ p → g < tc_l (tc_o w) j) → ∀ f, d < f → wX_backTo_9 post (tc_z g) w c aO aR aL aM f (tc_z (tc_l (tc_o w) i)) (nI i) := by
  have hn := G.1
  intro d
  induction d with
  | zero =>
    intro i hd hi hj f hf
    have e : i = 0 := by omega
    subst e
    have := hj 0 (Nat.le_refl _) (by omega)
    rw [tc_l0] at this
    omega
  | succ d ih =>
    intro i hd hi hj f hf
    obtain ⟨f, rfl, hf⟩ := tc_f1 hf
    have i0 : i ≠ 0 := by
      intro e
      subst e
      have := hj 0 (Nat.le_refl _) (by omega)
      rw [tc_l0] at this
      omega
    obtain ⟨m, rfl⟩ : ∃ m, i = m + 1 := ⟨i - 1, by omega⟩
    have hgi := hj (m + 1) (Nat.le_refl _) hi
    have bi := tc_lb (o := tc_o w) m
    have bi1 := tc_lb (o := tc_o w) (m + 1)
    have S : ∀ z0, tc_z (tc_l (tc_o w) (m + 1)) - z0 = tc_z (tc_l (tc_o w) m) → (tc_l (tc_o w) m ≤ g → tc_o w m = true) → wX_backTo_111 post (wX_backTo_9 post (tc_z g) w c aO aR aL aM f) (tc_z g) (nI m) z0 (tc_z (tc_l (tc_o w) (m + 1))) w c aO aR aL aM := by
      intro z0 hz ho
      refine nm_r hz (tc_ltb _ _ rfl rfl (fun hlt => ih m (by omega) (by omega) (fun j h1 h2 => ?_) f (by omega)) (fun hge => h m ⟨by omega, ?_, ho hge, fun j h1 h2 => hj j h1 h2⟩))
      · by_cases e : j = m
        · subst e; exact hlt
        · exact hj j (by omega) h2
      · have := tc_lt (ho hge)
        omega
    have K : wX_backTo_69 post (wX_backTo_9 post (tc_z g) w c aO aR aL aM f) (tc_z g) (tc_z (tc_l (tc_o w) (m + 1))) (nI (m + 1)) (nI (m / 8)) w c aO aR aL aM :=
      br_t rfl (nm_r (pk_m1 m) (tx_br (by omega) (fun ht => S 1 (by rw [tc_lt ht, tc_s1]; exact congrArg tc_z (by omega)) (fun _ => ht)) (fun hf => S (-1) (by rw [tc_lf hf, tc_sm1]; exact congrArg tc_z (by omega)) (fun z => by have := tc_lf hf; omega))))
    refine br_f (nI_nle (by omega) (by omega)) ⟨by decide, nm_r (e' := nI (m / 8)) (by rw [nI_pred]; exact pk_div (d := 8) (by omega) (by omega) (by omega)) ⟨by decide, pk_eq ((m + 1) % 8) 0 (fun h8 => ?_) (fun _ => K) (pk_rem (d := 8) (by omega) (by omega) (by omega))⟩⟩
    have ec : (nI (m / 8)).toNatClampNeg = m / 8 := nI_clamp (by omega)
    have e8 : m + 1 = m / 8 * 8 + 8 := by omega
    have hin : vp_in (nI (m / 8)) 8 := vp_in_nI (by omega) (by omega)
    have hB := G.2.2 (m / 8) (by omega)
    have eL := (tc_B_L (by omega) hB).1
    have eR := tc_B_R (by omega) hB
    rw [← e8] at eR
    have bm := tc_mn_b (o := tc_o w) (a := m / 8 * 8) (t := 8) (by omega)
    have bb := tc_lb (o := tc_o w) (m / 8 * 8)
    have eX : tc_z (tc_l (tc_o w) (m + 1)) - aR (nI (m / 8)).toNatClampNeg = tc_z (tc_l (tc_o w) (m / 8 * 8)) := by
      rw [ec, eR, tc_zs]
      exact congrArg tc_z (by omega)
    refine ⟨hin, tc_le (tc_l (tc_o w) (m / 8 * 8)) g eX rfl (fun _ => K) (fun hs1 => ⟨hin, hin, tc_le (tc_l (tc_o w) (m / 8 * 8) + tc_mn (tc_o w) (m / 8 * 8) 8) g (by rw [eX, ec, eL]; exact tc_za _ _) rfl (fun _ => K) (fun hs2 => ?_)⟩)⟩
    refine br_f (by decide) ⟨hin, nm_r eX (nm_r (e' := nI (m / 8 * 8)) ?_ (ih (m / 8 * 8) (by omega) (by omega) (fun j h1 h2 => ?_) f (by omega)))⟩
    · rw [e8, ← nI_add, Int32.add_assoc, show nI 8 + (-8) = 0 by decide, Int32.add_zero]
    · by_cases e1 : j = m / 8 * 8
      · subst e1; exact hs1
      · by_cases e2 : m + 1 ≤ j
        · exact hj j e2 h2
        · obtain ⟨s, rfl⟩ : ∃ s, j = m / 8 * 8 + s + 1 := ⟨j - m / 8 * 8 - 1, by omega⟩
          have := (tc_mn_s (o := tc_o w) (m / 8 * 8) 8).1 s (by omega)
          omega
theorem tx_bt (G : tc_G w n aO aR aL aM) {p : Nat} {g : Int} {y : Int32} (hy : y = tc_z g) (hp : p ≤ n) (hg : 0 ≤ g) (hg2 : g < tc_l (tc_o w) p) (h : ∀ j, tc_A (tc_o w) g p j → post (nI j)) : wpX_backTo post (w, c, aO, aR, aL, aM) (nI p) y := by
  subst hy
  have hn := G.1
  have b := tc_lb (o := tc_o w) p
  unfold wpX_backTo
  refine tx_lv G hp ⟨p + 1, tx_bt9 G hp hg (by omega) h p p (Nat.le_refl _) (Nat.le_refl _) (fun j h1 h2 => ?_) (p + 1) (by omega)⟩
  have e : j = p := by omega
  subst e
  exact hg2
end
/-! the least level after brackets from a to before b; the greatest from p on -/
def tc_W (o : Nat → Bool) (a b : Nat) (m : Int) : Prop := m ≤ 64 ∧ -64 ≤ m ∧ (∀ j, a < j → j ≤ b → m ≤ tc_l o j) ∧ (m = 64 ∨ ∃ j, a < j ∧ j ≤ b ∧ tc_l o j = m)
def tc_H (o : Nat → Bool) (p e : Nat) (h : Int) : Prop := h ≤ 64 ∧ -64 ≤ h ∧ (∀ i, p ≤ i → i ≤ e → tc_l o i ≤ h) ∧ ∃ i, p ≤ i ∧ i ≤ e ∧ tc_l o i = h
section
variable {o : Nat → Bool}
theorem tc_W_0 (a : Nat) : tc_W o a a 64 := ⟨by omega, by omega, fun j h1 h2 => absurd h1 (by omega), Or.inl rfl⟩
theorem tc_W_k {a i k : Nat} {m : Int} (hik : i ≤ k) (h : tc_W o a i m) (hs : ∀ j, i < j → j ≤ k → m ≤ tc_l o j) : tc_W o a k m := by
  obtain ⟨h1, h2, h3, h4⟩ := h
  refine ⟨h1, h2, fun j h5 h6 => ?_, ?_⟩
  · by_cases e : j ≤ i
    · exact h3 j h5 e
    · exact hs j (by omega) h6
  · rcases h4 with h4 | ⟨j, h5, h6, h7⟩
    · exact Or.inl h4
    · exact Or.inr ⟨j, h5, by omega, h7⟩
theorem tc_W_n {a i k : Nat} {m m' : Int} (hai : a ≤ i) (hk : k ≤ 64) (h : tc_W o a i m) (hm : m' < m) (hs : ∀ j, i < j → j ≤ k → m' ≤ tc_l o j) (hx : ∃ j, i < j ∧ j ≤ k ∧ tc_l o j = m') : tc_W o a k m' := by
  obtain ⟨h1, h2, h3, h4⟩ := h
  obtain ⟨x, x1, x2, x3⟩ := hx
  have b := tc_lb (o := o) x
  refine ⟨by omega, by omega, fun j h5 h6 => ?_, Or.inr ⟨x, by omega, x2, x3⟩⟩
  by_cases e : j ≤ i
  · have := h3 j h5 e; omega
  · exact hs j (by omega) h6
theorem tc_H_0 {p : Nat} (hp : p ≤ 64) : tc_H o p p (tc_l o p) := by
  have b := tc_lb (o := o) p
  refine ⟨by omega, by omega, fun i h1 h2 => ?_, p, Nat.le_refl _, Nat.le_refl _, rfl⟩
  have e : i = p := by omega
  subst e
  exact Int.le_refl _
theorem tc_H_k {p i k : Nat} {m : Int} (hik : i ≤ k) (h : tc_H o p i m) (hs : ∀ j, i < j → j ≤ k → tc_l o j ≤ m) : tc_H o p k m := by
  obtain ⟨h1, h2, h3, j, h5, h6, h7⟩ := h
  refine ⟨h1, h2, fun j h5 h6 => ?_, j, h5, by omega, h7⟩
  by_cases e : j ≤ i
  · exact h3 j h5 e
  · exact hs j (by omega) h6
theorem tc_H_n {p i k : Nat} {m m' : Int} (hai : p ≤ i) (hk : k ≤ 64) (h : tc_H o p i m) (hm : m < m') (hs : ∀ j, i < j → j ≤ k → tc_l o j ≤ m') (hx : ∃ j, i < j ∧ j ≤ k ∧ tc_l o j = m') : tc_H o p k m' := by
  obtain ⟨h1, h2, h3, h4⟩ := h
  obtain ⟨x, x1, x2, x3⟩ := hx
  have b := tc_lb (o := o) x
  refine ⟨by omega, by omega, fun j h5 h6 => ?_, x, by omega, x2, x3⟩
  by_cases e : j ≤ i
  · have := h3 j h5 e; omega
  · exact hs j (by omega) h6
end
section
variable {w : Int64} {n : Nat} {c : Int32} {aO aR aL aM : Nat → Int32} {post : Int32 → Prop}
theorem tx_lb13 (G : tc_G w n aO aR aL aM) {a b : Nat} (hb : b ≤ n) (h : ∀ m, tc_W (tc_o w) a b m → post (tc_z m)) : ∀ d i m, b ≤ i + d → a ≤ i → i ≤ b → tc_W (tc_o w) a i m → ∀ f, d < f → wX_leastBetween_13 post (nI b) w c aO aR aL aM f (tc_z (tc_l (tc_o w) i)) (tc_z m) (nI i) := by
  have hn := G.1
  intro d
  induction d with
  | zero =>
    intro i m hd hai hib hW f hf
    obtain ⟨f, rfl, hf⟩ := tc_f1 hf
    have e : i = b := by omega
    subst e
    exact br_t (nI_le (Nat.le_refl _) (by omega)) (h m hW)
  | succ d ih =>
    intro i m hd hai hib hW f hf
    obtain ⟨f, rfl, hf⟩ := tc_f1 hf
    refine pk_le b i (fun z => ?_) (fun hin => ?_)
    · have e : i = b := by omega
      subst e
      exact h m hW
    have bm1 := hW.1
    have bm2 := hW.2.1
    have bi := tc_lb (o := tc_o w) i
    have bi1 := tc_lb (o := tc_o w) (i + 1)
    have S : ∀ z0, tc_z (tc_l (tc_o w) i) + z0 = tc_z (tc_l (tc_o w) (i + 1)) → wX_leastBetween_104 post (wX_leastBetween_13 post (nI b) w c aO aR aL aM f) (nI b) (tc_z m) (nI i) z0 (tc_z (tc_l (tc_o w) i)) w c aO aR aL aM := by
      intro z0 hz
      refine nm_r hz (tc_le _ _ rfl rfl (fun hle => nm_r (nI_1 i) (ih (i + 1) m (by omega) (by omega) (by omega) (tc_W_k (by omega) hW (fun j h1 h2 => ?_)) f (by omega))) (fun hgt => nm_r (nI_1 i) (ih (i + 1) _ (by omega) (by omega) (by omega) (tc_W_n hai (by omega) hW hgt (fun j h1 h2 => ?_) ⟨i + 1, by omega, Nat.le_refl _, rfl⟩) f (by omega))))
      · have e : j = i + 1 := by omega
        subst e; exact hle
      · have e : j = i + 1 := by omega
        subst e; exact Int.le_refl _
    have K : wX_leastBetween_89 post (wX_leastBetween_13 post (nI b) w c aO aR aL aM f) (nI b) (tc_z (tc_l (tc_o w) i)) (tc_z m) (nI i) w c aO aR aL aM :=
      tx_br (by omega) (fun ht => S 1 (by rw [tc_lt ht]; exact tc_p1 _)) (fun hf => S (-1) (by rw [tc_lf hf]; exact tc_m1 _))
    refine ⟨by decide, nm_r (e' := nI (i / 8)) (pk_div (d := 8) (by omega) (by omega) (by omega)) ⟨by decide, pk_eq (i % 8) 0 (fun h8 => ?_) (fun _ => K) (pk_rem (d := 8) (by omega) (by omega) (by omega))⟩⟩
    refine pk_lt b (i + 8) (fun _ => K) (fun hb8 => ?_) rfl (nI_add i 8)
    have ec : (nI (i / 8)).toNatClampNeg = i / 8 := nI_clamp (by omega)
    have e8 : i / 8 * 8 = i := by omega
    have hin : vp_in (nI (i / 8)) 8 := vp_in_nI (by omega) (by omega)
    have hB := G.2.2 (i / 8) (by omega)
    have eL := (tc_B_L (by omega) hB).1
    have eR := tc_B_R (by omega) hB
    rw [e8] at eL eR
    have bm := tc_mn_b (o := tc_o w) (a := i) (t := 8) (by omega)
    have ms := (tc_mn_s (o := tc_o w) i 8).1
    have eX : tc_z (tc_l (tc_o w) i) + aL (nI (i / 8)).toNatClampNeg = tc_z (tc_l (tc_o w) i + tc_mn (tc_o w) i 8) := by
      rw [ec, eL]; exact tc_za _ _
    have eY : tc_z (tc_l (tc_o w) i) + aR (nI (i / 8)).toNatClampNeg = tc_z (tc_l (tc_o w) (i + 8)) := by
      rw [ec, eR, tc_za]; exact congrArg tc_z (by omega)
    have T : ∀ m', tc_W (tc_o w) a (i + 8) m' → wX_leastBetween_71 post (wX_leastBetween_13 post (nI b) w c aO aR aL aM f) (nI b) (tc_z (tc_l (tc_o w) i)) (nI i) (nI (i / 8)) (tc_z m') w c aO aR aL aM := by
      intro m' hm'
      exact And.intro hin (nm_r eY (nm_r (e' := nI (i + 8)) (nI_add i 8) (ih (i + 8) m' (by omega) (by omega) (by omega) hm' f (by omega))))
    refine ⟨hin, tc_le m (tc_l (tc_o w) i + tc_mn (tc_o w) i 8) rfl eX (fun hle => T m (tc_W_k (by omega) hW (fun j h1 h2 => ?_))) (fun hgt => ⟨hin, ?_⟩)⟩
    · obtain ⟨s, rfl⟩ : ∃ s, j = i + s + 1 := ⟨j - i - 1, by omega⟩
      have := ms s (by omega)
      omega
    · rw [eX]
      refine T _ (tc_W_n hai (by omega) hW hgt (fun j h1 h2 => ?_) ?_)
      · obtain ⟨s, rfl⟩ : ∃ s, j = i + s + 1 := ⟨j - i - 1, by omega⟩
        have := ms s (by omega)
        omega
      · obtain ⟨s, h1, h2⟩ := tc_mn_a (o := tc_o w) (a := i) (t := 8) (by omega)
        exact ⟨i + s + 1, by omega, by omega, by omega⟩
theorem tx_lbt (G : tc_G w n aO aR aL aM) {a b : Nat} (hab : a ≤ b) (hb : b ≤ n) (h : ∀ m, tc_W (tc_o w) a b m → post (tc_z m)) : wpX_leastBetween post (w, c, aO, aR, aL, aM) (nI a) (nI b) := by
  unfold wpX_leastBetween
  exact tx_lv G (by omega) ⟨b + 1, tx_lb13 G hb h b a 64 (by omega) (Nat.le_refl _) hab (tc_W_0 a) (b + 1) (by omega)⟩
theorem tx_ht40 (G : tc_G w n aO aR aL aM) {p b : Nat} {s : Int} (hb : b ≤ n) (h : ∀ m, tc_H (tc_o w) p b m → post (tc_z m - tc_z s - 1)) : ∀ d i m, b ≤ i + d → p ≤ i → i ≤ b → tc_H (tc_o w) p i m → ∀ f, d < f → wX_height_40 post (nI b) (tc_z s) w c aO aR aL aM f (tc_z (tc_l (tc_o w) i)) (tc_z m) (nI i) := by
  have hn := G.1
  intro d
  induction d with
  | zero =>
    intro i m hd hai hib hW f hf
    obtain ⟨f, rfl, hf⟩ := tc_f1 hf
    have e : i = b := by omega
    subst e
    exact br_t (nI_le (Nat.le_refl _) (by omega)) (h m hW)
  | succ d ih =>
    intro i m hd hai hib hW f hf
    obtain ⟨f, rfl, hf⟩ := tc_f1 hf
    refine pk_le b i (fun z => ?_) (fun hin => ?_)
    · have e : i = b := by omega
      subst e
      exact h m hW
    have bm1 := hW.1
    have bm2 := hW.2.1
    have bi := tc_lb (o := tc_o w) i
    have bi1 := tc_lb (o := tc_o w) (i + 1)
    have S : ∀ z0, tc_z (tc_l (tc_o w) i) + z0 = tc_z (tc_l (tc_o w) (i + 1)) → wX_height_136 post (wX_height_40 post (nI b) (tc_z s) w c aO aR aL aM f) (nI b) (tc_z s) (tc_z m) (nI i) z0 (tc_z (tc_l (tc_o w) i)) w c aO aR aL aM := by
      intro z0 hz
      refine nm_r hz (tc_le _ _ rfl rfl (fun hle => nm_r (nI_1 i) (ih (i + 1) m (by omega) (by omega) (by omega) (tc_H_k (by omega) hW (fun j h1 h2 => ?_)) f (by omega))) (fun hgt => nm_r (nI_1 i) (ih (i + 1) _ (by omega) (by omega) (by omega) (tc_H_n hai (by omega) hW hgt (fun j h1 h2 => ?_) ⟨i + 1, by omega, Nat.le_refl _, rfl⟩) f (by omega))))
      · have e : j = i + 1 := by omega
        subst e; exact hle
      · have e : j = i + 1 := by omega
        subst e; exact Int.le_refl _
    have K : wX_height_120 post (wX_height_40 post (nI b) (tc_z s) w c aO aR aL aM f) (nI b) (tc_z s) (tc_z (tc_l (tc_o w) i)) (tc_z m) (nI i) w c aO aR aL aM :=
      tx_br (by omega) (fun ht => S 1 (by rw [tc_lt ht]; exact tc_p1 _)) (fun hf => S (-1) (by rw [tc_lf hf]; exact tc_m1 _))
    refine ⟨by decide, nm_r (e' := nI (i / 8)) (pk_div (d := 8) (by omega) (by omega) (by omega)) ⟨by decide, pk_eq (i % 8) 0 (fun h8 => ?_) (fun _ => K) (pk_rem (d := 8) (by omega) (by omega) (by omega))⟩⟩
    refine pk_lt b (i + 8) (fun _ => K) (fun hb8 => ?_) rfl (nI_add i 8)
    have ec : (nI (i / 8)).toNatClampNeg = i / 8 := nI_clamp (by omega)
    have e8 : i / 8 * 8 = i := by omega
    have hin : vp_in (nI (i / 8)) 8 := vp_in_nI (by omega) (by omega)
    have hB := G.2.2 (i / 8) (by omega)
    have eL := (tc_B_L (by omega) hB).2
    have eR := tc_B_R (by omega) hB
    rw [e8] at eL eR
    have bm := tc_mx_b (o := tc_o w) (a := i) (t := 8) (by omega)
    have ms := (tc_mx_s (o := tc_o w) i 8).1
    have eX : tc_z (tc_l (tc_o w) i) + aM (nI (i / 8)).toNatClampNeg = tc_z (tc_l (tc_o w) i + tc_mx (tc_o w) i 8) := by
      rw [ec, eL]; exact tc_za _ _
    have eY : tc_z (tc_l (tc_o w) i) + aR (nI (i / 8)).toNatClampNeg = tc_z (tc_l (tc_o w) (i + 8)) := by
      rw [ec, eR, tc_za]; exact congrArg tc_z (by omega)
    have T : ∀ m', tc_H (tc_o w) p (i + 8) m' → wX_height_100 post (wX_height_40 post (nI b) (tc_z s) w c aO aR aL aM f) (nI b) (tc_z s) (tc_z (tc_l (tc_o w) i)) (nI i) (nI (i / 8)) (tc_z m') w c aO aR aL aM := by
      intro m' hm'
      exact And.intro hin (nm_r eY (nm_r (e' := nI (i + 8)) (nI_add i 8) (ih (i + 8) m' (by omega) (by omega) (by omega) hm' f (by omega))))
    refine ⟨hin, tc_le (tc_l (tc_o w) i + tc_mx (tc_o w) i 8) m eX rfl (fun hle => T m (tc_H_k (by omega) hW (fun j h1 h2 => ?_))) (fun hgt => ⟨hin, ?_⟩)⟩
    · obtain ⟨t, rfl⟩ : ∃ t, j = i + t + 1 := ⟨j - i - 1, by omega⟩
      have := ms t (by omega)
      omega
    · rw [eX]
      refine T _ (tc_H_n hai (by omega) hW hgt (fun j h1 h2 => ?_) ?_)
      · obtain ⟨t, rfl⟩ : ∃ t, j = i + t + 1 := ⟨j - i - 1, by omega⟩
        have := ms t (by omega)
        omega
      · obtain ⟨t, h1, h2⟩ := tc_mx_a (o := tc_o w) (a := i) (t := 8) (by omega)
        exact ⟨i + t + 1, by omega, by omega, by omega⟩
end
end
section
/-! the component's refresh -/
section
variable {w : Int64} {n : Nat} {aO aR aL aM : Nat → Int32} {post : SX → Prop}
theorem tx_rf115 {b : Nat} (hb : b < 8) {x3 x4 x5 x6 : Int} (h3 : -128 ≤ x3 ∧ x3 < 128) (h4 : -128 ≤ x4 ∧ x4 < 128) (h5 : -128 ≤ x5 ∧ x5 < 128) (h6 : -128 ≤ x6 ∧ x6 < 128) (h : post (w, nI n, upd aO b (tc_z x4), upd aR b (tc_z x3), upd aL b (tc_z x5), upd aM b (tc_z x6))) : wX_refresh_115 post (nI b) (tc_z x3) (tc_z x4) (tc_z x5) (tc_z x6) w (nI n) aO aR aL aM := by
  have hin : vp_in (nI b) 8 := vp_in_nI hb (by omega)
  have ec : (nI b).toNatClampNeg = b := nI_clamp (by omega)
  unfold wX_refresh_115
  rw [ec, tc_by h3.1 h3.2, tc_by h4.1 h4.2, tc_by h5.1 h5.2, tc_by h6.1 h6.2]
  exact ⟨hin, nm_e ⟨hin, nm_e ⟨hin, nm_e ⟨hin, nm_e h⟩⟩⟩⟩
theorem tx_rf24 {b : Nat} (hn : n ≤ 64) (hb : b < 8) (h : post (w, nI n, upd aO b (tc_z ((tc_n (tc_o w) (b * 8 + tc_len n b) : Int) - (tc_n (tc_o w) (b * 8) : Int))), upd aR b (tc_z (tc_l (tc_o w) (b * 8 + tc_len n b) - tc_l (tc_o w) (b * 8))), upd aL b (tc_z (tc_mn (tc_o w) (b * 8) (tc_len n b))), upd aM b (tc_z (tc_mx (tc_o w) (b * 8) (tc_len n b))))) : ∀ d t, t + d = tc_len n b → ∀ f, d < f → wX_refresh_24 post (nI b) w (nI n) aO aR aL aM f (tc_z (tc_l (tc_o w) (b * 8 + t) - tc_l (tc_o w) (b * 8))) (tc_z ((tc_n (tc_o w) (b * 8 + t) : Int) - (tc_n (tc_o w) (b * 8) : Int))) (tc_z (tc_mn (tc_o w) (b * 8) t)) (tc_z (tc_mx (tc_o w) (b * 8) t)) (nI (b * 8 + t)) := by
  have ll : tc_len n b ≤ 8 := tc_len_le b
  have e8 : nI b * 8 + 8 = nI (b * 8 + 8) := (congrArg (fun z => z + 8) (pk_mul b 8)).trans (nI_add (b * 8) 8)
  have X : wX_refresh_115 post (nI b) (tc_z (tc_l (tc_o w) (b * 8 + tc_len n b) - tc_l (tc_o w) (b * 8))) (tc_z ((tc_n (tc_o w) (b * 8 + tc_len n b) : Int) - (tc_n (tc_o w) (b * 8) : Int))) (tc_z (tc_mn (tc_o w) (b * 8) (tc_len n b))) (tc_z (tc_mx (tc_o w) (b * 8) (tc_len n b))) w (nI n) aO aR aL aM := by
    have b1 := tc_ld (o := tc_o w) (show b * 8 ≤ b * 8 + tc_len n b by omega)
    have b2 := tc_nm (o := tc_o w) (show b * 8 ≤ b * 8 + tc_len n b by omega)
    have b3 := tc_nd (o := tc_o w) (show b * 8 ≤ b * 8 + tc_len n b by omega)
    have b4 := tc_mn_b (o := tc_o w) (a := b * 8) ll
    have b5 := tc_mx_b (o := tc_o w) (a := b * 8) ll
    exact tx_rf115 hb (by omega) (by omega) (by omega) (by omega) h
  intro d
  induction d with
  | zero =>
    intro t ht f hf
    obtain ⟨f, rfl, hf⟩ := tc_f1 hf
    have e : t = tc_len n b := by omega
    subst e
    refine pk_le (b * 8 + 8) (b * 8 + tc_len n b) (fun _ => X) (fun z => pk_le n (b * 8 + tc_len n b) (fun _ => X) (fun y => ?_)) e8 rfl
    unfold tc_len at y z
    omega
  | succ d ih =>
    intro t ht f hf
    obtain ⟨f, rfl, hf⟩ := tc_f1 hf
    have t8 : t < 8 := by omega
    have tn : b * 8 + t < n := by unfold tc_len at ht; omega
    have J := ih (t + 1) (by omega) f (by omega)
    rw [← Nat.add_assoc] at J
    have b1 := tc_ld (o := tc_o w) (show b * 8 ≤ b * 8 + t + 1 by omega)
    have b4 := tc_mn_b (o := tc_o w) (a := b * 8) (t := t) (by omega)
    have b5 := tc_mx_b (o := tc_o w) (a := b * 8) (t := t) (by omega)
    have R : wX_refresh_93 post (wX_refresh_24 post (nI b) w (nI n) aO aR aL aM f) (nI b) (tc_z (tc_l (tc_o w) (b * 8 + t + 1) - tc_l (tc_o w) (b * 8))) (tc_z ((tc_n (tc_o w) (b * 8 + t + 1) : Int) - (tc_n (tc_o w) (b * 8) : Int))) (tc_z (tc_mx (tc_o w) (b * 8) t)) (nI (b * 8 + t)) (tc_z (tc_mn (tc_o w) (b * 8) (t + 1))) w (nI n) aO aR aL aM :=
      tc_le _ _ rfl rfl (fun h => nm_r (nI_1 (b * 8 + t)) (by rw [tc_mx_t h] at J; exact J)) (fun h => nm_r (nI_1 (b * 8 + t)) (by rw [tc_mx_f h] at J; exact J))
    have Q : ∀ z, tc_z ((tc_n (tc_o w) (b * 8 + t) : Int) - (tc_n (tc_o w) (b * 8) : Int)) + z = tc_z ((tc_n (tc_o w) (b * 8 + t + 1) : Int) - (tc_n (tc_o w) (b * 8) : Int)) → wX_refresh_78 post (wX_refresh_24 post (nI b) w (nI n) aO aR aL aM f) (nI b) (tc_z (tc_l (tc_o w) (b * 8 + t + 1) - tc_l (tc_o w) (b * 8))) (tc_z (tc_mn (tc_o w) (b * 8) t)) (tc_z (tc_mx (tc_o w) (b * 8) t)) (nI (b * 8 + t)) z (tc_z ((tc_n (tc_o w) (b * 8 + t) : Int) - (tc_n (tc_o w) (b * 8) : Int))) w (nI n) aO aR aL aM :=
      fun z hz => nm_r hz (tc_le _ _ rfl rfl (fun h => by rw [tc_mn_t h] at R; exact R) (fun h => by rw [tc_mn_f h] at R; exact R))
    have P : ∀ z, tc_z (tc_l (tc_o w) (b * 8 + t) - tc_l (tc_o w) (b * 8)) + z = tc_z (tc_l (tc_o w) (b * 8 + t + 1) - tc_l (tc_o w) (b * 8)) → wX_refresh_60 post (wX_refresh_24 post (nI b) w (nI n) aO aR aL aM f) (nI b) (tc_z ((tc_n (tc_o w) (b * 8 + t) : Int) - (tc_n (tc_o w) (b * 8) : Int))) (tc_z (tc_mn (tc_o w) (b * 8) t)) (tc_z (tc_mx (tc_o w) (b * 8) t)) (nI (b * 8 + t)) z (tc_z (tc_l (tc_o w) (b * 8 + t) - tc_l (tc_o w) (b * 8))) w (nI n) aO aR aL aM :=
      fun z hz => nm_r hz (tx_br (by omega) (fun ht => Q 1 (by rw [tc_nt ht, tc_p1]; exact congrArg tc_z (by omega))) (fun hf => Q 0 (by rw [tc_nf hf]; exact Int32.add_zero _)))
    exact pk_le (b * 8 + 8) (b * 8 + t) (fun z => absurd z (by omega)) (fun _ => pk_le n (b * 8 + t) (fun z => absurd z (by omega)) (fun _ => tx_br (by omega) (fun ht => P 1 (by rw [tc_lt ht, tc_p1]; exact congrArg tc_z (by omega))) (fun hf => P (-1) (by rw [tc_lf hf, tc_m1]; exact congrArg tc_z (by omega))))) e8 rfl
theorem tx_rf {p : Nat} {y : Int32} (hy : y = nI p) (hn : n ≤ 64) (hp : p < 64) (hv : ∀ k, k ≤ n → 0 ≤ tc_l (tc_o w) k) (hB : ∀ b, b < 8 → b ≠ p / 8 → tc_B (tc_o w) n aO aR aL aM b) (h : ∀ bO bR bL bM, tc_G w n bO bR bL bM → post (w, nI n, bO, bR, bL, bM)) : wpX_refresh post (w, nI n, aO, aR, aL, aM) y := by
  subst hy
  refine And.intro (by decide) (nm_r (e' := nI (p / 8)) (pk_div (d := 8) (by omega) (by omega) (by omega)) (nm_r (e' := nI (p / 8 * 8)) (pk_mul (p / 8) 8) ⟨9, ?_⟩))
  have ll : tc_len n (p / 8) ≤ 8 := tc_len_le _
  have b2 := tc_nm (o := tc_o w) (show p / 8 * 8 ≤ p / 8 * 8 + tc_len n (p / 8) by omega)
  have k := tx_rf24 (w := w) (n := n) (aO := aO) (aR := aR) (aL := aL) (aM := aM) (post := post) (b := p / 8) hn (by omega) (h _ _ _ _ ⟨hn, hv, fun b hb => ?_⟩) (tc_len n (p / 8)) 0 (by omega) 9 (by omega)
  · rw [Nat.add_zero, Int.sub_self, Int.sub_self] at k
    simp only [tc_mn, tc_mx, tc_z0, tc_z8, tc_zm8] at k
    exact k
  · by_cases e : b = p / 8
    · subst e
      unfold tc_B
      rw [pk_us, pk_us, pk_us, pk_us]
      refine ⟨?_, rfl, fun _ => ⟨rfl, rfl⟩⟩
      rw [← tc_zn]
      exact congrArg tc_z (by omega)
    · have H := hB b hb e
      unfold tc_B at H ⊢
      rw [pk_un e, pk_un e, pk_un e, pk_un e]
      exact H
end
end
section
/-! what each call answers, by places -/
/-- the next sibling of the node at q -/
def tc_N (o : Nat → Bool) (n q : Nat) (r : Int32) : Prop :=
  (∃ s, s < n ∧ o s = true ∧ tc_S o q s ∧ (∀ i, q < i → i < s → o i = true → ¬ tc_S o q i) ∧ r = nI (tc_n o s)) ∨ ((∀ i, q < i → i < n → o i = true → ¬ tc_S o q i) ∧ r = -1)
/-- the sibling before the node at p -/
def tc_P (o : Nat → Bool) (p : Nat) (r : Int32) : Prop :=
  (∃ s, s < p ∧ o s = true ∧ tc_S o s p ∧ (∀ i, s < i → i < p → o i = true → ¬ tc_S o i p) ∧ r = nI (tc_n o s)) ∨ ((∀ i, i < p → o i = true → ¬ tc_S o i p) ∧ r = -1)
/-- children of the node at p -/
noncomputable def tc_c (o : Nat → Bool) (p q : Nat) : Bool := @decide (o q = true ∧ tc_C o p q) (Classical.propDecidable _)
def tc_K (o : Nat → Bool) (n p : Nat) (x r : Int32) : Prop :=
  (∃ q, q < n ∧ tc_c o p q = true ∧ nI (tc_n (tc_c o p) q) = x ∧ r = nI (tc_n o q)) ∨ ((∀ q, q < n → tc_c o p q = true → nI (tc_n (tc_c o p) q) ≠ x) ∧ r = -1)
/-- child number i, while the children are gone through -/
def tc_J (o : Nat → Bool) (n p i : Nat) (r : Int32) : Prop :=
  (∃ q, q < n ∧ tc_c o p q = true ∧ tc_n (tc_c o p) q = i ∧ r = nI (tc_n o q)) ∨ (tc_n (tc_c o p) n = i ∧ r = -1)
/-- the last common node above -/
def tc_M (o : Nat → Bool) (a b : Nat) (r : Int32) : Prop :=
  (∃ c, o c = true ∧ tc_U o c a ∧ tc_U o c b ∧ (∀ i, c < i → o i = true → ¬ (tc_U o i a ∧ tc_U o i b)) ∧ r = nI (tc_n o c)) ∨ ((∀ i, o i = true → ¬ (tc_U o i a ∧ tc_U o i b)) ∧ r = -1)
/-- the node above p at depth d -/
def tc_V (o : Nat → Bool) (p : Nat) (d r : Int32) : Prop :=
  (∃ c, o c = true ∧ tc_U o c p ∧ tc_z (tc_l o c) = d ∧ r = nI (tc_n o c)) ∨ ((∀ c, o c = true → tc_U o c p → tc_z (tc_l o c) ≠ d) ∧ r = -1)
/-- the greatest depth below p, less p's own -/
def tc_Y (o : Nat → Bool) (p e : Nat) (m : Int) : Prop :=
  0 ≤ m ∧ m ≤ 64 ∧ (∀ q, p ≤ q → q < e → o q = true → tc_l o q - tc_l o p ≤ m) ∧ (m = 0 ∨ ∃ q, p ≤ q ∧ q < e ∧ o q = true ∧ tc_l o q - tc_l o p = m)
/-- leaves -/
def tc_lf1 (o : Nat → Bool) (i : Nat) : Bool := o i && !(o (i + 1))
section
variable {o : Nat → Bool}
theorem tc_N_u {n q : Nat} {x y : Int32} (h : tc_N o n q x) (h' : tc_N o n q y) : x = y := by
  rcases h with ⟨s, a1, a2, a3, a4, a5⟩ | ⟨a1, a2⟩ <;> rcases h' with ⟨t, b1, b2, b3, b4, b5⟩ | ⟨b1, b2⟩
  · rcases Nat.lt_trichotomy s t with e | e | e
    · exact absurd a3 (b4 s a3.1 e a2)
    · rw [a5, b5, e]
    · exact absurd b3 (a4 t b3.1 e b2)
  · exact absurd a3 (b1 s a3.1 a1 a2)
  · exact absurd b3 (a1 t b3.1 b1 b2)
  · rw [a2, b2]
theorem tc_P_u {p : Nat} {x y : Int32} (h : tc_P o p x) (h' : tc_P o p y) : x = y := by
  rcases h with ⟨s, a1, a2, a3, a4, a5⟩ | ⟨a1, a2⟩ <;> rcases h' with ⟨t, b1, b2, b3, b4, b5⟩ | ⟨b1, b2⟩
  · rcases Nat.lt_trichotomy s t with e | e | e
    · exact absurd b3 (a4 t e b1 b2)
    · rw [a5, b5, e]
    · exact absurd a3 (b4 s e a1 a2)
  · exact absurd a3 (b1 s a1 a2)
  · exact absurd b3 (a1 t b1 b2)
  · rw [a2, b2]
theorem tc_c_t {p q : Nat} : tc_c o p q = true ↔ o q = true ∧ tc_C o p q := by
  unfold tc_c
  exact @decide_eq_true_iff _ (Classical.propDecidable _)
theorem tc_c_f {p q : Nat} (h : ¬ (o q = true ∧ tc_C o p q)) : tc_c o p q = false := ts_nt (fun z => h (tc_c_t.mp z))
theorem tc_K_u {n p : Nat} {v x y : Int32} (hn : n ≤ 64) (h : tc_K o n p v x) (h' : tc_K o n p v y) : x = y := by
  rcases h with ⟨s, a1, a2, a3, a4⟩ | ⟨a1, a2⟩ <;> rcases h' with ⟨t, b1, b2, b3, b4⟩ | ⟨b1, b2⟩
  · have e1 := tc_nb (o := tc_c o p) s
    have e2 := tc_nb (o := tc_c o p) t
    have e := a3.trans b3.symm
    rw [nI_eq (by omega) (by omega)] at e
    rw [a4, b4, tc_inj a2 b2 e]
  · exact absurd a3 (b1 s a1 a2)
  · exact absurd b3 (a1 t b1 b2)
  · rw [a2, b2]
theorem tc_M_u {a b : Nat} {x y : Int32} (h : tc_M o a b x) (h' : tc_M o a b y) : x = y := by
  rcases h with ⟨s, a1, a2, a3, a4, a5⟩ | ⟨a1, a2⟩ <;> rcases h' with ⟨t, b1, b2, b3, b4, b5⟩ | ⟨b1, b2⟩
  · rcases Nat.lt_trichotomy s t with e | e | e
    · exact absurd ⟨b2, b3⟩ (a4 t e b1)
    · rw [a5, b5, e]
    · exact absurd ⟨a2, a3⟩ (b4 s e a1)
  · exact absurd ⟨a2, a3⟩ (b1 s a1)
  · exact absurd ⟨b2, b3⟩ (a1 t b1)
  · rw [a2, b2]
theorem tc_M_c {a b : Nat} {x : Int32} (h : tc_M o a b x) : tc_M o b a x := by
  rcases h with ⟨s, a1, a2, a3, a4, a5⟩ | ⟨a1, a2⟩
  · exact Or.inl ⟨s, a1, a3, a2, fun i h1 h2 h3 => a4 i h1 h2 ⟨h3.2, h3.1⟩, a5⟩
  · exact Or.inr ⟨fun i h1 h2 => a1 i h1 ⟨h2.2, h2.1⟩, a2⟩
theorem tc_U_l {c d p : Nat} (h : tc_U o c p) (h' : tc_U o d p) (e : tc_l o c = tc_l o d) : c = d := by
  rcases Nat.lt_trichotomy c d with x | x | x
  · have := h.2 d x h'.1; omega
  · exact x
  · have := h'.2 c x h.1; omega
theorem tc_V_u {p : Nat} {d x y : Int32} (hp : p ≤ 64) (h : tc_V o p d x) (h' : tc_V o p d y) : x = y := by
  rcases h with ⟨s, a1, a2, a3, a4⟩ | ⟨a1, a2⟩ <;> rcases h' with ⟨t, b1, b2, b3, b4⟩ | ⟨b1, b2⟩
  · have e1 := tc_lb (o := o) s
    have e2 := tc_lb (o := o) t
    have e3 := a2.1
    have e4 := b2.1
    have e := a3.trans b3.symm
    rw [tc_zi (by omega) (by omega) (by omega) (by omega)] at e
    rw [a4, b4, tc_U_l a2 b2 e]
  · exact absurd a3 (b1 s a1 a2)
  · exact absurd b3 (a1 t b1 b2)
  · rw [a2, b2]
/-- the component's next: behind the closing bracket -/
theorem tc_N_1 {n q e : Nat} (hE : tc_E o n q e) (ho : o q = true) (hq : q < n) (he : e + 1 < n) (h1 : o (e + 1) = true) : tc_N o n q (nI (tc_n o (e + 1))) := by
  have hc := tc_E_c hE ho hq (by omega)
  refine Or.inl ⟨e + 1, he, h1, ⟨by have := hE.1; omega, hc.1, fun i h2 h3 => ?_⟩, fun i h2 h3 _ hS => ?_, rfl⟩
  · by_cases x : i = q
    · subst x; exact Int.le_refl _
    · by_cases y : i = e + 1
      · subst y; omega
      · have := hE.2.2.1 i (by omega) (by omega); omega
  · have h4 := hE.2.2.1 i h2 (by omega)
    have h5 := hS.2.1
    omega
theorem tc_N_0 {n q e : Nat} (hE : tc_E o n q e) (ho : o q = true) (hq : q < n) (h1 : n ≤ e + 1 ∨ o (e + 1) = false) : tc_N o n q (-1) := by
  refine Or.inr ⟨fun i h2 h3 h4 hS => ?_, rfl⟩
  by_cases x : i ≤ e
  · have h4 := hE.2.2.1 i h2 x
    have h5 := hS.2.1
    omega
  · rcases h1 with y | y
    · omega
    · have hc := tc_E_c hE ho hq (by omega)
      by_cases z : i = e + 1
      · subst z
        rw [y] at h4
        exact absurd h4 (by decide)
      · have h6 := tc_lf y
        have h7 := hS.2.2 (e + 1 + 1) (by have := hE.1; omega) (by omega)
        omega
/-- the component's previous -/
theorem tc_P_0 {p : Nat} (h : p = 0 ∨ o (p - 1) = true) : tc_P o p (-1) := by
  refine Or.inr ⟨fun i h1 h2 hS => ?_, rfl⟩
  rcases h with h | h
  · omega
  · have e := tc_lt h
    rw [show p - 1 + 1 = p by omega] at e
    have h3 := hS.2.2 (p - 1) (by omega) (by omega)
    have h4 := hS.2.1
    omega
theorem tc_P_1 {p j : Nat} (hp : 0 < p) (h : o (p - 1) = false) (hA : tc_A o (tc_l o p) (p - 1) j) : tc_P o p (nI (tc_n o j)) := by
  have e := tc_lf h
  rw [show p - 1 + 1 = p by omega] at e
  obtain ⟨a1, a2, a3, a4⟩ := hA
  refine Or.inl ⟨j, by omega, a3, ⟨by omega, a2.symm, fun i h1 h2 => ?_⟩, fun i h1 h2 _ hS => ?_, rfl⟩
  · by_cases x : i = j
    · subst x; exact Int.le_refl _
    · by_cases y : i = p
      · subst y; omega
      · have := a4 i (by omega) (by omega); omega
  · have h3 := a4 i h1 (by omega)
    have h4 := hS.2.1
    omega
/-- children and siblings -/
theorem tc_C_S {p q r : Nat} (hC : tc_C o p q) (hqr : q < r) : tc_C o p r ↔ tc_S o q r := by
  obtain ⟨c1, c2, c3, c4⟩ := hC
  constructor
  · intro ⟨d1, d2, d3, d4⟩
    exact ⟨hqr, by omega, fun i h1 h2 => by have := d4 i (by omega) h2; omega⟩
  · intro ⟨d1, d2, d3⟩
    refine ⟨by omega, by omega, by omega, fun i h1 h2 => ?_⟩
    by_cases x : i ≤ q
    · exact c4 i h1 x
    · have := d3 i (by omega) h2; omega
theorem tc_c_1 {p : Nat} (hop : o p = true) (h : o (p + 1) = true) : tc_c o p (p + 1) = true := by
  have e := tc_lt hop
  refine tc_c_t.mpr ⟨h, by omega, e, by omega, fun i h1 h2 => ?_⟩
  have x : i = p + 1 := by omega
  subst x
  omega
theorem tc_c_0 {n p : Nat} (hop : o p = true) (h : n ≤ p + 1 ∨ o (p + 1) = false) : tc_n (tc_c o p) n = 0 := by
  refine (tc_no (Nat.zero_le _) (fun i _ h2 => tc_c_f (fun z => ?_))).trans tc_n0
  obtain ⟨z1, z2, z3, z4⟩ := z
  have e := tc_lt hop
  rcases h with h | h
  · omega
  · by_cases x : i = p + 1
    · subst x
      rw [h] at z1
      exact absurd z1 (by decide)
    · have h3 := tc_lf h
      have h4 := z4.2 (p + 1 + 1) (by omega) (by omega)
      omega
theorem tc_J_1 {n p : Nat} (hp : p + 1 < n) (hop : o p = true) (h : o (p + 1) = true) : tc_J o n p 0 (nI (tc_n o (p + 1))) := by
  refine Or.inl ⟨p + 1, hp, tc_c_1 hop h, ?_, rfl⟩
  refine (tc_no (Nat.zero_le _) (fun i _ h2 => tc_c_f (fun z => ?_))).trans tc_n0
  have := z.2.1
  omega
theorem tc_J_0 {n p : Nat} (hop : o p = true) (h : n ≤ p + 1 ∨ o (p + 1) = false) : tc_J o n p 0 (-1) := Or.inr ⟨tc_c_0 hop h, rfl⟩
theorem tc_J_s {n p q i : Nat} {r : Int32} (hq : q < n) (hc : tc_c o p q = true) (hi : tc_n (tc_c o p) q = i) (hN : tc_N o n q r) : tc_J o n p (i + 1) r := by
  have hC := (tc_c_t.mp hc).2
  have e := tc_nt hc
  rcases hN with ⟨s, a1, a2, a3, a4, a5⟩ | ⟨a1, a2⟩
  · refine Or.inl ⟨s, a1, tc_c_t.mpr ⟨a2, (tc_C_S hC a3.1).mpr a3⟩, ?_, a5⟩
    rw [tc_no (o := tc_c o p) (show q + 1 ≤ s from a3.1) (fun i h1 h2 => tc_c_f (fun z => a4 i (by omega) h2 z.1 ((tc_C_S hC (by omega)).mp z.2)))]
    omega
  · refine Or.inr ⟨?_, a2⟩
    rw [tc_no (o := tc_c o p) (show q + 1 ≤ n from hq) (fun i h1 h2 => tc_c_f (fun z => a1 i (by omega) h2 z.1 ((tc_C_S hC (by omega)).mp z.2)))]
    omega
theorem tc_K_1 {n p k : Nat} {r : Int32} (hn : n ≤ 64) (hk : k < 2147483648) (h : tc_J o n p k r) : tc_K o n p (nI k) r := by
  rcases h with ⟨q, a1, a2, a3, a4⟩ | ⟨a1, a2⟩
  · exact Or.inl ⟨q, a1, a2, by rw [a3], a4⟩
  · refine Or.inr ⟨fun q h1 h2 e => ?_, a2⟩
    have e1 := tc_nb (o := tc_c o p) q
    have e2 := tc_ns h2 h1
    rw [nI_eq (by omega) (by omega)] at e
    omega
theorem tc_K_2 {n p i k : Nat} (hn : n ≤ 64) (hk : k < 2147483648) (hik : i ≤ k) (h : tc_n (tc_c o p) n = i) : tc_K o n p (nI k) (-1) := by
  refine Or.inr ⟨fun q h1 h2 e => ?_, rfl⟩
  have e1 := tc_nb (o := tc_c o p) q
  have e2 := tc_ns h2 h1
  rw [nI_eq (by omega) (by omega)] at e
  omega
theorem tc_K_0 {n p : Nat} {v : Int32} (hn : n ≤ 64) (hv : v < 0) : tc_K o n p v (-1) := by
  refine Or.inr ⟨fun q h1 h2 e => ?_, rfl⟩
  have e1 := tc_nb (o := tc_c o p) q
  subst e
  exact nI_pos (by omega) hv
/-- above -/
theorem tc_A_U {g : Int} {p j : Nat} (hA : tc_A o g p j) : tc_U o j p := by
  obtain ⟨a1, a2, a3, a4⟩ := hA
  exact ⟨by omega, fun i h1 h2 => by have := a4 i h1 h2; omega⟩
/-- the component's meet -/
theorem tc_M_1 {a b : Nat} (ho : o a = true) (h : tc_U o a b) : tc_M o a b (nI (tc_n o a)) := by
  refine Or.inl ⟨a, ho, tc_U_r a, h, fun i h1 _ h2 => ?_, rfl⟩
  have := h2.1.1
  omega
theorem tc_M_2 {a b j : Nat} {m : Int} (hab : a < b) (hx : ∃ i, a < i ∧ i ≤ b ∧ tc_l o i = m) (hm : ∀ i, a < i → i ≤ b → m ≤ tc_l o i) (hle : m ≤ tc_l o a) (hA : tc_A o (m - 1) a j) : tc_M o a b (nI (tc_n o j)) := by
  obtain ⟨x, x1, x2, x3⟩ := hx
  have hU := tc_A_U hA
  obtain ⟨a1, a2, a3, a4⟩ := hA
  refine Or.inl ⟨j, a3, hU, ⟨by omega, fun i h1 h2 => ?_⟩, fun i h1 _ h2 => ?_, rfl⟩
  · by_cases y : i ≤ a
    · exact hU.2 i h1 y
    · have := hm i (by omega) h2; omega
  · obtain ⟨⟨c1, c2⟩, c3, c4⟩ := h2
    have h5 := c4 x (by omega) x2
    by_cases y : i = a
    · subst y; omega
    · have := a4 i h1 c1; omega
theorem tc_M_3 {a b : Nat} (hab : a < b) (hv : ∀ k, k ≤ b → 0 ≤ tc_l o k) (hx : ∃ i, a < i ∧ i ≤ b ∧ tc_l o i = 0) : tc_M o a b (-1) := by
  obtain ⟨x, x1, x2, x3⟩ := hx
  refine Or.inr ⟨fun i _ h2 => ?_, rfl⟩
  have h1 := h2.1.1
  have h3 := h2.2.2 x (by omega) x2
  have h4 := hv i (by omega)
  omega
/-- height -/
theorem tc_H_Y {p e : Nat} {h m : Int} (ho : o p = true) (hp : p < e) (hH : tc_H o p e h) (hY : tc_Y o p e m) : m = h - tc_l o p - 1 := by
  obtain ⟨_, _, a1, i, a2, a3, a4⟩ := hH
  obtain ⟨b0, _, b1, b2⟩ := hY
  have e0 := tc_lt ho
  have e1 := a1 (p + 1) (by omega) (by omega)
  have u1 : m ≤ h - tc_l o p - 1 := by
    rcases b2 with b2 | ⟨q, c1, c2, c3, c4⟩
    · omega
    · have := a1 (q + 1) (by omega) (by omega)
      have := tc_lt c3
      omega
  have u2 : h - tc_l o p - 1 ≤ m := by
    have x : p < i := by
      by_cases x : p < i
      · exact x
      · have y : i = p := by omega
        subst y
        omega
    obtain ⟨k, rfl⟩ : ∃ k, i = k + 1 := ⟨i - 1, by omega⟩
    rcases tc_st (o := o) k with ⟨d1, d2, _⟩ | ⟨d1, d2, _⟩
    · have := b1 k (by omega) (by omega) d1
      omega
    · have := a1 k (by omega) (by omega)
      omega
  omega
/-- leaves -/
theorem tc_lf_p {p : Nat} (ho : o p = true) : tc_n (tc_lf1 o) p = tc_n (tc_lf1 o) (p - 1) := by
  cases p with
  | zero => rfl
  | succ p =>
    refine tc_nf ?_
    unfold tc_lf1
    rw [ho]
    simp
theorem tc_lf_c {n q : Nat} (hoq : o q = true) (hq : q + 1 < n) : tc_n (tc_c o q) n = 0 ↔ o (q + 1) = false := by
  constructor
  · intro h
    cases e : o (q + 1) with
    | false => rfl
    | true =>
      have := tc_ns (tc_c_1 hoq e) hq
      omega
  · intro h
    exact tc_c_0 hoq (Or.inr h)
end
end
section
/-! the component's calls -/
section
variable {o : Nat → Bool}
theorem tc_K_J {n p : Nat} {r : Int32} (hn : n ≤ 64) (h : tc_K o n p 0 r) : tc_J o n p 0 r := by
  rcases h with ⟨q, a1, a2, a3, a4⟩ | ⟨a1, a2⟩
  · have e1 := tc_nb (o := tc_c o p) q
    rw [← nI_0, nI_eq (by omega) (by omega)] at a3
    exact Or.inl ⟨q, a1, a2, a3, a4⟩
  · refine Or.inr ⟨?_, a2⟩
    by_cases z : tc_n (tc_c o p) n = 0
    · exact z
    · obtain ⟨q, b1, b2, b3⟩ := tc_node n 0 (show 0 < tc_n (tc_c o p) n by omega)
      exact absurd (by rw [b3]; exact nI_0) (a1 q b1 b2)
end
section
variable {w : Int64} {n : Nat} {c : Int32} {aO aR aL aM : Nat → Int32} {post : Int32 → Prop}
theorem tx_bry {A B : Prop} {i : Nat} {y : Int32} (hy : y = nI i) (hi : i < 64) (ht : tc_o w i = true → B) (hf : tc_o w i = false → A) : wpX_opensAt (fun r => ((r = 0 → A) ∧ (¬ r = 0 → B))) (w, c, aO, aR, aL, aM) y := by
  subst hy
  exact tx_br hi ht hf
theorem tx_parent (G : tc_G w n aO aR aL aM) {p : Nat} (hp : p < n) (ho : tc_o w p = true) (h : ∀ r, tc_L (tc_o w) p r → post r) : wpX_parent post (w, nI n, aO, aR, aL, aM) (nI (tc_n (tc_o w) p)) := by
  have hn := G.1
  have b := tc_lb (o := tc_o w) p
  have v := G.2.1 p (by omega)
  unfold wpX_parent
  exact tx_in1 G hp ho (br_f (by decide) (tx_po G hp ho (tx_lv G (by omega) (tc_eqb (tc_l (tc_o w) p) 0 rfl tc_z0.symm (fun e => h _ (Or.inl ⟨e, rfl⟩)) (fun ne => tx_bt G (tc_s1 _) (by omega) (by omega) (by omega) (fun j hA => tx_ob G (by have := hA.1; omega) (h _ (Or.inr ⟨by omega, j, hA, rfl⟩))))))))
theorem tx_parent0 (G : tc_G w n aO aR aL aM) {v : Int32} (hv : v < 0 ∨ nI (tc_n (tc_o w) n) ≤ v) (h : post (-1)) : wpX_parent post (w, nI n, aO, aR, aL, aM) v := by
  unfold wpX_parent
  exact tx_in0 G hv (br_t rfl h)
theorem tx_depth (G : tc_G w n aO aR aL aM) {p : Nat} (hp : p < n) (ho : tc_o w p = true) (h : post (tc_z (tc_l (tc_o w) p))) : wpX_depth post (w, nI n, aO, aR, aL, aM) (nI (tc_n (tc_o w) p)) := by
  unfold wpX_depth
  exact tx_in1 G hp ho (br_f (by decide) (tx_po G hp ho (tx_lv G (by omega) h)))
theorem tx_depth0 (G : tc_G w n aO aR aL aM) {v : Int32} (hv : v < 0 ∨ nI (tc_n (tc_o w) n) ≤ v) (h : post (-1)) : wpX_depth post (w, nI n, aO, aR, aL, aM) v := by
  unfold wpX_depth
  exact tx_in0 G hv (br_t rfl h)
theorem tx_size (G : tc_G w n aO aR aL aM) {p : Nat} (hp : p < n) (ho : tc_o w p = true) (h : ∀ e, tc_E (tc_o w) n p e → post (nI (tc_n (tc_o w) e - tc_n (tc_o w) p))) : wpX_size post (w, nI n, aO, aR, aL, aM) (nI (tc_n (tc_o w) p)) := by
  unfold wpX_size
  refine tx_in1 G hp ho (br_f (by decide) (tx_po G hp ho (tx_end G hp (fun e hE => tx_ob G hE.2.1 ?_))))
  rw [pk_sub (tc_nm hE.1)]
  exact h e hE
theorem tx_size0 (G : tc_G w n aO aR aL aM) {v : Int32} (hv : v < 0 ∨ nI (tc_n (tc_o w) n) ≤ v) (h : post (-1)) : wpX_size post (w, nI n, aO, aR, aL, aM) v := by
  unfold wpX_size
  exact tx_in0 G hv (br_t rfl h)
theorem tx_next (G : tc_G w n aO aR aL aM) {p : Nat} (hp : p < n) (ho : tc_o w p = true) (h : ∀ r, tc_N (tc_o w) n p r → post r) : wpX_next post (w, nI n, aO, aR, aL, aM) (nI (tc_n (tc_o w) p)) := by
  have hn := G.1
  unfold wpX_next
  refine tx_in1 G hp ho (br_f (by decide) (tx_po G hp ho (tx_end G hp (fun e hE => ?_))))
  rw [nI_1 e]
  have he := hE.2.1
  by_cases x : e + 1 < n
  · cases y : tc_o w (e + 1) with
    | true => exact tx_na1 G x y (h _ (tc_N_1 hE ho hp x y))
    | false => exact tx_na0 G (by omega) (Or.inr y) (h _ (tc_N_0 hE ho hp (Or.inr y)))
  · exact tx_na0 G (by omega) (Or.inl (by omega)) (h _ (tc_N_0 hE ho hp (Or.inl (by omega))))
theorem tx_next0 (G : tc_G w n aO aR aL aM) {v : Int32} (hv : v < 0 ∨ nI (tc_n (tc_o w) n) ≤ v) (h : post (-1)) : wpX_next post (w, nI n, aO, aR, aL, aM) v := by
  unfold wpX_next
  exact tx_in0 G hv (br_t rfl h)
theorem tx_ch32 (G : tc_G w n aO aR aL aM) {p k : Nat} (hk : k < 2147483648) (h : ∀ r, tc_K (tc_o w) n p (nI k) r → post r) : ∀ d i r, 65 ≤ i + d → i ≤ k → tc_J (tc_o w) n p i r → ∀ f, d < f → wX_child_32 post (nI k) w (nI n) aO aR aL aM f r (nI i) := by
  have hn := G.1
  intro d
  induction d with
  | zero =>
    intro i r hd hik hJ f hf
    rcases hJ with ⟨q, a1, a2, a3, a4⟩ | ⟨a1, a2⟩
    · have := tc_nb (o := tc_c (tc_o w) p) q; omega
    · have := tc_nb (o := tc_c (tc_o w) p) n; omega
  | succ d ih =>
    intro i r hd hik hJ f hf
    obtain ⟨f, rfl, hf⟩ := tc_f1 hf
    refine pk_le k i (fun z => ?_) (fun z => ?_)
    · have e : i = k := by omega
      subst e
      exact h r (tc_K_1 hn hk hJ)
    · rcases hJ with ⟨q, a1, a2, a3, a4⟩ | ⟨a1, a2⟩
      · subst a4
        have e := tc_nb (o := tc_o w) q
        exact br_f (nI_pos (by omega)) (tx_next G a1 (tc_c_t.mp a2).1 (fun r' hN => nm_r (nI_1 i) (ih (i + 1) r' (by omega) (by omega) (tc_J_s a1 a2 a3 hN) f (by omega))))
      · subst a2
        exact br_t (by decide) (h _ (tc_K_2 hn hk hik a1))
theorem tx_child (G : tc_G w n aO aR aL aM) {p : Nat} (hp : p < n) (ho : tc_o w p = true) {v : Int32} (h : ∀ r, tc_K (tc_o w) n p v r → post r) : wpX_child post (w, nI n, aO, aR, aL, aM) (nI (tc_n (tc_o w) p)) v := by
  have hn := G.1
  unfold wpX_child
  refine tx_in1 G hp ho (br_f (by decide) ?_)
  by_cases z : 0 ≤ v
  · obtain ⟨k, hk, rfl⟩ := nI_of (x := v) (Int32.not_lt.mpr z)
    refine br_t z (tx_po G hp ho ?_)
    rw [nI_1 p]
    have L : ∀ r, tc_J (tc_o w) n p 0 r → ∃ n32 : Nat, wX_child_32 post (nI k) w (nI n) aO aR aL aM n32 r 0 := fun r hJ => ⟨66, tx_ch32 G (by omega) h 65 0 r (by omega) (by omega) hJ 66 (by omega)⟩
    by_cases x : p + 1 < n
    · cases y : tc_o w (p + 1) with
      | true => exact tx_na1 G x y (L _ (tc_J_1 x ho y))
      | false => exact tx_na0 G (by omega) (Or.inr y) (L _ (tc_J_0 ho (Or.inr y)))
    · exact tx_na0 G (by omega) (Or.inl (by omega)) (L _ (tc_J_0 ho (Or.inl (by omega))))
  · exact br_f z (h _ (tc_K_0 hn (Int32.not_le.mp z)))
theorem tx_child0 (G : tc_G w n aO aR aL aM) {v k : Int32} (hv : v < 0 ∨ nI (tc_n (tc_o w) n) ≤ v) (h : post (-1)) : wpX_child post (w, nI n, aO, aR, aL, aM) v k := by
  unfold wpX_child
  exact tx_in0 G hv (br_t rfl h)
theorem tx_cn12 (G : tc_G w n aO aR aL aM) {p : Nat} (hp : p < n) (ho : tc_o w p = true) (h : post (nI (tc_n (tc_c (tc_o w) p) n))) : ∀ d i r, 65 ≤ i + d → i ≤ 65 → tc_J (tc_o w) n p i r → ∀ f, d < f → wX_children_12 post (nI (tc_n (tc_o w) p)) w (nI n) aO aR aL aM f (nI i) r (nI i) := by
  have hn := G.1
  intro d
  induction d with
  | zero =>
    intro i r hd hik hJ f hf
    rcases hJ with ⟨q, a1, a2, a3, a4⟩ | ⟨a1, a2⟩
    · have := tc_nb (o := tc_c (tc_o w) p) q; omega
    · have := tc_nb (o := tc_c (tc_o w) p) n; omega
  | succ d ih =>
    intro i r hd hik hJ f hf
    obtain ⟨f, rfl, hf⟩ := tc_f1 hf
    have X : tc_n (tc_c (tc_o w) p) n = i → wX_children_38 post (nI (tc_n (tc_o w) p)) (nI i) w (nI n) aO aR aL aM := by
      intro e
      rw [e] at h
      exact tx_in1 G hp ho (br_f (by decide) h)
    rcases hJ with ⟨q, a1, a2, a3, a4⟩ | ⟨a1, a2⟩
    · subst a4
      have e := tc_nb (o := tc_o w) q
      have e2 := tc_nb (o := tc_c (tc_o w) p) q
      exact pk_le 64 i (fun z => absurd z (by omega)) (fun _ => br_f (nI_pos (by omega)) (nm_r (nI_1 i) (tx_next G a1 (tc_c_t.mp a2).1 (fun r' hN => nm_r (nI_1 i) (ih (i + 1) r' (by omega) (by omega) (tc_J_s a1 a2 a3 hN) f (by omega))))))
    · subst a2
      exact pk_le 64 i (fun _ => X a1) (fun _ => br_t (by decide) (X a1))
theorem tx_children (G : tc_G w n aO aR aL aM) {p : Nat} (hp : p < n) (ho : tc_o w p = true) (h : post (nI (tc_n (tc_c (tc_o w) p) n))) : wpX_children post (w, nI n, aO, aR, aL, aM) (nI (tc_n (tc_o w) p)) := by
  have hn := G.1
  unfold wpX_children
  exact tx_child G hp ho (fun r hK => ⟨66, tx_cn12 G hp ho h 65 0 r (by omega) (by omega) (tc_K_J hn hK) 66 (by omega)⟩)
theorem tx_children0 (G : tc_G w n aO aR aL aM) {v : Int32} (hv : v < 0 ∨ nI (tc_n (tc_o w) n) ≤ v) (h : post (-1)) : wpX_children post (w, nI n, aO, aR, aL, aM) v := by
  unfold wpX_children
  exact tx_child0 G hv ⟨1, br_f (by decide) (br_t (by decide) (tx_in0 G hv (br_t rfl h)))⟩
theorem tx_previous (G : tc_G w n aO aR aL aM) {p : Nat} (hp : p < n) (ho : tc_o w p = true) (h : ∀ r, tc_P (tc_o w) p r → post r) : wpX_previous post (w, nI n, aO, aR, aL, aM) (nI (tc_n (tc_o w) p)) := by
  have hn := G.1
  have v := G.2.1 p (by omega)
  unfold wpX_previous
  refine tx_in1 G hp ho (br_f (by decide) (tx_po G hp ho (pk_eq p 0 (fun e => h _ (tc_P_0 (Or.inl e))) (fun ne => ?_))))
  obtain ⟨m, rfl⟩ : ∃ m, p = m + 1 := ⟨p - 1, by omega⟩
  refine tx_bry (nI_pred m) (by omega) (fun ht => h _ (tc_P_0 (Or.inr ht))) (fun hf => tx_lv G (by omega) ?_)
  rw [nI_pred m]
  have e := tc_lf hf
  exact tx_bt G rfl (by omega) v (by omega) (fun j hA => tx_ob G (by have := hA.1; omega) (h _ (tc_P_1 (by omega) hf hA)))
theorem tx_previous0 (G : tc_G w n aO aR aL aM) {v : Int32} (hv : v < 0 ∨ nI (tc_n (tc_o w) n) ≤ v) (h : post (-1)) : wpX_previous post (w, nI n, aO, aR, aL, aM) v := by
  unfold wpX_previous
  exact tx_in0 G hv (br_t rfl h)
theorem tx_ab (G : tc_G w n aO aR aL aM) {p : Nat} (hp : p < n) (ho : tc_o w p = true) {d : Int} {y : Int32} (hy : y = tc_z d) (hd1 : -2147483648 ≤ d) (hd2 : d < 2147483648) (h1 : d < 0 → post (-1)) (h2 : 0 ≤ d → d < tc_l (tc_o w) p → ∀ j, tc_A (tc_o w) d p j → post (nI (tc_n (tc_o w) j))) (h3 : d = tc_l (tc_o w) p → post (nI (tc_n (tc_o w) p))) (h4 : tc_l (tc_o w) p < d → post (-1)) : wpX_aboveAt post (w, nI n, aO, aR, aL, aM) (nI (tc_n (tc_o w) p)) y := by
  have hn := G.1
  have b := tc_lb (o := tc_o w) p
  unfold wpX_aboveAt
  exact tx_in1 G hp ho (br_f (by decide) (tc_le 0 d tc_z0.symm hy (fun d0 => tx_po G hp ho (tx_lv G (by omega) (tc_ltb d (tc_l (tc_o w) p) hy rfl (fun dl => tx_bt G hy (by omega) d0 dl (fun j hA => tx_ob G (by have := hA.1; omega) (h2 d0 dl j hA))) (fun dg => tc_eqb d (tc_l (tc_o w) p) hy rfl h3 (fun ne => h4 (by omega)))))) h1))
theorem tx_above (G : tc_G w n aO aR aL aM) {p : Nat} (hp : p < n) (ho : tc_o w p = true) {v : Int32} (h : ∀ r, tc_V (tc_o w) p v r → post r) : wpX_aboveAt post (w, nI n, aO, aR, aL, aM) (nI (tc_n (tc_o w) p)) v := by
  have hn := G.1
  have b1 := v.le_toInt
  have b2 := v.toInt_lt
  have hy : v = tc_z v.toInt := (Int32.ofInt_toInt v).symm
  have bnd : ∀ k, tc_U (tc_o w) k p → -64 ≤ tc_l (tc_o w) k ∧ tc_l (tc_o w) k ≤ 64 := fun k hU => by
    have := tc_lb (o := tc_o w) k
    have := hU.1
    omega
  refine tx_ab G hp ho hy (by omega) (by omega) (fun d0 => h _ (Or.inr ⟨fun k hk hU e => ?_, rfl⟩)) (fun d0 dl j hA => h _ (Or.inl ⟨j, hA.2.2.1, tc_A_U hA, ?_, rfl⟩)) (fun e => h _ (Or.inl ⟨p, ho, tc_U_r p, ?_, rfl⟩)) (fun dl => h _ (Or.inr ⟨fun k hk hU e => ?_, rfl⟩))
  · have b3 := bnd k hU
    have b4 := G.2.1 k (by have := hU.1; omega)
    rw [hy, tc_zi (by omega) (by omega) (by omega) (by omega)] at e
    omega
  · rw [hA.2.1]
    exact hy.symm
  · rw [← e]
    exact hy.symm
  · have b3 := bnd k hU
    rw [hy, tc_zi (by omega) (by omega) (by omega) (by omega)] at e
    by_cases x : k = p
    · subst x; omega
    · have := hU.2 p (by have := hU.1; omega) (Nat.le_refl _)
      omega
theorem tx_above0 (G : tc_G w n aO aR aL aM) {v k : Int32} (hv : v < 0 ∨ nI (tc_n (tc_o w) n) ≤ v) (h : post (-1)) : wpX_aboveAt post (w, nI n, aO, aR, aL, aM) v k := by
  unfold wpX_aboveAt
  exact tx_in0 G hv (br_t rfl h)
theorem tx_mt39 (G : tc_G w n aO aR aL aM) {a b : Nat} (hab : a ≤ b) (hb : b < n) (hoa : tc_o w a = true) (hob : tc_o w b = true) (h : ∀ r, tc_M (tc_o w) a b r → post r) : wX_meet_39 post (nI (tc_n (tc_o w) a)) (nI (tc_n (tc_o w) b)) w (nI n) aO aR aL aM := by
  have hn := G.1
  have ba := tc_lb (o := tc_o w) a
  have na := tc_nb (o := tc_o w) a
  have nb := tc_nb (o := tc_o w) b
  unfold wX_meet_39
  refine tx_po G (by omega) hoa (tx_po G hb hob (tx_lv G (by omega) (tx_lbt G hab (by omega) (fun m hW => ?_))))
  obtain ⟨w1, w2, w3, w4⟩ := hW
  refine tc_ltb (tc_l (tc_o w) a) m rfl rfl (fun hlt => h _ (tc_M_1 hoa ⟨hab, fun i h1 h2 => by have := w3 i h1 h2; omega⟩)) (fun hge => pk_eq (tc_n (tc_o w) a) (tc_n (tc_o w) b) (fun e => ?_) (fun ne => ?_))
  · have e2 := tc_inj hoa hob e
    subst e2
    exact h _ (tc_M_1 hoa (tc_U_r a))
  · have hlt : a < b := by
      by_cases x : a = b
      · subst x; exact absurd rfl ne
      · omega
    have hx : ∃ i, a < i ∧ i ≤ b ∧ tc_l (tc_o w) i = m := by
      rcases w4 with w4 | w4
      · omega
      · exact w4
    have m0 : 0 ≤ m := by
      obtain ⟨i, _, h2, h3⟩ := hx
      have := G.2.1 i (by omega)
      omega
    refine tx_ab G (by omega) hoa (tc_s1 m) (by omega) (by omega) (fun d0 => h _ (tc_M_3 hlt (fun k hk => G.2.1 k (by omega)) ?_)) (fun d0 dl j hA => h _ (tc_M_2 hlt hx w3 hge hA)) (fun e => absurd e (by omega)) (fun e => absurd e (by omega))
    obtain ⟨i, h1, h2, h3⟩ := hx
    exact ⟨i, h1, h2, by omega⟩
theorem tx_meet (G : tc_G w n aO aR aL aM) {a b : Nat} (ha : a < n) (hb : b < n) (hoa : tc_o w a = true) (hob : tc_o w b = true) (h : ∀ r, tc_M (tc_o w) a b r → post r) : wpX_meet post (w, nI n, aO, aR, aL, aM) (nI (tc_n (tc_o w) a)) (nI (tc_n (tc_o w) b)) := by
  have hn := G.1
  have na := tc_nb (o := tc_o w) a
  have nb := tc_nb (o := tc_o w) b
  unfold wpX_meet
  refine tx_in1 G ha hoa (br_f (by decide) (tx_in1 G hb hob (br_f (by decide) (pk_le (tc_n (tc_o w) b) (tc_n (tc_o w) a) (fun z => ?_) (fun z => ?_)))))
  · have hba : b ≤ a := by
      by_cases x : b ≤ a
      · exact x
      · have := tc_ns hoa (show a < b by omega); omega
    exact br_t (nI_le z (by omega)) (tx_mt39 G hba ha hob hoa (fun r hM => h r (tc_M_c hM)))
  · have hab : a ≤ b := by
      by_cases x : a ≤ b
      · exact x
      · have := tc_ns hob (show b < a by omega); omega
    exact br_f (nI_ge z (by omega)) (tx_mt39 G hab hb hoa hob h)
theorem tx_meet0 (G : tc_G w n aO aR aL aM) {v k : Int32} (hv : v < 0 ∨ nI (tc_n (tc_o w) n) ≤ v) (h : post (-1)) : wpX_meet post (w, nI n, aO, aR, aL, aM) v k := by
  unfold wpX_meet
  exact tx_in0 G hv (br_t rfl h)
theorem tx_meet1 (G : tc_G w n aO aR aL aM) {v : Int32} {p : Nat} (hp : p < n) (ho : tc_o w p = true) (hv : v < 0 ∨ nI (tc_n (tc_o w) n) ≤ v) (h : post (-1)) : wpX_meet post (w, nI n, aO, aR, aL, aM) (nI (tc_n (tc_o w) p)) v := by
  unfold wpX_meet
  exact tx_in1 G hp ho (br_f (by decide) (tx_in0 G hv (br_t rfl h)))
theorem tx_height (G : tc_G w n aO aR aL aM) {p : Nat} (hp : p < n) (ho : tc_o w p = true) (h : ∀ e m, tc_E (tc_o w) n p e → tc_H (tc_o w) p e m → post (tc_z (m - tc_l (tc_o w) p - 1))) : wpX_height post (w, nI n, aO, aR, aL, aM) (nI (tc_n (tc_o w) p)) := by
  have hn := G.1
  unfold wpX_height
  refine tx_in1 G hp ho (br_f (by decide) (tx_po G hp ho (tx_end G hp (fun e hE => tx_lv G (by omega) ⟨n + 1, tx_ht40 G hE.2.1 (fun m hH => ?_) n p _ (by have := hE.2.1; omega) (Nat.le_refl _) hE.1 (tc_H_0 (by omega)) (n + 1) (by omega)⟩))))
  rw [tc_zs, tc_s1]
  exact h e m hE hH
theorem tx_height0 (G : tc_G w n aO aR aL aM) {v : Int32} (hv : v < 0 ∨ nI (tc_n (tc_o w) n) ≤ v) (h : post (-1)) : wpX_height post (w, nI n, aO, aR, aL, aM) v := by
  unfold wpX_height
  exact tx_in0 G hv (br_t rfl h)
theorem tx_lf21 {p : Nat} (hp : p < 64) (h : post (nI (tc_n (tc_lf1 (tc_o w)) (p - 1)))) : ∀ d i, i + d = p - 1 → ∀ f, d < f → wX_leavesBefore_21 post (nI p) w c aO aR aL aM f (nI (tc_n (tc_lf1 (tc_o w)) i)) (nI i) := by
  intro d
  induction d with
  | zero =>
    intro i hi f hf
    obtain ⟨f, rfl, hf⟩ := tc_f1 hf
    have e : i = p - 1 := by omega
    subst e
    exact pk_le p (p - 1 + 1) (fun _ => h) (fun z => absurd z (by omega)) rfl (nI_1 _)
  | succ d ih =>
    intro i hi f hf
    obtain ⟨f, rfl, hf⟩ := tc_f1 hf
    refine pk_le p (i + 1) (fun z => absurd z (by omega)) (fun _ => tx_br (by omega) (fun ht => tx_bry (nI_1 i) (by omega) (fun ht2 => ?_) (fun hf2 => ?_)) (fun hf1 => ?_)) rfl (nI_1 _)
    · have e : tc_lf1 (tc_o w) i = false := by unfold tc_lf1; rw [ht, ht2]; rfl
      exact nm_r (e' := nI (tc_n (tc_lf1 (tc_o w)) (i + 1))) (by rw [tc_nf e]; exact Int32.add_zero _) (nm_r (nI_1 i) (ih (i + 1) (by omega) f (by omega)))
    · have e : tc_lf1 (tc_o w) i = true := by unfold tc_lf1; rw [ht, hf2]; rfl
      exact nm_r (e' := nI (tc_n (tc_lf1 (tc_o w)) (i + 1))) (by rw [tc_nt e]; exact nI_1 _) (nm_r (nI_1 i) (ih (i + 1) (by omega) f (by omega)))
    · have e : tc_lf1 (tc_o w) i = false := by unfold tc_lf1; rw [hf1]; rfl
      exact nm_r (e' := nI (tc_n (tc_lf1 (tc_o w)) (i + 1))) (by rw [tc_nf e]; exact Int32.add_zero _) (nm_r (nI_1 i) (ih (i + 1) (by omega) f (by omega)))
theorem tx_leaves (G : tc_G w n aO aR aL aM) {p : Nat} (hp : p < n) (ho : tc_o w p = true) (h : post (nI (tc_n (tc_lf1 (tc_o w)) p))) : wpX_leavesBefore post (w, nI n, aO, aR, aL, aM) (nI (tc_n (tc_o w) p)) := by
  have hn := G.1
  unfold wpX_leavesBefore
  rw [tc_lf_p ho] at h
  exact tx_in1 G hp ho (br_f (by decide) (tx_po G hp ho ⟨p + 1, tx_lf21 (by omega) h (p - 1) 0 (by omega) (p + 1) (by omega)⟩))
theorem tx_leaves0 (G : tc_G w n aO aR aL aM) {v : Int32} (hv : v < 0 ∨ nI (tc_n (tc_o w) n) ≤ v) (h : post (-1)) : wpX_leavesBefore post (w, nI n, aO, aR, aL, aM) v := by
  unfold wpX_leavesBefore
  exact tx_in0 G hv (br_t rfl h)
end
end
section
/-! the reference: work, node, under, childrenOf; loops over nodes turned to loops over places -/
/-- parents and depths of the nodes before place k -/
def tc_T (o : Nat → Bool) (k : Nat) (u d : Nat → Int32) : Prop := ∀ q, q < k → o q = true → tc_L o q (u (tc_n o q)) ∧ d (tc_n o q) = tc_z (tc_l o q)
/-- the reference's list is right -/
def tc_Q (o : Nat → Bool) (n : Nat) (yo : Nat → Int32) : Prop := n ≤ 64 ∧ (∀ k, k ≤ n → 0 ≤ tc_l o k) ∧ ∀ i, i < 64 → yo i = if o i = true then 1 else 0
theorem tc_pl {σ : Type} {o : Nat → Bool} (W : Nat → Nat → σ → Prop) (I : Nat → σ → Prop) (N : Nat)
    (hx : ∀ f s, I N s → W (f + 1) (tc_n o N) s)
    (hs : ∀ f q s, q < N → o q = true → I q s → (∀ s', I (q + 1) s' → W f (tc_n o q + 1) s') → W (f + 1) (tc_n o q) s)
    (hk : ∀ q s, q < N → o q = false → I q s → I (q + 1) s) (s : σ) (h : I 0 s) : ∃ f, W f 0 s := by
  have L : ∀ d q s f, q + d = N → I q s → d < f → W f (tc_n o q) s := by
    intro d
    induction d with
    | zero =>
      intro q s f hq hI hf
      obtain ⟨f, rfl, hf⟩ := tc_f1 hf
      have e : q = N := by omega
      subst e
      exact hx f s hI
    | succ d ih =>
      intro q s f hq hI hf
      cases ho : o q with
      | true =>
        obtain ⟨f, rfl, hf⟩ := tc_f1 hf
        refine hs f q s (by omega) ho hI (fun s' hI' => ?_)
        rw [← tc_nt ho]
        exact ih (q + 1) s' f (by omega) hI' (by omega)
      | false =>
        have k := ih (q + 1) s f (by omega) (hk q s (by omega) ho hI) (by omega)
        rw [tc_nf ho] at k
        exact k
  exact ⟨N + 1, L N 0 s (N + 1) (by omega) h (by omega)⟩
section
variable {o : Nat → Bool} {n : Nat} {yo : Nat → Int32}
theorem ty_w12 (Q : tc_Q o n yo) {post : SY → Prop} (h : ∀ x u d, tc_L o n x → tc_T o n u d → post (nI n, nI (tc_n o n), x, yo, u, d)) : ∀ e k, k + e = n → ∀ x u d, tc_L o k x → tc_T o k u d → ∀ f, e < f → wY_work_12 post (nI n) f (nI k) (nI (tc_n o k)) x yo u d := by
  obtain ⟨hn, hv, hy⟩ := Q
  intro e
  induction e with
  | zero =>
    intro k hk x u d hL hT f hf
    obtain ⟨f, rfl, hf⟩ := tc_f1 hf
    have e : k = n := by omega
    subst e
    exact br_t (nI_le (Nat.le_refl _) (by omega)) (h x u d hL hT)
  | succ e ih =>
    intro k hk x u d hL hT f hf
    obtain ⟨f, rfl, hf⟩ := tc_f1 hf
    have ek : (nI k).toNatClampNeg = k := nI_clamp (by omega)
    have nk := tc_nb (o := o) k
    have hyk := hy k (by omega)
    refine br_f (nI_ge (by omega) (by omega)) ⟨vp_in_nI (by omega) (by omega), ?_⟩
    rw [ek, hyk]
    cases ho : o k with
    | false =>
      rw [if_neg (by decide)]
      have el := tc_lf ho
      have hv1 := hv (k + 1) (by omega)
      rcases hL with ⟨h1, h2⟩ | ⟨h1, j, hA, h2⟩
      · omega
      · subst h2
        have hj := hA.1
        have nj := tc_nb (o := o) j
        have ih2 := ih (k + 1) (by omega) (u (tc_n o j)) u d (tc_L_c ho hA (hT j hj hA.2.2.1).1) (fun q h3 h4 => hT q (by
          by_cases x : q = k
          · subst x; rw [ho] at h4; exact absurd h4 (by decide)
          · omega) h4) f (by omega)
        rw [tc_nf ho] at ih2
        exact br_t rfl (br_f (nI_pos (by omega)) ⟨vp_in_nI (by omega) (by omega), nm_r (e' := u (tc_n o j)) (by rw [nI_clamp (by omega)]) (nm_r (nI_1 k) ih2)⟩)
    | true =>
      rw [if_pos rfl]
      have el := tc_lt ho
      have hv0 := hv k (by omega)
      have en : (nI (tc_n o k)).toNatClampNeg = tc_n o k := nI_clamp (by omega)
      have hin : vp_in (nI (tc_n o k)) 64 := vp_in_nI (by omega) (by omega)
      have hT2 : tc_T o (k + 1) (upd u (tc_n o k) x) (upd d (tc_n o k) (tc_z (tc_l o k))) := by
        intro q h3 h4
        by_cases y : q = k
        · subst y
          rw [pk_us, pk_us]
          exact ⟨hL, rfl⟩
        · have h5 := tc_ns h4 (show q < k by omega)
          rw [pk_un (by omega), pk_un (by omega)]
          exact hT q (by omega) h4
      have ih2 := ih (k + 1) (by omega) (nI (tc_n o k)) _ _ (tc_L_o ho hv0) hT2 f (by omega)
      rw [tc_nt ho] at ih2
      have X : ∀ z, z = tc_z (tc_l o k) → wY_work_72 post (wY_work_12 post (nI n) f) (nI k) z (nI (tc_n o k)) (nI n) (nI (tc_n o k)) x yo (upd u (tc_n o k) x) d := by
        intro z hz
        subst hz
        exact And.intro hin (nm_r (by rw [en]) (nm_r (nI_1 _) (nm_r (nI_1 k) ih2)))
      refine br_f (by decide) ⟨hin, nm_r (e' := upd u (tc_n o k) x) (by rw [en]) ?_⟩
      rcases hL with ⟨h1, h2⟩ | ⟨h1, j, hA, h2⟩
      · subst h2
        exact br_f (by decide) (X 0 (by rw [h1]; exact tc_z0.symm))
      · subst h2
        have hj := hA.1
        have nj := tc_nb (o := o) j
        refine br_t (nI_pos' (by omega)) ⟨vp_in_nI (by omega) (by omega), X _ ?_⟩
        rw [nI_clamp (by omega), (hT j hj hA.2.2.1).2, hA.2.1, tc_p1]
        exact congrArg tc_z (by omega)
theorem ty_work (Q : tc_Q o n yo) {post : SY → Prop} {c l : Int32} {yu yd : Nat → Int32} (h : ∀ x u d, tc_L o n x → tc_T o n u d → post (nI n, nI (tc_n o n), x, yo, u, d)) : wpY_work post (nI n, c, l, yo, yu, yd) :=
  ⟨n + 1, ty_w12 Q h n 0 (by omega) (-1) yu yd (Or.inl ⟨tc_l0, rfl⟩) (fun q hq => absurd hq (by omega)) (n + 1) (by omega)⟩
theorem ty_node1 (Q : tc_Q o n yo) {post : Int32 → SY → Prop} {c l : Int32} {yu yd : Nat → Int32} {p : Nat} (hp : p < n) (ho : o p = true) (h : ∀ x u d, tc_L o n x → tc_T o n u d → post 1 (nI n, nI (tc_n o n), x, yo, u, d)) : wpY_node post (nI n, c, l, yo, yu, yd) (nI (tc_n o p)) := by
  have hn := Q.1
  have a := tc_ns ho hp
  have b := tc_nb (o := o) n
  unfold wpY_node
  exact ty_work Q (fun x u d hL hT => br_f (nI_pos (by omega)) (br_f (nI_ge a (by omega)) (h x u d hL hT)))
theorem ty_node0 (Q : tc_Q o n yo) {post : Int32 → SY → Prop} {c l : Int32} {yu yd : Nat → Int32} {v : Int32} (hv : v < 0 ∨ nI (tc_n o n) ≤ v) (h : ∀ x u d, post 0 (nI n, nI (tc_n o n), x, yo, u, d)) : wpY_node post (nI n, c, l, yo, yu, yd) v := by
  unfold wpY_node
  refine ty_work Q (fun x u d hL hT => ?_)
  by_cases z : v < 0
  · exact br_t z (h x u d)
  · rcases hv with hv | hv
    · exact absurd hv z
    · exact br_f z (br_t hv (h x u d))
end
section
variable {o : Nat → Bool} {n : Nat} {yo u d : Nat → Int32} {s c x : Int32}
theorem ty_un2 (hn : n ≤ 64) (hv : ∀ k, k ≤ n → 0 ≤ tc_l o k) (hT : tc_T o n u d) {post : Int32 → Prop} {p : Nat} (hp : p < n) (hop : o p = true) : ∀ e q, q < e → q < n → o q = true → (tc_U o p q → post 1) → (¬ tc_U o p q → post 0) → ∀ f, e + 1 < f → wY_under_2 post (nI (tc_n o p)) s c x yo u d f (nI (tc_n o q)) := by
  have np := tc_nb (o := o) p
  intro e
  induction e with
  | zero => intro q hq; omega
  | succ e ih =>
    intro q hqe hq hoq h1 h0 f hf
    obtain ⟨f, rfl, hf⟩ := tc_f1 hf
    have nq := tc_nb (o := o) q
    refine br_f (nI_pos (by omega)) (pk_eq (tc_n o q) (tc_n o p) (fun e => ?_) (fun ne => ⟨vp_in_nI (by omega) (by omega), nm_r (e' := u (tc_n o q)) (by rw [nI_clamp (by omega)]) ?_⟩))
    · have e2 := tc_inj hoq hop e
      subst e2
      exact br_f (nI_pos (by omega)) (h1 (tc_U_r q))
    · have hpq : p ≠ q := fun z => ne (by rw [z])
      rcases (hT q hq hoq).1 with ⟨a1, a2⟩ | ⟨a1, j, hA, a2⟩
      · rw [a2]
        obtain ⟨g, rfl⟩ : ∃ g, f = g + 1 := ⟨f - 1, by omega⟩
        exact br_t (by decide) (br_t (by decide) (h0 (tc_U_0 (hv p (by omega)) hpq a1)))
      · rw [a2]
        have hU := tc_U_s hpq hA
        have hj := hA.1
        exact ih j (by omega) (by omega) hA.2.2.1 (fun z => h1 (hU.mpr z)) (fun z => h0 (fun y => z (hU.mp y))) f (by omega)
theorem ty_unb (hn : n ≤ 64) (hv : ∀ k, k ≤ n → 0 ≤ tc_l o k) (hT : tc_T o n u d) {A B : Prop} {p q : Nat} (hp : p < n) (hop : o p = true) (hq : q < n) (hoq : o q = true) (h1 : tc_U o p q → B) (h0 : ¬ tc_U o p q → A) : wpY_under (fun r => ((r = 0 → A) ∧ (¬ r = 0 → B))) (s, c, x, yo, u, d) (nI (tc_n o q)) (nI (tc_n o p)) :=
  ⟨q + 3, ty_un2 hn hv hT hp hop (q + 1) q (by omega) hq hoq (fun z => br_f (by decide) (h1 z)) (fun z => br_t rfl (h0 z)) (q + 3) (by omega)⟩
theorem ty_co (hn : n ≤ 64) (hv : ∀ k, k ≤ n → 0 ≤ tc_l o k) (hT : tc_T o n u d) {post : Int32 → Prop} {p : Nat} (hp : p < n) (hop : o p = true) (h : post (nI (tc_n (tc_c o p) n))) : wpY_childrenOf post (s, nI (tc_n o n), x, yo, u, d) (nI (tc_n o p)) := by
  have nn := tc_nb (o := o) n
  refine tc_pl (o := o) (W := fun f m a => wY_childrenOf_4 post (nI (tc_n o p)) s (nI (tc_n o n)) x yo u d f a (nI m)) (I := fun q a => a = nI (tc_n (tc_c o p) q)) n (fun f a hI => ?_) (fun f q a hq ho hI K => ?_) (fun q a hq ho hI => ?_) 0 nI_0.symm
  · subst hI
    exact br_t (nI_le (Nat.le_refl _) (by omega)) h
  · subst hI
    have nq := tc_ns ho hq
    have e := tc_C_L hop (hv p (by omega)) (by omega) (by omega) (hT q hq ho).1
    refine br_f (nI_ge nq (by omega)) ⟨vp_in_nI (by omega) (by omega), ?_⟩
    rw [nI_clamp (by omega)]
    refine br_c (fun z => ?_) (fun z => ?_)
    · have ec : tc_c o p q = true := tc_c_t.mpr ⟨ho, e.mp z⟩
      exact nm_r (nI_1 _) (nm_r (nI_1 _) (K _ (by rw [tc_nt ec])))
    · have ec : tc_c o p q = false := tc_c_f (fun y => z (e.mpr y.2))
      exact nm_r (nI_1 _) (K _ (by rw [tc_nf ec]))
  · have ec : tc_c o p q = false := tc_c_f (fun y => by rw [ho] at y; exact absurd y.1 (by decide))
    rw [tc_nf ec]
    exact hI
end
end
section
/-! the reference's calls -/
theorem tc_pd {o : Nat → Bool} (W : Nat → Int → Prop) (I : Nat → Prop) (N : Nat)
    (hx : ∀ f, I 0 → W (f + 1) (-1))
    (hs : ∀ f q, q < N → o q = true → I (q + 1) → (I q → W f ((tc_n o q : Int) - 1)) → W (f + 1) (tc_n o q : Int))
    (hk : ∀ q, q < N → o q = false → I (q + 1) → I q) (h : I N) : ∃ f, W f ((tc_n o N : Int) - 1) := by
  have L : ∀ q, q ≤ N → I q → ∀ f, q < f → W f ((tc_n o q : Int) - 1) := by
    intro q
    induction q with
    | zero =>
      intro _ hI f hf
      obtain ⟨f, rfl, hf⟩ := tc_f1 hf
      exact hx f hI
    | succ q ih =>
      intro hq hI f hf
      cases ho : o q with
      | true =>
        obtain ⟨f, rfl, hf⟩ := tc_f1 hf
        have k := hs f q (by omega) ho hI (fun hI' => ih (by omega) hI' f (by omega))
        rw [tc_nt ho, show ((tc_n o q + 1 : Nat) : Int) - 1 = (tc_n o q : Int) by omega]
        exact k
      | false =>
        rw [tc_nf ho]
        exact ih (by omega) (hk q (by omega) ho hI) f (by omega)
  exact ⟨N + 1, L N (Nat.le_refl _) h (N + 1) (by omega)⟩
section
variable {o : Nat → Bool} {n : Nat} {yo : Nat → Int32} {post : Int32 → SY → Prop} {c l : Int32} {yu yd : Nat → Int32}
theorem ty_nodes (Q : tc_Q o n yo) (h : ∀ x u d, post (nI (tc_n o n)) (nI n, nI (tc_n o n), x, yo, u, d)) : wpY_nodes post (nI n, c, l, yo, yu, yd) := by
  unfold wpY_nodes
  exact ty_work Q (fun x u d _ _ => h x u d)
theorem ty_openNodes (Q : tc_Q o n yo) (h : ∀ x u d, post (tc_z (tc_l o n)) (nI n, nI (tc_n o n), x, yo, u, d)) : wpY_openNodes post (nI n, c, l, yo, yu, yd) := by
  have hn := Q.1
  unfold wpY_openNodes
  refine ty_work Q (fun x u d hL hT => ?_)
  rcases hL with ⟨h1, h2⟩ | ⟨h1, j, hA, h2⟩
  · subst h2
    have k := h (-1) u d
    rw [h1, tc_z0] at k
    exact br_f (by decide) k
  · subst h2
    have hj := hA.1
    have nj := tc_nb (o := o) j
    have k := h (nI (tc_n o j)) u d
    have e : d (nI (tc_n o j)).toNatClampNeg + 1 = tc_z (tc_l o n) := by
      rw [nI_clamp (by omega), (hT j hj hA.2.2.1).2, hA.2.1, tc_p1]
      exact congrArg tc_z (by omega)
    rw [← e] at k
    exact br_t (nI_pos' (by omega)) ⟨vp_in_nI (by omega) (by omega), k⟩
theorem ty_parent (Q : tc_Q o n yo) {p : Nat} (hp : p < n) (ho : o p = true) (h : ∀ r x u d, tc_L o p r → post r (nI n, nI (tc_n o n), x, yo, u, d)) : wpY_parent post (nI n, c, l, yo, yu, yd) (nI (tc_n o p)) := by
  have hn := Q.1
  have np := tc_nb (o := o) p
  unfold wpY_parent
  refine ty_node1 Q hp ho (fun x u d hL hT => br_f (by decide) ⟨vp_in_nI (by omega) (by omega), ?_⟩)
  rw [nI_clamp (by omega)]
  exact h _ x u d (hT p hp ho).1
theorem ty_parent0 (Q : tc_Q o n yo) {v : Int32} (hv : v < 0 ∨ nI (tc_n o n) ≤ v) (h : ∀ x u d, post (-1) (nI n, nI (tc_n o n), x, yo, u, d)) : wpY_parent post (nI n, c, l, yo, yu, yd) v := by
  unfold wpY_parent
  exact ty_node0 Q hv (fun x u d => br_t rfl (h x u d))
theorem ty_depth (Q : tc_Q o n yo) {p : Nat} (hp : p < n) (ho : o p = true) (h : ∀ x u d, post (tc_z (tc_l o p)) (nI n, nI (tc_n o n), x, yo, u, d)) : wpY_depth post (nI n, c, l, yo, yu, yd) (nI (tc_n o p)) := by
  have hn := Q.1
  have np := tc_nb (o := o) p
  unfold wpY_depth
  refine ty_node1 Q hp ho (fun x u d hL hT => br_f (by decide) ⟨vp_in_nI (by omega) (by omega), ?_⟩)
  rw [nI_clamp (by omega), (hT p hp ho).2]
  exact h x u d
theorem ty_depth0 (Q : tc_Q o n yo) {v : Int32} (hv : v < 0 ∨ nI (tc_n o n) ≤ v) (h : ∀ x u d, post (-1) (nI n, nI (tc_n o n), x, yo, u, d)) : wpY_depth post (nI n, c, l, yo, yu, yd) v := by
  unfold wpY_depth
  exact ty_node0 Q hv (fun x u d => br_t rfl (h x u d))
theorem ty_size (Q : tc_Q o n yo) {p e : Nat} (hp : p < n) (ho : o p = true) (hE : tc_E o n p e) (h : ∀ x u d, post (nI (tc_n o e - tc_n o p)) (nI n, nI (tc_n o n), x, yo, u, d)) : wpY_size post (nI n, c, l, yo, yu, yd) (nI (tc_n o p)) := by
  obtain ⟨hn, hv, hy⟩ := id Q
  have nn := tc_nb (o := o) n
  have hpe := tc_E_p hE ho hp
  have hen := hE.2.1
  unfold wpY_size
  refine ty_node1 Q hp ho (fun x u d hL hT => br_f (by decide) ?_)
  refine tc_pl (o := o) (W := fun f m a => wY_size_14 post (nI (tc_n o p)) (nI n) (nI (tc_n o n)) x yo u d f a (nI m)) (I := fun q a => ∃ m, (m = p ∧ q ≤ p ∨ m = q ∧ p ≤ q ∧ q ≤ e ∨ m = e ∧ e ≤ q) ∧ a = nI (tc_n o m - tc_n o p)) n (fun f a hI => ?_) (fun f q a hq hoq hI K => ?_) (fun q a hq hoq hI => ?_) 0 ⟨p, Or.inl ⟨rfl, by omega⟩, by rw [Nat.sub_self]; exact nI_0.symm⟩
  · obtain ⟨m, hm, rfl⟩ := hI
    have e1 : m = e := by omega
    rw [e1]
    exact br_t (nI_le (Nat.le_refl _) (by omega)) (h x u d)
  · obtain ⟨m, hm, rfl⟩ := hI
    have hU := tc_E_U hE ho hp hq hoq
    have nq := tc_ns hoq hq
    refine br_f (nI_ge nq (by omega)) (ty_unb hn hv hT hp ho hq hoq (fun z => ?_) (fun z => ?_))
    · have z2 := hU.mp z
      have e1 : m = q := by omega
      rw [e1]
      have m1 := tc_nm (o := o) z2.1
      exact nm_r (nI_1 _) (nm_r (nI_1 _) (K _ ⟨q + 1, by omega, by rw [tc_nt hoq]; exact congrArg nI (by omega)⟩))
    · have z2 : ¬ (p ≤ q ∧ q < e) := fun y => z (hU.mpr y)
      exact nm_r (nI_1 _) (K _ ⟨m, by omega, rfl⟩)
  · obtain ⟨m, hm, rfl⟩ := hI
    by_cases z2 : p ≤ q ∧ q < e
    · have e1 : m = q := by omega
      rw [e1]
      exact ⟨q + 1, by omega, by rw [tc_nf hoq]⟩
    · exact ⟨m, by omega, rfl⟩
theorem ty_size0 (Q : tc_Q o n yo) {v : Int32} (hv : v < 0 ∨ nI (tc_n o n) ≤ v) (h : ∀ x u d, post (-1) (nI n, nI (tc_n o n), x, yo, u, d)) : wpY_size post (nI n, c, l, yo, yu, yd) v := by
  unfold wpY_size
  exact ty_node0 Q hv (fun x u d => br_t rfl (h x u d))
theorem ty_children (Q : tc_Q o n yo) {p : Nat} (hp : p < n) (ho : o p = true) (h : ∀ x u d, post (nI (tc_n (tc_c o p) n)) (nI n, nI (tc_n o n), x, yo, u, d)) : wpY_children post (nI n, c, l, yo, yu, yd) (nI (tc_n o p)) := by
  unfold wpY_children
  exact ty_node1 Q hp ho (fun x u d hL hT => br_f (by decide) (ty_co Q.1 Q.2.1 hT hp ho (h x u d)))
theorem ty_children0 (Q : tc_Q o n yo) {v : Int32} (hv : v < 0 ∨ nI (tc_n o n) ≤ v) (h : ∀ x u d, post (-1) (nI n, nI (tc_n o n), x, yo, u, d)) : wpY_children post (nI n, c, l, yo, yu, yd) v := by
  unfold wpY_children
  exact ty_node0 Q hv (fun x u d => br_t rfl (h x u d))
theorem ty_child (Q : tc_Q o n yo) {p : Nat} (hp : p < n) (ho : o p = true) {v : Int32} (h : ∀ r x u d, tc_K o n p v r → post r (nI n, nI (tc_n o n), x, yo, u, d)) : wpY_child post (nI n, c, l, yo, yu, yd) (nI (tc_n o p)) v := by
  obtain ⟨hn, hv, hy⟩ := id Q
  have nn := tc_nb (o := o) n
  unfold wpY_child
  refine ty_node1 Q hp ho (fun x u d hL hT => ?_)
  refine tc_pl (o := o) (W := fun f m a => wY_child_12 post (nI (tc_n o p)) v 1 (nI n) (nI (tc_n o n)) x yo u d f a (nI m)) (I := fun q a => a = nI (tc_n (tc_c o p) q) ∧ ∀ i, i < q → tc_c o p i = true → nI (tc_n (tc_c o p) i) ≠ v) n (fun f a hI => ?_) (fun f q a hq hoq hI K => ?_) (fun q a hq hoq hI => ?_) 0 ⟨nI_0.symm, fun i hi => absurd hi (by omega)⟩
  · exact br_t (nI_le (Nat.le_refl _) (by omega)) (h _ x u d (Or.inr ⟨hI.2, rfl⟩))
  · obtain ⟨rfl, hI⟩ := hI
    have nq := tc_ns hoq hq
    have e := tc_C_L ho (hv p (by omega)) (by omega) (by omega) (hT q hq hoq).1
    refine br_f (nI_ge nq (by omega)) (br_f (by decide) ⟨vp_in_nI (by omega) (by omega), ?_⟩)
    rw [nI_clamp (by omega)]
    refine br_c (fun z => ?_) (fun z => ?_)
    · have ec : tc_c o p q = true := tc_c_t.mpr ⟨hoq, e.mp z⟩
      refine br_c (fun y => h _ x u d (Or.inl ⟨q, hq, ec, y, rfl⟩)) (fun y => nm_r (nI_1 _) (nm_r (nI_1 _) (K _ ⟨by rw [tc_nt ec], fun i h1 h2 => ?_⟩)))
      by_cases w : i = q
      · subst w; exact y
      · exact hI i (by omega) h2
    · have ec : tc_c o p q = false := tc_c_f (fun y => z (e.mpr y.2))
      refine nm_r (nI_1 _) (K _ ⟨by rw [tc_nf ec], fun i h1 h2 => ?_⟩)
      by_cases w : i = q
      · subst w; rw [ec] at h2; exact absurd h2 (by decide)
      · exact hI i (by omega) h2
  · obtain ⟨rfl, hI⟩ := hI
    have ec : tc_c o p q = false := tc_c_f (fun y => by rw [hoq] at y; exact absurd y.1 (by decide))
    refine ⟨by rw [tc_nf ec], fun i h1 h2 => ?_⟩
    by_cases w : i = q
    · subst w; rw [ec] at h2; exact absurd h2 (by decide)
    · exact hI i (by omega) h2
theorem ty_child0 (Q : tc_Q o n yo) {v k : Int32} (hv : v < 0 ∨ nI (tc_n o n) ≤ v) (h : ∀ x u d, post (-1) (nI n, nI (tc_n o n), x, yo, u, d)) : wpY_child post (nI n, c, l, yo, yu, yd) v k := by
  unfold wpY_child
  exact ty_node0 Q hv (fun x u d => ⟨1, br_c (fun _ => h x u d) (fun _ => br_t rfl (h x u d))⟩)
theorem ty_next (Q : tc_Q o n yo) {p : Nat} (hp : p < n) (ho : o p = true) (h : ∀ r x u d, tc_N o n p r → post r (nI n, nI (tc_n o n), x, yo, u, d)) : wpY_next post (nI n, c, l, yo, yu, yd) (nI (tc_n o p)) := by
  obtain ⟨hn, hv, hy⟩ := id Q
  have nn := tc_nb (o := o) n
  have np := tc_ns ho hp
  unfold wpY_next
  refine ty_node1 Q hp ho (fun x u d hL hT => ?_)
  refine tc_pl (o := o) (W := fun f m (_ : Unit) => wY_next_8 post (nI (tc_n o p)) 1 (nI n) (nI (tc_n o n)) x yo u d f (nI m)) (I := fun q _ => ∀ i, p < i → i < q → o i = true → ¬ tc_S o p i) n (fun f a hI => ?_) (fun f q a hq hoq hI K => ?_) (fun q a hq hoq hI => ?_) () (fun i h1 h2 => absurd h2 (by omega))
  · exact br_t (nI_le (Nat.le_refl _) (by omega)) (h _ x u d (Or.inr ⟨hI, rfl⟩))
  · have nq := tc_ns hoq hq
    refine br_f (nI_ge nq (by omega)) (br_f (by decide) (pk_le (tc_n o q) (tc_n o p) (fun z => ?_) (fun z => ⟨vp_in_nI (by omega) (by omega), vp_in_nI (by omega) (by omega), ?_⟩)))
    · have hqp : q ≤ p := by
        by_cases y : q ≤ p
        · exact y
        · have := tc_ns ho (show p < q by omega); omega
      exact nm_r (nI_1 _) (K () (fun i h1 h2 => absurd h2 (by omega)))
    · have hpq : p < q := by
        by_cases y : p < q
        · exact y
        · have := tc_nm (o := o) (show q ≤ p by omega); omega
      have e := tc_S_L hpq (by omega) (fun k hk => hv k (by omega)) (hT p hp ho).1 (hT q hq hoq).1
      rw [nI_clamp (by omega), nI_clamp (by omega)]
      refine br_c (fun y => h _ x u d (Or.inl ⟨q, hq, hoq, e.mp y, hI, rfl⟩)) (fun y => nm_r (nI_1 _) (K () (fun i h1 h2 h3 => ?_)))
      by_cases w : i = q
      · subst w; exact fun hS => y (e.mpr hS)
      · exact hI i h1 (by omega) h3
  · intro i h1 h2 h3
    by_cases w : i = q
    · subst w; rw [hoq] at h3; exact absurd h3 (by decide)
    · exact hI i h1 (by omega) h3
theorem ty_next0 (Q : tc_Q o n yo) {v : Int32} (hv : v < 0 ∨ nI (tc_n o n) ≤ v) (h : ∀ x u d, post (-1) (nI n, nI (tc_n o n), x, yo, u, d)) : wpY_next post (nI n, c, l, yo, yu, yd) v := by
  unfold wpY_next
  exact ty_node0 Q hv (fun x u d => ⟨1, br_c (fun _ => h x u d) (fun _ => br_t rfl (h x u d))⟩)
theorem ty_previous (Q : tc_Q o n yo) {p : Nat} (hp : p < n) (ho : o p = true) (h : ∀ r x u d, tc_P o p r → post r (nI n, nI (tc_n o n), x, yo, u, d)) : wpY_previous post (nI n, c, l, yo, yu, yd) (nI (tc_n o p)) := by
  obtain ⟨hn, hv, hy⟩ := id Q
  have nn := tc_nb (o := o) n
  have np := tc_ns ho hp
  unfold wpY_previous
  refine ty_node1 Q hp ho (fun x u d hL hT => nm_r (e' := tc_z ((tc_n o n : Int) - 1)) (by rw [← tc_zn, tc_s1]) ?_)
  refine tc_pd (o := o) (W := fun f z => wY_previous_13 post (nI (tc_n o p)) 1 (nI n) (nI (tc_n o n)) x yo u d f (tc_z z)) (I := fun q => ∀ i, q ≤ i → i < p → o i = true → ¬ tc_S o i p) n (fun f hI => ?_) (fun f q hq hoq hI K => ?_) (fun q hq hoq hI => ?_) (fun i h1 h2 => absurd h2 (by omega))
  · rw [tc_zm1]
    exact br_t (by decide) (h _ x u d (Or.inr ⟨fun i hi => hI i (by omega) hi, rfl⟩))
  · have nq := tc_ns hoq hq
    have eM : nI (tc_n o q) + (-1) = tc_z ((tc_n o q : Int) - 1) := by rw [← tc_zn, tc_m1]
    rw [tc_zn]
    refine br_f (nI_pos (by omega)) (br_f (by decide) (pk_le (tc_n o p) (tc_n o q) (fun z => ?_) (fun z => ⟨vp_in_nI (by omega) (by omega), vp_in_nI (by omega) (by omega), ?_⟩)))
    · have hpq : p ≤ q := by
        by_cases y : p ≤ q
        · exact y
        · have := tc_ns hoq (show q < p by omega); omega
      exact nm_r eM (K (fun i h1 h2 => absurd h2 (by omega)))
    · have hqp : q < p := by
        by_cases y : q < p
        · exact y
        · have := tc_nm (o := o) (show p ≤ q by omega); omega
      have e := tc_S_L hqp (by omega) (fun k hk => hv k (by omega)) (hT q hq hoq).1 (hT p hp ho).1
      rw [nI_clamp (by omega), nI_clamp (by omega)]
      refine br_c (fun y => h _ x u d (Or.inl ⟨q, hqp, hoq, e.mp y.symm, fun i h1 h2 h3 => hI i (by omega) h2 h3, rfl⟩)) (fun y => nm_r eM (K (fun i h1 h2 h3 => ?_)))
      by_cases w : i = q
      · subst w; exact fun hS => y (e.mpr hS).symm
      · exact hI i (by omega) h2 h3
  · intro i h1 h2 h3
    by_cases w : i = q
    · subst w; rw [hoq] at h3; exact absurd h3 (by decide)
    · exact hI i (by omega) h2 h3
theorem ty_previous0 (Q : tc_Q o n yo) {v : Int32} (hv : v < 0 ∨ nI (tc_n o n) ≤ v) (h : ∀ x u d, post (-1) (nI n, nI (tc_n o n), x, yo, u, d)) : wpY_previous post (nI n, c, l, yo, yu, yd) v := by
  unfold wpY_previous
  exact ty_node0 Q hv (fun x u d => nm_e ⟨1, br_c (fun _ => h x u d) (fun _ => br_t rfl (h x u d))⟩)
theorem ty_above (Q : tc_Q o n yo) {p : Nat} (hp : p < n) (ho : o p = true) {v : Int32} (h : ∀ r x u d, tc_V o p v r → post r (nI n, nI (tc_n o n), x, yo, u, d)) : wpY_aboveAt post (nI n, c, l, yo, yu, yd) (nI (tc_n o p)) v := by
  obtain ⟨hn, hv, hy⟩ := id Q
  have nn := tc_nb (o := o) n
  unfold wpY_aboveAt
  refine ty_node1 Q hp ho (fun x u d hL hT => ?_)
  refine tc_pl (o := o) (W := fun f m (_ : Unit) => wY_aboveAt_9 post (nI (tc_n o p)) v 1 (nI n) (nI (tc_n o n)) x yo u d f (nI m)) (I := fun q _ => ∀ k, k < q → o k = true → tc_U o k p → tc_z (tc_l o k) ≠ v) n (fun f a hI => ?_) (fun f q a hq hoq hI K => ?_) (fun q a hq hoq hI => ?_) () (fun i h1 => absurd h1 (by omega))
  · exact br_t (nI_le (Nat.le_refl _) (by omega)) (h _ x u d (Or.inr ⟨fun k hk hU => hI k (by have := hU.1; omega) hk hU, rfl⟩))
  · have nq := tc_ns hoq hq
    refine br_f (nI_ge nq (by omega)) (br_f (by decide) (ty_unb hn hv hT hq hoq hp ho (fun z => ⟨vp_in_nI (by omega) (by omega), ?_⟩) (fun z => nm_r (nI_1 _) (K () (fun k h1 h2 h3 => ?_)))))
    · rw [nI_clamp (by omega), (hT q hq hoq).2]
      refine br_c (fun y => h _ x u d (Or.inl ⟨q, hoq, z, y, rfl⟩)) (fun y => nm_r (nI_1 _) (K () (fun k h1 h2 h3 => ?_)))
      by_cases w : k = q
      · subst w; exact y
      · exact hI k (by omega) h2 h3
    · by_cases w : k = q
      · subst w; exact absurd h3 z
      · exact hI k (by omega) h2 h3
  · intro k h1 h2 h3
    by_cases w : k = q
    · subst w; rw [hoq] at h2; exact absurd h2 (by decide)
    · exact hI k (by omega) h2 h3
theorem ty_above0 (Q : tc_Q o n yo) {v k : Int32} (hv : v < 0 ∨ nI (tc_n o n) ≤ v) (h : ∀ x u d, post (-1) (nI n, nI (tc_n o n), x, yo, u, d)) : wpY_aboveAt post (nI n, c, l, yo, yu, yd) v k := by
  unfold wpY_aboveAt
  exact ty_node0 Q hv (fun x u d => ⟨1, br_c (fun _ => h x u d) (fun _ => br_t rfl (h x u d))⟩)
theorem ty_height (Q : tc_Q o n yo) {p e : Nat} (hp : p < n) (ho : o p = true) (hE : tc_E o n p e) (h : ∀ m x u d, tc_Y o p e m → post (tc_z m) (nI n, nI (tc_n o n), x, yo, u, d)) : wpY_height post (nI n, c, l, yo, yu, yd) (nI (tc_n o p)) := by
  obtain ⟨hn, hv, hy⟩ := id Q
  have nn := tc_nb (o := o) n
  have np := tc_ns ho hp
  have hpe := tc_E_p hE ho hp
  have hen := hE.2.1
  have vp := hv p (by omega)
  unfold wpY_height
  refine ty_node1 Q hp ho (fun x u d hL hT => br_f (by decide) ?_)
  refine tc_pl (o := o) (W := fun f m a => wY_height_14 post (nI (tc_n o p)) (nI n) (nI (tc_n o n)) x yo u d f a (nI m)) (I := fun q a => ∃ m, a = tc_z m ∧ 0 ≤ m ∧ m ≤ 64 ∧ (∀ i, p ≤ i → i < e → i < q → o i = true → tc_l o i - tc_l o p ≤ m) ∧ (m = 0 ∨ ∃ i, p ≤ i ∧ i < e ∧ o i = true ∧ tc_l o i - tc_l o p = m)) n (fun f a hI => ?_) (fun f q a hq hoq hI K => ?_) (fun q a hq hoq hI => ?_) 0 ⟨0, tc_z0.symm, by omega, by omega, fun i h1 h2 h3 => absurd h3 (by omega), Or.inl rfl⟩
  · obtain ⟨m, rfl, m1, m2, m3, m4⟩ := hI
    exact br_t (nI_le (Nat.le_refl _) (by omega)) (h m x u d ⟨m1, m2, fun i h1 h2 h3 => m3 i h1 h2 (by omega) h3, m4⟩)
  · obtain ⟨m, rfl, m1, m2, m3, m4⟩ := hI
    have hU := tc_E_U hE ho hp hq hoq
    have nq := tc_ns hoq hq
    have bq := tc_lb (o := o) q
    have bp := tc_lb (o := o) p
    have hq1 : vp_in (nI (tc_n o q)) 64 := vp_in_nI (by omega) (by omega)
    have hp1 : vp_in (nI (tc_n o p)) 64 := vp_in_nI (by omega) (by omega)
    have eD : d (nI (tc_n o q)).toNatClampNeg - d (nI (tc_n o p)).toNatClampNeg = tc_z (tc_l o q - tc_l o p) := by
      rw [nI_clamp (by omega), nI_clamp (by omega), (hT q hq hoq).2, (hT p hp ho).2, tc_zs]
    refine br_f (nI_ge nq (by omega)) (ty_unb hn hv hT hp ho hq hoq (fun z => ⟨hq1, hp1, tc_le (tc_l o q - tc_l o p) m eD rfl (fun y => nm_r (nI_1 _) (K _ ⟨m, rfl, m1, m2, fun i h1 h2 h3 h4 => ?_, m4⟩)) (fun y => ⟨hq1, hp1, nm_r eD (nm_r (nI_1 _) (K _ ⟨tc_l o q - tc_l o p, rfl, by omega, by omega, fun i h1 h2 h3 h4 => ?_, Or.inr ⟨q, (hU.mp z).1, (hU.mp z).2, hoq, rfl⟩⟩))⟩)⟩) (fun z => nm_r (nI_1 _) (K _ ⟨m, rfl, m1, m2, fun i h1 h2 h3 h4 => ?_, m4⟩)))
    · by_cases w : i = q
      · subst w; exact y
      · exact m3 i h1 h2 (by omega) h4
    · by_cases w : i = q
      · subst w; exact Int.le_refl _
      · have := m3 i h1 h2 (by omega) h4; omega
    · by_cases w : i = q
      · subst w; exact absurd (hU.mpr ⟨h1, h2⟩) z
      · exact m3 i h1 h2 (by omega) h4
  · obtain ⟨m, rfl, m1, m2, m3, m4⟩ := hI
    refine ⟨m, rfl, m1, m2, fun i h1 h2 h3 h4 => ?_, m4⟩
    by_cases w : i = q
    · subst w; rw [hoq] at h4; exact absurd h4 (by decide)
    · exact m3 i h1 h2 (by omega) h4
theorem ty_height0 (Q : tc_Q o n yo) {v : Int32} (hv : v < 0 ∨ nI (tc_n o n) ≤ v) (h : ∀ x u d, post (-1) (nI n, nI (tc_n o n), x, yo, u, d)) : wpY_height post (nI n, c, l, yo, yu, yd) v := by
  unfold wpY_height
  exact ty_node0 Q hv (fun x u d => br_t rfl (h x u d))
theorem ty_leaves (Q : tc_Q o n yo) {p : Nat} (hp : p < n) (ho : o p = true) (h : ∀ x u d, post (nI (tc_n (tc_lf1 o) p)) (nI n, nI (tc_n o n), x, yo, u, d)) : wpY_leavesBefore post (nI n, c, l, yo, yu, yd) (nI (tc_n o p)) := by
  obtain ⟨hn, hv, hy⟩ := id Q
  have nn := tc_nb (o := o) n
  have np := tc_ns ho hp
  unfold wpY_leavesBefore
  refine ty_node1 Q hp ho (fun x u d hL hT => br_f (by decide) ?_)
  refine tc_pl (o := o) (W := fun f m a => wY_leavesBefore_14 post (nI (tc_n o p)) (nI n) (nI (tc_n o n)) x yo u d f a (nI m)) (I := fun q a => a = nI (tc_n (tc_lf1 o) q)) p (fun f a hI => ?_) (fun f q a hq hoq hI K => ?_) (fun q a hq hoq hI => ?_) 0 nI_0.symm
  · subst hI
    exact br_t (nI_le (Nat.le_refl _) (by omega)) (h x u d)
  · subst hI
    have nq := tc_ns hoq hq
    have nc := tc_nb (o := tc_c o q) n
    have e := tc_lf_c (n := n) hoq (by omega)
    refine br_f (nI_ge nq (by omega)) (ty_co hn hv hT (by omega) hoq (pk_eq (tc_n (tc_c o q) n) 0 (fun z => ?_) (fun z => ?_)))
    · have e1 : tc_lf1 o q = true := by unfold tc_lf1; rw [hoq, e.mp z]; rfl
      exact nm_r (nI_1 _) (nm_r (nI_1 _) (K _ (by rw [tc_nt e1])))
    · have e1 : tc_lf1 o q = false := by
        unfold tc_lf1
        rw [hoq, ts_nf (fun y => z (e.mpr y))]
        rfl
      exact nm_r (nI_1 _) (K _ (by rw [tc_nf e1]))
  · have e1 : tc_lf1 o q = false := by unfold tc_lf1; rw [hoq]; rfl
    rw [tc_nf e1]
    exact hI
theorem ty_leaves0 (Q : tc_Q o n yo) {v : Int32} (hv : v < 0 ∨ nI (tc_n o n) ≤ v) (h : ∀ x u d, post (-1) (nI n, nI (tc_n o n), x, yo, u, d)) : wpY_leavesBefore post (nI n, c, l, yo, yu, yd) v := by
  unfold wpY_leavesBefore
  exact ty_node0 Q hv (fun x u d => br_t rfl (h x u d))
theorem ty_meet (Q : tc_Q o n yo) {a b : Nat} (ha : a < n) (hb : b < n) (hoa : o a = true) (hob : o b = true) (h : ∀ r x u d, tc_M o a b r → post r (nI n, nI (tc_n o n), x, yo, u, d)) : wpY_meet post (nI n, c, l, yo, yu, yd) (nI (tc_n o a)) (nI (tc_n o b)) := by
  obtain ⟨hn, hv, hy⟩ := id Q
  have nn := tc_nb (o := o) n
  unfold wpY_meet
  refine ty_node1 Q ha hoa (fun _ _ _ _ _ => br_f (by decide) (ty_node1 Q hb hob (fun x u d hL hT => br_f (by decide) ?_)))
  refine tc_pl (o := o) (W := fun f m r => wY_meet_28 post (nI (tc_n o a)) (nI (tc_n o b)) 1 (nI n) (nI (tc_n o n)) x yo u d f r (nI m)) (I := fun q r => (∃ k, k < q ∧ o k = true ∧ tc_U o k a ∧ tc_U o k b ∧ (∀ i, k < i → i < q → o i = true → ¬ (tc_U o i a ∧ tc_U o i b)) ∧ r = nI (tc_n o k)) ∨ ((∀ i, i < q → o i = true → ¬ (tc_U o i a ∧ tc_U o i b)) ∧ r = -1)) n (fun f r hI => ?_) (fun f q r hq hoq hI K => ?_) (fun q r hq hoq hI => ?_) (-1) (Or.inr ⟨fun i hi => absurd hi (by omega), rfl⟩)
  · refine br_t (nI_le (Nat.le_refl _) (by omega)) (h r x u d ?_)
    rcases hI with ⟨k, k1, k2, k3, k4, k5, k6⟩ | ⟨k1, k2⟩
    · exact Or.inl ⟨k, k2, k3, k4, fun i h1 h2 h3 => k5 i h1 (by have := h3.1.1; omega) h2 h3, k6⟩
    · exact Or.inr ⟨fun i h2 h3 => k1 i (by have := h3.1.1; omega) h2 h3, k2⟩
  · have nq := tc_ns hoq hq
    have S : ¬ (tc_U o q a ∧ tc_U o q b) → wY_meet_28 post (nI (tc_n o a)) (nI (tc_n o b)) 1 (nI n) (nI (tc_n o n)) x yo u d f r (nI (tc_n o q + 1)) := by
      intro z
      refine K r ?_
      rcases hI with ⟨k, k1, k2, k3, k4, k5, k6⟩ | ⟨k1, k2⟩
      · refine Or.inl ⟨k, by omega, k2, k3, k4, fun i h1 h2 h3 => ?_, k6⟩
        by_cases w : i = q
        · subst w; exact z
        · exact k5 i h1 (by omega) h3
      · refine Or.inr ⟨fun i h2 h3 => ?_, k2⟩
        by_cases w : i = q
        · subst w; exact z
        · exact k1 i (by omega) h3
    refine br_f (nI_ge nq (by omega)) (br_f (by decide) (ty_unb hn hv hT hq hoq ha hoa (fun z1 => ty_unb hn hv hT hq hoq hb hob (fun z2 => ?_) (fun z => nm_r (nI_1 _) (S (fun y => z y.2)))) (fun z => nm_r (nI_1 _) (S (fun y => z y.1)))))
    have T := K (nI (tc_n o q)) (Or.inl ⟨q, by omega, hoq, z1, z2, fun i h1 h2 => absurd h1 (by omega), rfl⟩)
    rcases hI with ⟨k, k1, k2, k3, k4, k5, k6⟩ | ⟨k1, k2⟩
    · subst k6
      have nk := tc_nb (o := o) k
      have bk := tc_lb (o := o) k
      have bq := tc_lb (o := o) q
      have hlt := k3.2 q k1 z1.1
      refine br_f (nI_pos (by omega)) ⟨vp_in_nI (by omega) (by omega), vp_in_nI (by omega) (by omega), ?_⟩
      rw [nI_clamp (by omega), nI_clamp (by omega), (hT q hq hoq).2, (hT k (by omega) k2).2]
      exact tc_le (tc_l o q) (tc_l o k) rfl rfl (fun y => absurd y (by omega)) (fun _ => nm_r (nI_1 _) T)
    · subst k2
      exact br_t (by decide) (nm_r (nI_1 _) T)
  · rcases hI with ⟨k, k1, k2, k3, k4, k5, k6⟩ | ⟨k1, k2⟩
    · refine Or.inl ⟨k, by omega, k2, k3, k4, fun i h1 h2 h3 => ?_, k6⟩
      by_cases w : i = q
      · subst w; rw [hoq] at h3; exact absurd h3 (by decide)
      · exact k5 i h1 (by omega) h3
    · refine Or.inr ⟨fun i h2 h3 => ?_, k2⟩
      by_cases w : i = q
      · subst w; rw [hoq] at h3; exact absurd h3 (by decide)
      · exact k1 i (by omega) h3
theorem ty_meet0 (Q : tc_Q o n yo) {v k : Int32} (hv : v < 0 ∨ nI (tc_n o n) ≤ v) (h : ∀ x u d, post (-1) (nI n, nI (tc_n o n), x, yo, u, d)) : wpY_meet post (nI n, c, l, yo, yu, yd) v k := by
  unfold wpY_meet
  exact ty_node0 Q hv (fun x u d => br_t rfl ⟨1, br_c (fun _ => h x u d) (fun _ => br_t rfl (h x u d))⟩)
theorem ty_meet1 (Q : tc_Q o n yo) {v : Int32} {p : Nat} (hp : p < n) (ho : o p = true) (hv : v < 0 ∨ nI (tc_n o n) ≤ v) (h : ∀ x u d, post (-1) (nI n, nI (tc_n o n), x, yo, u, d)) : wpY_meet post (nI n, c, l, yo, yu, yd) (nI (tc_n o p)) v := by
  unfold wpY_meet
  exact ty_node1 Q hp ho (fun _ _ _ _ _ => br_f (by decide) (ty_node0 Q hv (fun x u d => br_t rfl ⟨1, br_c (fun _ => h x u d) (fun _ => br_t rfl (h x u d))⟩)))
end
end
section
/-! the relation; the calls that store -/
/-- the relation at the head of a turn whose first cell is k: one list of brackets (o i: bit i of the component's word), one length n; all levels up to n are 0 or more; the summaries of the blocks are right; the reference's count, last, up and deep are free (work finds them anew) -/
def i_Rel (k : Nat) (u : SX) (v : SY) : Prop :=
  ∃ (w : Int64) (n : Nat) (aO aR aL aM : Nat → Int32) (c l : Int32) (yo yu yd : Nat → Int32), u = (w, nI n, aO, aR, aL, aM) ∧ v = (nI n, c, l, yo, yu, yd) ∧ tc_G w n aO aR aL aM ∧ ∀ i, i < 64 → yo i = if tc_o w i = true then 1 else 0
theorem i_up {k : Nat} {u : SX} {v : SY} (h : i_Rel k u v) : i_Rel (k + 3) u v := h
theorem tc_z0w (i : Nat) : tc_o 0 i = false := by
  unfold tc_o
  rw [show (0 : Int64).toBitVec = 0#64 from rfl]
  simp
theorem tc_G0 : tc_G 0 0 (fun _ => 0) (fun _ => 0) (fun _ => 0) (fun _ => 0) := by
  refine ⟨by omega, fun k hk => ?_, fun b hb => ?_⟩
  · have e : k = 0 := by omega
    subst e
    rw [tc_l0]
    exact Int.le_refl _
  · have l0 : tc_len 0 b = 0 := tc_len0 (by omega)
    unfold tc_B
    rw [l0, Nat.add_zero, Nat.sub_self, Int.sub_self]
    exact ⟨nI_0.symm, tc_z0.symm, fun z => absurd z (by omega)⟩
theorem i_vc0 : wpX_init (fun u => wpY_init (fun v => i_Rel 0 u v)) :=
  ⟨0, 0, fun _ => 0, fun _ => 0, fun _ => 0, fun _ => 0, 0, 0, fun _ => 0, fun _ => 0, fun _ => 0, rfl, rfl, tc_G0, fun i _ => by rw [tc_z0w]; rfl⟩
section
variable {o : Nat → Bool} {n : Nat} {yo : Nat → Int32} {c l : Int32} {yu yd : Nat → Int32} {post : Int32 → SY → Prop}
theorem ty_close (Q : tc_Q o n yo) (h1 : tc_l o n = 0 → ∀ x u d, post (-1) (nI n, nI (tc_n o n), x, yo, u, d)) (h2 : tc_l o n ≠ 0 → 64 ≤ n → ∀ x u d, post (-2) (nI n, nI (tc_n o n), x, yo, u, d)) (h3 : n < 64 → ∀ j x u d, tc_A o (tc_l o n - 1) n j → post (nI (tc_n o j)) (nI (n + 1), nI (tc_n o n), x, upd yo n 0, u, d)) : wpY_close post (nI n, c, l, yo, yu, yd) := by
  have hn := Q.1
  unfold wpY_close
  refine ty_work Q (fun x u d hL hT => ?_)
  rcases hL with ⟨a1, a2⟩ | ⟨a1, j, hA, a2⟩
  · subst a2
    exact br_f (by decide) (h1 a1 (-1) u d)
  · subst a2
    have hj := hA.1
    have nj := tc_nb (o := o) j
    exact br_t (nI_pos' (by omega)) (pk_lt n 64 (fun hlt => ⟨vp_in_nI hlt (by omega), nm_r (e' := upd yo n 0) (by rw [nI_clamp (by omega)]; rfl) (nm_r (nI_1 n) (h3 hlt j _ u d hA))⟩) (fun hge => h2 (by omega) hge _ u d))
theorem tc_B_d {aO aR aL aM : Nat → Int32} {m b : Nat} (e : tc_len n b = tc_len m b) (H : tc_B o n aO aR aL aM b) : tc_B o m aO aR aL aM b := by
  unfold tc_B at H ⊢
  rw [← e]
  exact H
/-- a bracket more: levels and summaries -/
theorem tc_more {o' : Nat → Bool} (hv : ∀ k, k ≤ n → 0 ≤ tc_l o k) (ha : ∀ i, i < n → o' i = o i) (hl : o' n = true ∨ 0 < tc_l o n) : ∀ k, k ≤ n + 1 → 0 ≤ tc_l o' k := by
  intro k hk
  have e : ∀ k, k ≤ n → tc_l o' k = tc_l o k := fun k hk => tc_cl (fun i hi => ha i (by omega))
  by_cases x : k = n + 1
  · subst x
    have en := e n (Nat.le_refl _)
    have vn := hv n (Nat.le_refl _)
    rcases tc_st (o := o') n with ⟨h1, h2, _⟩ | ⟨h1, h2, _⟩
    · omega
    · rcases hl with hl | hl
      · rw [hl] at h1; exact absurd h1 (by decide)
      · omega
  · rw [e k (by omega)]
    exact hv k (by omega)
end
theorem i_vc_open {k : Nat} {u : SX} {v : SY} (I : i_Rel k u v) (hk : k + 3 ≤ 1536) : wpX_open (fun r u' => wpY_open (fun r' v' => r' = r ∧ i_Rel (k + 3) u' v') v) u := by
  obtain ⟨w, n, aO, aR, aL, aM, c, l, yo, yu, yd, rfl, rfl, G, hy⟩ := I
  have hn := G.1
  unfold wpX_open
  refine pk_lt n 64 (fun hlt w' hw' => nm_r (nI_1 n) ?_) (fun hge => ?_)
  · have hs : ∀ i, tc_o w' i = (tc_o w i || decide (i = n)) := fun i => by rw [hw']; exact tc_o_s hlt i
    have ha : ∀ i, i < n → tc_o w' i = tc_o w i := fun i hi => by
      rw [hs i, decide_eq_false (by omega), Bool.or_false]
    have ht : tc_o w' n = true := by rw [hs n, decide_eq_true rfl, Bool.or_true]
    refine tx_rf (p := n) (nI_pred n) (by omega) hlt (tc_more G.2.1 ha (Or.inl ht)) (fun b hb hne => tc_B_c (by omega) ha (G.2.2 b hb)) (fun bO bR bL bM G' => ?_)
    refine tx_nodes G' ?_
    have hy' : ∀ i, i < 64 → upd yo n 1 i = if tc_o w' i = true then 1 else 0 := fun i hi => by
      by_cases e : i = n
      · subst e
        rw [pk_us, ht]
        rfl
      · rw [pk_un e, hs i, decide_eq_false e, Bool.or_false]
        exact hy i hi
    have Q : tc_Q (tc_o w') (n + 1) (upd yo n 1) := ⟨G'.1, G'.2.1, hy'⟩
    unfold wpY_open
    exact pk_lt n 64 (fun _ => ⟨vp_in_nI hlt (by omega), nm_r (e' := upd yo n 1) (by rw [nI_clamp (by omega)]; rfl) (nm_r (nI_1 n) (ty_work Q (fun x u d _ _ => ⟨rfl, w', n + 1, bO, bR, bL, bM, _, x, _, u, d, rfl, rfl, G', hy'⟩)))⟩) (fun z => absurd z (by omega))
  · unfold wpY_open
    exact pk_lt n 64 (fun z => absurd z (by omega)) (fun _ => ⟨rfl, w, n, aO, aR, aL, aM, c, l, yo, yu, yd, rfl, rfl, G, hy⟩)
theorem i_vc_close {k : Nat} {u : SX} {v : SY} (I : i_Rel k u v) (hk : k + 3 ≤ 1536) : wpX_close (fun r u' => wpY_close (fun r' v' => r' = r ∧ i_Rel (k + 3) u' v') v) u := by
  obtain ⟨w, n, aO, aR, aL, aM, c, l, yo, yu, yd, rfl, rfl, G, hy⟩ := I
  have hn := G.1
  have bn := tc_lb (o := tc_o w) n
  have vn := G.2.1 n (Nat.le_refl _)
  have Q : tc_Q (tc_o w) n yo := ⟨G.1, G.2.1, hy⟩
  unfold wpX_close
  refine tx_on G (tc_eqb (tc_l (tc_o w) n) 0 rfl tc_z0.symm (fun e0 => ?_) (fun ne => pk_lt n 64 (fun hlt => tx_on G (tx_bt G (tc_s1 _) (Nat.le_refl _) (by omega) (by omega) (fun j hA w' hw' => nm_r (nI_1 n) ?_))) (fun hge => ?_)))
  · refine ty_close Q (fun _ x u d => ⟨rfl, w, n, aO, aR, aL, aM, _, x, yo, u, d, rfl, rfl, G, hy⟩) (fun z => absurd e0 z) (fun _ j x u d hA => ?_)
    have h1 := hA.2.1
    have h2 := G.2.1 j (by have := hA.1; omega)
    omega
  · have hs : ∀ i, i < 64 → tc_o w' i = (tc_o w i && !decide (i = n)) := fun i hi => by rw [hw']; exact tc_o_c hlt hi
    have ha : ∀ i, i < n → tc_o w' i = tc_o w i := fun i hi => by
      rw [hs i (by omega), decide_eq_false (by omega), Bool.not_false, Bool.and_true]
    have hf : tc_o w' n = false := by rw [hs n hlt, decide_eq_true rfl, Bool.not_true, Bool.and_false]
    have hj := hA.1
    refine tx_rf (p := n) (nI_pred n) (by omega) hlt (tc_more G.2.1 ha (Or.inr (by omega))) (fun b hb hne => tc_B_c (by omega) ha (G.2.2 b hb)) (fun bO bR bL bM G' => ?_)
    refine tx_ob G' (by omega) ?_
    have hy' : ∀ i, i < 64 → upd yo n 0 i = if tc_o w' i = true then 1 else 0 := fun i hi => by
      by_cases e : i = n
      · subst e
        rw [pk_us, hf]
        rfl
      · rw [pk_un e, hs i hi, decide_eq_false e, Bool.not_false, Bool.and_true]
        exact hy i hi
    refine ty_close Q (fun z => absurd z ne) (fun _ z => absurd z (by omega)) (fun _ j2 x u d hA2 => ⟨?_, w', n + 1, bO, bR, bL, bM, _, x, _, u, d, rfl, rfl, G', hy'⟩)
    rw [tc_A_u hA2 hA, tc_cg (o' := tc_o w') (o := tc_o w) (fun i hi => ha i (by omega))]
  · refine ty_close Q (fun z => absurd z ne) (fun _ _ x u d => ⟨rfl, w, n, aO, aR, aL, aM, _, x, yo, u, d, rfl, rfl, G, hy⟩) (fun z => absurd z (by omega))
theorem i_vc_undo {k : Nat} {u : SX} {v : SY} (I : i_Rel k u v) (hk : k + 3 ≤ 1536) : wpX_undo (fun r u' => wpY_undo (fun r' v' => r' = r ∧ i_Rel (k + 3) u' v') v) u := by
  obtain ⟨w, n, aO, aR, aL, aM, c, l, yo, yu, yd, rfl, rfl, G, hy⟩ := I
  have hn := G.1
  unfold wpX_undo
  refine pk_eq n 0 (fun e => ?_) (fun ne => ?_)
  · unfold wpY_undo
    exact pk_eq n 0 (fun _ => ⟨rfl, w, n, aO, aR, aL, aM, c, l, yo, yu, yd, rfl, rfl, G, hy⟩) (fun z => absurd e z)
  · obtain ⟨m, rfl⟩ : ∃ m, n = m + 1 := ⟨n - 1, by omega⟩
    refine nm_r (nI_pred m) (tx_rf (p := m) rfl (by omega) (by omega) (fun j hj => G.2.1 j (by omega)) (fun b hb hne => tc_B_d ?_ (G.2.2 b hb)) (fun bO bR bL bM G' => ?_))
    · unfold tc_len
      omega
    · unfold wpY_undo
      exact pk_eq (m + 1) 0 (fun z => absurd z (by omega)) (fun _ => nm_r (nI_pred m) ⟨rfl, w, m, bO, bR, bL, bM, c, l, yo, yu, yd, rfl, rfl, G', hy⟩)
end
section
/-! the calls that only read -/
theorem tc_vn {o : Nat → Bool} {n : Nat} (hn : n ≤ 64) (v : Int32) : (v < 0 ∨ nI (tc_n o n) ≤ v) ∨ ∃ p, p < n ∧ o p = true ∧ v = nI (tc_n o p) := by
  have nn := tc_nb (o := o) n
  rcases pk_ix v (n := tc_n o n) (by omega) with h | h | ⟨j, h1, h2⟩
  · exact Or.inl (Or.inl h)
  · exact Or.inl (Or.inr h)
  · obtain ⟨p, p1, p2, p3⟩ := tc_node n j h1
    exact Or.inr ⟨p, p1, p2, by rw [h2, p3]⟩
theorem i_vc_nodes {k : Nat} {u : SX} {v : SY} (I : i_Rel k u v) (hk : k + 3 ≤ 1536) : wpX_nodes (fun r => wpY_nodes (fun r' v' => r' = r ∧ i_Rel (k + 3) u v') v) u := by
  obtain ⟨w, n, aO, aR, aL, aM, c, l, yo, yu, yd, rfl, rfl, G, hy⟩ := I
  have Q : tc_Q (tc_o w) n yo := ⟨G.1, G.2.1, hy⟩
  have R : ∀ x u d, i_Rel (k + 3) (w, nI n, aO, aR, aL, aM) (nI n, nI (tc_n (tc_o w) n), x, yo, u, d) := fun x u d => ⟨w, n, aO, aR, aL, aM, _, x, yo, u, d, rfl, rfl, G, hy⟩
  exact tx_nodes G (ty_nodes Q (fun x u d => ⟨rfl, R x u d⟩))
theorem i_vc_openNodes {k : Nat} {u : SX} {v : SY} (I : i_Rel k u v) (hk : k + 3 ≤ 1536) : wpX_openNodes (fun r => wpY_openNodes (fun r' v' => r' = r ∧ i_Rel (k + 3) u v') v) u := by
  obtain ⟨w, n, aO, aR, aL, aM, c, l, yo, yu, yd, rfl, rfl, G, hy⟩ := I
  have Q : tc_Q (tc_o w) n yo := ⟨G.1, G.2.1, hy⟩
  have R : ∀ x u d, i_Rel (k + 3) (w, nI n, aO, aR, aL, aM) (nI n, nI (tc_n (tc_o w) n), x, yo, u, d) := fun x u d => ⟨w, n, aO, aR, aL, aM, _, x, yo, u, d, rfl, rfl, G, hy⟩
  exact tx_on G (ty_openNodes Q (fun x u d => ⟨rfl, R x u d⟩))
theorem i_vc_parent {k : Nat} {u : SX} {v : SY} (I : i_Rel k u v) (hk : k + 3 ≤ 1536) (v1 : Int32) : wpX_parent (fun r => wpY_parent (fun r' v' => r' = r ∧ i_Rel (k + 3) u v') v v1) u v1 := by
  obtain ⟨w, n, aO, aR, aL, aM, c, l, yo, yu, yd, rfl, rfl, G, hy⟩ := I
  have Q : tc_Q (tc_o w) n yo := ⟨G.1, G.2.1, hy⟩
  have R : ∀ x u d, i_Rel (k + 3) (w, nI n, aO, aR, aL, aM) (nI n, nI (tc_n (tc_o w) n), x, yo, u, d) := fun x u d => ⟨w, n, aO, aR, aL, aM, _, x, yo, u, d, rfl, rfl, G, hy⟩
  rcases tc_vn (o := tc_o w) G.1 v1 with hv | ⟨p, hp, ho, rfl⟩
  · exact tx_parent0 G hv (ty_parent0 Q hv (fun x u d => ⟨rfl, R x u d⟩))
  · exact tx_parent G hp ho (fun r h1 => ty_parent Q hp ho (fun r2 x u d h2 => ⟨tc_L_u h2 h1, R x u d⟩))
theorem i_vc_depth {k : Nat} {u : SX} {v : SY} (I : i_Rel k u v) (hk : k + 3 ≤ 1536) (v1 : Int32) : wpX_depth (fun r => wpY_depth (fun r' v' => r' = r ∧ i_Rel (k + 3) u v') v v1) u v1 := by
  obtain ⟨w, n, aO, aR, aL, aM, c, l, yo, yu, yd, rfl, rfl, G, hy⟩ := I
  have Q : tc_Q (tc_o w) n yo := ⟨G.1, G.2.1, hy⟩
  have R : ∀ x u d, i_Rel (k + 3) (w, nI n, aO, aR, aL, aM) (nI n, nI (tc_n (tc_o w) n), x, yo, u, d) := fun x u d => ⟨w, n, aO, aR, aL, aM, _, x, yo, u, d, rfl, rfl, G, hy⟩
  rcases tc_vn (o := tc_o w) G.1 v1 with hv | ⟨p, hp, ho, rfl⟩
  · exact tx_depth0 G hv (ty_depth0 Q hv (fun x u d => ⟨rfl, R x u d⟩))
  · exact tx_depth G hp ho (ty_depth Q hp ho (fun x u d => ⟨rfl, R x u d⟩))
theorem i_vc_size {k : Nat} {u : SX} {v : SY} (I : i_Rel k u v) (hk : k + 3 ≤ 1536) (v1 : Int32) : wpX_size (fun r => wpY_size (fun r' v' => r' = r ∧ i_Rel (k + 3) u v') v v1) u v1 := by
  obtain ⟨w, n, aO, aR, aL, aM, c, l, yo, yu, yd, rfl, rfl, G, hy⟩ := I
  have Q : tc_Q (tc_o w) n yo := ⟨G.1, G.2.1, hy⟩
  have R : ∀ x u d, i_Rel (k + 3) (w, nI n, aO, aR, aL, aM) (nI n, nI (tc_n (tc_o w) n), x, yo, u, d) := fun x u d => ⟨w, n, aO, aR, aL, aM, _, x, yo, u, d, rfl, rfl, G, hy⟩
  rcases tc_vn (o := tc_o w) G.1 v1 with hv | ⟨p, hp, ho, rfl⟩
  · exact tx_size0 G hv (ty_size0 Q hv (fun x u d => ⟨rfl, R x u d⟩))
  · exact tx_size G hp ho (fun e hE => ty_size Q hp ho hE (fun x u d => ⟨rfl, R x u d⟩))
theorem i_vc_children {k : Nat} {u : SX} {v : SY} (I : i_Rel k u v) (hk : k + 3 ≤ 1536) (v1 : Int32) : wpX_children (fun r => wpY_children (fun r' v' => r' = r ∧ i_Rel (k + 3) u v') v v1) u v1 := by
  obtain ⟨w, n, aO, aR, aL, aM, c, l, yo, yu, yd, rfl, rfl, G, hy⟩ := I
  have Q : tc_Q (tc_o w) n yo := ⟨G.1, G.2.1, hy⟩
  have R : ∀ x u d, i_Rel (k + 3) (w, nI n, aO, aR, aL, aM) (nI n, nI (tc_n (tc_o w) n), x, yo, u, d) := fun x u d => ⟨w, n, aO, aR, aL, aM, _, x, yo, u, d, rfl, rfl, G, hy⟩
  rcases tc_vn (o := tc_o w) G.1 v1 with hv | ⟨p, hp, ho, rfl⟩
  · exact tx_children0 G hv (ty_children0 Q hv (fun x u d => ⟨rfl, R x u d⟩))
  · exact tx_children G hp ho (ty_children Q hp ho (fun x u d => ⟨rfl, R x u d⟩))
theorem i_vc_child {k : Nat} {u : SX} {v : SY} (I : i_Rel k u v) (hk : k + 3 ≤ 1536) (v1 : Int32) (v2 : Int32) : wpX_child (fun r => wpY_child (fun r' v' => r' = r ∧ i_Rel (k + 3) u v') v v1 v2) u v1 v2 := by
  obtain ⟨w, n, aO, aR, aL, aM, c, l, yo, yu, yd, rfl, rfl, G, hy⟩ := I
  have Q : tc_Q (tc_o w) n yo := ⟨G.1, G.2.1, hy⟩
  have R : ∀ x u d, i_Rel (k + 3) (w, nI n, aO, aR, aL, aM) (nI n, nI (tc_n (tc_o w) n), x, yo, u, d) := fun x u d => ⟨w, n, aO, aR, aL, aM, _, x, yo, u, d, rfl, rfl, G, hy⟩
  rcases tc_vn (o := tc_o w) G.1 v1 with hv | ⟨p, hp, ho, rfl⟩
  · exact tx_child0 G hv (ty_child0 Q hv (fun x u d => ⟨rfl, R x u d⟩))
  · exact tx_child G hp ho (fun r h1 => ty_child Q hp ho (fun r2 x u d h2 => ⟨tc_K_u G.1 h2 h1, R x u d⟩))
theorem i_vc_next {k : Nat} {u : SX} {v : SY} (I : i_Rel k u v) (hk : k + 3 ≤ 1536) (v1 : Int32) : wpX_next (fun r => wpY_next (fun r' v' => r' = r ∧ i_Rel (k + 3) u v') v v1) u v1 := by
  obtain ⟨w, n, aO, aR, aL, aM, c, l, yo, yu, yd, rfl, rfl, G, hy⟩ := I
  have Q : tc_Q (tc_o w) n yo := ⟨G.1, G.2.1, hy⟩
  have R : ∀ x u d, i_Rel (k + 3) (w, nI n, aO, aR, aL, aM) (nI n, nI (tc_n (tc_o w) n), x, yo, u, d) := fun x u d => ⟨w, n, aO, aR, aL, aM, _, x, yo, u, d, rfl, rfl, G, hy⟩
  rcases tc_vn (o := tc_o w) G.1 v1 with hv | ⟨p, hp, ho, rfl⟩
  · exact tx_next0 G hv (ty_next0 Q hv (fun x u d => ⟨rfl, R x u d⟩))
  · exact tx_next G hp ho (fun r h1 => ty_next Q hp ho (fun r2 x u d h2 => ⟨tc_N_u h2 h1, R x u d⟩))
theorem i_vc_previous {k : Nat} {u : SX} {v : SY} (I : i_Rel k u v) (hk : k + 3 ≤ 1536) (v1 : Int32) : wpX_previous (fun r => wpY_previous (fun r' v' => r' = r ∧ i_Rel (k + 3) u v') v v1) u v1 := by
  obtain ⟨w, n, aO, aR, aL, aM, c, l, yo, yu, yd, rfl, rfl, G, hy⟩ := I
  have Q : tc_Q (tc_o w) n yo := ⟨G.1, G.2.1, hy⟩
  have R : ∀ x u d, i_Rel (k + 3) (w, nI n, aO, aR, aL, aM) (nI n, nI (tc_n (tc_o w) n), x, yo, u, d) := fun x u d => ⟨w, n, aO, aR, aL, aM, _, x, yo, u, d, rfl, rfl, G, hy⟩
  rcases tc_vn (o := tc_o w) G.1 v1 with hv | ⟨p, hp, ho, rfl⟩
  · exact tx_previous0 G hv (ty_previous0 Q hv (fun x u d => ⟨rfl, R x u d⟩))
  · exact tx_previous G hp ho (fun r h1 => ty_previous Q hp ho (fun r2 x u d h2 => ⟨tc_P_u h2 h1, R x u d⟩))
theorem i_vc_meet {k : Nat} {u : SX} {v : SY} (I : i_Rel k u v) (hk : k + 3 ≤ 1536) (v1 : Int32) (v2 : Int32) : wpX_meet (fun r => wpY_meet (fun r' v' => r' = r ∧ i_Rel (k + 3) u v') v v1 v2) u v1 v2 := by
  obtain ⟨w, n, aO, aR, aL, aM, c, l, yo, yu, yd, rfl, rfl, G, hy⟩ := I
  have Q : tc_Q (tc_o w) n yo := ⟨G.1, G.2.1, hy⟩
  have R : ∀ x u d, i_Rel (k + 3) (w, nI n, aO, aR, aL, aM) (nI n, nI (tc_n (tc_o w) n), x, yo, u, d) := fun x u d => ⟨w, n, aO, aR, aL, aM, _, x, yo, u, d, rfl, rfl, G, hy⟩
  rcases tc_vn (o := tc_o w) G.1 v1 with hv | ⟨p, hp, ho, rfl⟩
  · exact tx_meet0 G hv (ty_meet0 Q hv (fun x u d => ⟨rfl, R x u d⟩))
  · rcases tc_vn (o := tc_o w) G.1 v2 with hv | ⟨q, hq, hoq, rfl⟩
    · exact tx_meet1 G hp ho hv (ty_meet1 Q hp ho hv (fun x u d => ⟨rfl, R x u d⟩))
    · exact tx_meet G hp hq ho hoq (fun r h1 => ty_meet Q hp hq ho hoq (fun r2 x u d h2 => ⟨tc_M_u h2 h1, R x u d⟩))
theorem i_vc_aboveAt {k : Nat} {u : SX} {v : SY} (I : i_Rel k u v) (hk : k + 3 ≤ 1536) (v1 : Int32) (v2 : Int32) : wpX_aboveAt (fun r => wpY_aboveAt (fun r' v' => r' = r ∧ i_Rel (k + 3) u v') v v1 v2) u v1 v2 := by
  obtain ⟨w, n, aO, aR, aL, aM, c, l, yo, yu, yd, rfl, rfl, G, hy⟩ := I
  have Q : tc_Q (tc_o w) n yo := ⟨G.1, G.2.1, hy⟩
  have R : ∀ x u d, i_Rel (k + 3) (w, nI n, aO, aR, aL, aM) (nI n, nI (tc_n (tc_o w) n), x, yo, u, d) := fun x u d => ⟨w, n, aO, aR, aL, aM, _, x, yo, u, d, rfl, rfl, G, hy⟩
  rcases tc_vn (o := tc_o w) G.1 v1 with hv | ⟨p, hp, ho, rfl⟩
  · exact tx_above0 G hv (ty_above0 Q hv (fun x u d => ⟨rfl, R x u d⟩))
  · exact tx_above G hp ho (fun r h1 => ty_above Q hp ho (fun r2 x u d h2 => ⟨tc_V_u (by have := G.1; omega) h2 h1, R x u d⟩))
theorem i_vc_height {k : Nat} {u : SX} {v : SY} (I : i_Rel k u v) (hk : k + 3 ≤ 1536) (v1 : Int32) : wpX_height (fun r => wpY_height (fun r' v' => r' = r ∧ i_Rel (k + 3) u v') v v1) u v1 := by
  obtain ⟨w, n, aO, aR, aL, aM, c, l, yo, yu, yd, rfl, rfl, G, hy⟩ := I
  have Q : tc_Q (tc_o w) n yo := ⟨G.1, G.2.1, hy⟩
  have R : ∀ x u d, i_Rel (k + 3) (w, nI n, aO, aR, aL, aM) (nI n, nI (tc_n (tc_o w) n), x, yo, u, d) := fun x u d => ⟨w, n, aO, aR, aL, aM, _, x, yo, u, d, rfl, rfl, G, hy⟩
  rcases tc_vn (o := tc_o w) G.1 v1 with hv | ⟨p, hp, ho, rfl⟩
  · exact tx_height0 G hv (ty_height0 Q hv (fun x u d => ⟨rfl, R x u d⟩))
  · exact tx_height G hp ho (fun e m hE hH => ty_height Q hp ho hE (fun m2 x u d hY => ⟨by rw [tc_H_Y ho (tc_E_p hE ho hp) hH hY], R x u d⟩))
theorem i_vc_leavesBefore {k : Nat} {u : SX} {v : SY} (I : i_Rel k u v) (hk : k + 3 ≤ 1536) (v1 : Int32) : wpX_leavesBefore (fun r => wpY_leavesBefore (fun r' v' => r' = r ∧ i_Rel (k + 3) u v') v v1) u v1 := by
  obtain ⟨w, n, aO, aR, aL, aM, c, l, yo, yu, yd, rfl, rfl, G, hy⟩ := I
  have Q : tc_Q (tc_o w) n yo := ⟨G.1, G.2.1, hy⟩
  have R : ∀ x u d, i_Rel (k + 3) (w, nI n, aO, aR, aL, aM) (nI n, nI (tc_n (tc_o w) n), x, yo, u, d) := fun x u d => ⟨w, n, aO, aR, aL, aM, _, x, yo, u, d, rfl, rfl, G, hy⟩
  rcases tc_vn (o := tc_o w) G.1 v1 with hv | ⟨p, hp, ho, rfl⟩
  · exact tx_leaves0 G hv (ty_leaves0 Q hv (fun x u d => ⟨rfl, R x u d⟩))
  · exact tx_leaves G hp ho (ty_leaves Q hp ho (fun x u d => ⟨rfl, R x u d⟩))
end

section
/-! pure rows to paste: stores, nI and lN arithmetic, masks, shifts, narrowing, branches by naturals (pk_le, pk_lt, pk_eq), loops (lp1 .. lp16: the measure of the state; rp1 ..: recursion), negatives. Take what you need -/
theorem pk_us {f : Nat → Int32} {k : Nat} {x : Int32} : upd f k x k = x := if_pos rfl
theorem pk_un {f : Nat → Int32} {k j : Nat} {x : Int32} (h : j ≠ k) : upd f k x j = f j := if_neg h
theorem pk_uLs {f : Nat → Int64} {k : Nat} {x : Int64} : vp_updL f k x k = x := if_pos rfl
theorem pk_uLn {f : Nat → Int64} {k j : Nat} {x : Int64} (h : j ≠ k) : vp_updL f k x j = f j := if_neg h
theorem pk_sub {a b : Nat} (h : b ≤ a) : nI a - nI b = nI (a - b) := by
  obtain ⟨c, rfl⟩ : ∃ c, a = c + b := ⟨a - b, by omega⟩
  rw [← nI_add, Int32.add_sub_cancel, Nat.add_sub_cancel]
theorem pk_m1 (n : Nat) : nI (n + 1) + (-1) = nI n := by
  rw [← nI_1, Int32.add_assoc, show (1 : Int32) + (-1) = 0 from rfl, Int32.add_zero]
theorem pk_mul (a b : Nat) : nI a * nI b = nI (a * b) := (Int32.ofNat_mul a b).symm
theorem pk_div {a d : Nat} (ha : a < 2 ^ 31) (h0 : 0 < d) (hd : d < 2 ^ 31) : nI a / nI d = nI (a / d) := by
  apply Int32.toInt_inj.mp
  rw [lg_idiv_nonneg (by rw [nI_toInt ha]; omega) (by rw [nI_toInt hd]; omega), nI_toInt ha, nI_toInt hd, nI_toInt (Nat.lt_of_le_of_lt (Nat.div_le_self a d) ha)]
  first | rfl | exact (Int.natCast_ediv _ _).symm
theorem pk_rem {a d : Nat} (ha : a < 2 ^ 31) (h0 : 0 < d) (hd : d < 2 ^ 31) : nI a - nI a / nI d * nI d = nI (a % d) := by
  rw [pk_div ha h0 hd, pk_mul, pk_sub (Nat.div_mul_le_self a d)]
  exact congrArg nI (by have := Nat.div_add_mod' a d; omega)
theorem pk_sub_toInt {a b : Nat} (ha : a < 2 ^ 30) (hb : b < 2 ^ 30) : (nI a - nI b).toInt = (a : Int) - b := by
  rw [Int32.toInt_sub, nI_toInt (by omega), nI_toInt (by omega)]
  exact Int.bmod_eq_of_le (by omega) (by omega)
theorem pk_sneg {a b : Nat} (hb : b < 2 ^ 30) (h : a < b) : nI a - nI b < 0 := by
  rw [Int32.lt_iff_toInt_lt, pk_sub_toInt (by omega) hb, show (0 : Int32).toInt = 0 from by decide]
  omega
theorem pk_ix (x : Int32) {n : Nat} (hn : n < 2 ^ 31) : x < 0 ∨ nI n ≤ x ∨ ∃ j : Nat, j < n ∧ x = nI j := by
  by_cases h : x < 0
  · exact Or.inl h
  · obtain ⟨j, hj, rfl⟩ := nI_of h
    by_cases h2 : j < n
    · exact Or.inr (Or.inr ⟨j, h2, rfl⟩)
    · exact Or.inr (Or.inl (nI_le (by omega) hj))
theorem pk_le {x y : Int32} {A B : Prop} (a b : Nat) (f : a ≤ b → A) (g : b < a → B) (hx : x = nI a := by rfl) (hy : y = nI b := by rfl) (ha : a < 2 ^ 31 := by omega) (hb : b < 2 ^ 31 := by omega) : (x ≤ y → A) ∧ (¬ x ≤ y → B) := by
  subst hx hy
  rw [nI_leI ha hb]
  exact ⟨f, fun z => g (by omega)⟩
theorem pk_lt {x y : Int32} {A B : Prop} (a b : Nat) (f : a < b → A) (g : b ≤ a → B) (hx : x = nI a := by rfl) (hy : y = nI b := by rfl) (ha : a < 2 ^ 31 := by omega) (hb : b < 2 ^ 31 := by omega) : (x < y → A) ∧ (¬ x < y → B) := by
  subst hx hy
  rw [nI_ltI ha hb]
  exact ⟨f, fun z => g (by omega)⟩
theorem pk_eq {x y : Int32} {A B : Prop} (a b : Nat) (f : a = b → A) (g : a ≠ b → B) (hx : x = nI a := by rfl) (hy : y = nI b := by rfl) (ha : a < 2 ^ 31 := by omega) (hb : b < 2 ^ 31 := by omega) : (x = y → A) ∧ (¬ x = y → B) := by
  subst hx hy
  rw [nI_eq ha hb]
  exact ⟨f, g⟩
theorem pk_in {x : Int32} (n N : Nat) (h : n < N) (hx : x = nI n := by rfl) (hN : N < 2 ^ 31 := by omega) : vp_in x N := by
  subst hx
  exact vp_in_nI h hN
theorem pk_cl {x : Int32} (n : Nat) (hx : x = nI n := by rfl) (h : n < 2 ^ 31 := by omega) : x.toNatClampNeg = n := by
  subst hx
  exact nI_clamp h
theorem pk_tn {n : Nat} (h : n < 2 ^ 32) : (nI n).toBitVec.toNat = n := Nat.mod_eq_of_lt h
theorem pk_and (x : Int32) {m : Int32} (k : Nat) (hm : m.toBitVec.toNat = 2 ^ k - 1) : x &&& m = nI (x.toBitVec.toNat % 2 ^ k) := by
  apply Int32.toBitVec_inj.mp
  apply BitVec.eq_of_toNat_eq
  rw [Int32.toBitVec_and, BitVec.toNat_and, hm, Nat.and_two_pow_sub_one_eq_mod]
  show _ = (BitVec.ofNat 32 _).toNat
  rw [BitVec.toNat_ofNat]
  exact (Nat.mod_eq_of_lt (Nat.lt_of_le_of_lt (Nat.mod_le _ _) x.toBitVec.isLt)).symm
theorem pk_andN {n : Nat} (h : n < 2 ^ 32) {m : Int32} (k : Nat) (hm : m.toBitVec.toNat = 2 ^ k - 1) : nI n &&& m = nI (n % 2 ^ k) := by
  rw [pk_and _ k hm, pk_tn h]
theorem pk_andE (x : Int32) {m : Int32} (k : Nat) (hm : m.toBitVec.toNat = 2 ^ k - 1) : ∃ j : Nat, j < 2 ^ k ∧ x &&& m = nI j := ⟨_, Nat.mod_lt _ (Nat.two_pow_pos k), pk_and x k hm⟩
theorem pk_andIn (x : Int32) {m : Int32} (k : Nat) (hm : m.toBitVec.toNat = 2 ^ k - 1) (hk : k ≤ 30) : vp_in (x &&& m) (2 ^ k) := by
  obtain ⟨j, hj, e⟩ := pk_andE x k hm
  rw [e]
  exact vp_in_nI hj (Nat.lt_of_le_of_lt (Nat.pow_le_pow_right (by decide) hk) (by decide))
theorem pk_shl (a s : Int32) (k : Nat) (hs : (s.toBitVec.smod 32).toNat = k) : (a <<< s).toBitVec.toNat = a.toBitVec.toNat * 2 ^ k % 2 ^ 32 := by
  show (a.toBitVec <<< (s.toBitVec.smod 32).toNat).toNat = _
  rw [hs, BitVec.toNat_shiftLeft, Nat.shiftLeft_eq]
theorem pk_shlN {n : Nat} (s : Int32) (k : Nat) (hs : (s.toBitVec.smod 32).toNat = k) (h : n * 2 ^ k < 2 ^ 32) : nI n <<< s = nI (n * 2 ^ k) := by
  apply Int32.toBitVec_inj.mp
  apply BitVec.eq_of_toNat_eq
  have hn : n < 2 ^ 32 := Nat.lt_of_le_of_lt (Nat.le_mul_of_pos_right n (Nat.two_pow_pos k)) h
  rw [pk_shl _ _ k hs, pk_tn hn, pk_tn h, Nat.mod_eq_of_lt h]
theorem pk_shr (a s : Int32) (k : Nat) (hs : (s.toBitVec.smod 32).toNat = k) : (a >>> s).toInt = a.toInt >>> k := by
  show (a.toBitVec.sshiftRight (s.toBitVec.smod 32).toNat).toInt = _
  rw [hs, BitVec.toInt_sshiftRight]
  rfl
theorem pk_shrN {n : Nat} (h : n < 2 ^ 31) (s : Int32) (k : Nat) (hs : (s.toBitVec.smod 32).toNat = k) : nI n >>> s = nI (n / 2 ^ k) := by
  apply Int32.toInt_inj.mp
  have h2 : n / 2 ^ k ≤ n := Nat.div_le_self _ _
  rw [pk_shr _ _ k hs, nI_toInt h, nI_toInt (by omega), Int.shiftRight_eq_div_pow]
  rfl
theorem pk_ushr (x s : Int32) (k : Nat) (hs : ((s.toUInt32 &&& Int32.toUInt32 31).toBitVec % 32).toNat = k) : (x.toUInt32 >>> (s.toUInt32 &&& Int32.toUInt32 31)).toInt32.toBitVec.toNat = x.toBitVec.toNat / 2 ^ k := by
  have e : (x.toUInt32 >>> (s.toUInt32 &&& Int32.toUInt32 31)).toInt32.toBitVec = x.toBitVec >>> k := by
    rw [← hs]
    exact UInt32.toBitVec_shiftRight _ _
  rw [e, BitVec.toNat_ushiftRight, Nat.shiftRight_eq_div_pow]
theorem pk_ushrN {n : Nat} (hn : n < 2 ^ 32) (s : Int32) (k : Nat) (hs : ((s.toUInt32 &&& Int32.toUInt32 31).toBitVec % 32).toNat = k) : ((nI n).toUInt32 >>> (s.toUInt32 &&& Int32.toUInt32 31)).toInt32 = nI (n / 2 ^ k) := by
  apply Int32.toBitVec_inj.mp
  apply BitVec.eq_of_toNat_eq
  rw [pk_ushr _ s k hs, pk_tn hn, pk_tn (Nat.lt_of_le_of_lt (Nat.div_le_self _ _) hn)]
theorem pk_nb (z : Int32) : narrow .byte (.int z.toInt8.toInt32) = .int z.toInt8.toInt32 := congrArg Value.int (by simp)
theorem pk_ns (z : Int32) : narrow .short (.int z.toInt16.toInt32) = .int z.toInt16.toInt32 := congrArg Value.int (by simp)
theorem pk_fb (r : Int32) : fits .byte (.int r.toInt8.toInt32) = true := by
  have ⟨a, b⟩ := lg_i2b_range r
  have h1 : (-128 : Int32).toInt = -128 := by decide
  have h2 : (127 : Int32).toInt = 127 := by decide
  simp only [fits, Bool.and_eq_true, decide_eq_true_eq, Int32.le_iff_toInt_le, h1, h2]
  omega
theorem pk_fs (r : Int32) : fits .short (.int r.toInt16.toInt32) = true := by
  have ⟨a, b⟩ := lg_i2s_range r
  have h1 : (-32768 : Int32).toInt = -32768 := by decide
  have h2 : (32767 : Int32).toInt = 32767 := by decide
  simp only [fits, Bool.and_eq_true, decide_eq_true_eq, Int32.le_iff_toInt_le, h1, h2]
  omega
theorem pk_charN {q : Nat} (hq : q < 65536) : narrow .char (.int (nI q)) = .int (nI q) ∧ fits .char (.int (nI q)) = true := by
  constructor
  · have e : (nI q).toUInt32.toUInt16.toUInt32.toInt32 = nI q := by
      apply Int32.toBitVec_inj.mp
      apply BitVec.eq_of_toNat_eq
      show (nI q).toUInt32.toUInt16.toUInt32.toNat = q % 2 ^ 32
      rw [UInt16.toNat_toUInt32, UInt32.toNat_toUInt16, show (nI q).toUInt32.toNat = q % 2 ^ 32 from rfl]
      omega
    exact congrArg Value.int e
  · have a : (0 : Int32) ≤ nI q := nI_pos' (by omega)
    have b : nI q ≤ 65535 := nI_le (b := 65535) (by omega) (by decide)
    show (decide ((0 : Int32) ≤ nI q) && decide (nI q ≤ 65535)) = true
    rw [decide_eq_true a, decide_eq_true b]
    rfl
theorem pk_char (x : Int32) : (x.toUInt32 % 65536).toInt32 = nI (x.toBitVec.toNat % 65536) := by
  apply Int32.toBitVec_inj.mp
  apply BitVec.eq_of_toNat_eq
  rw [pk_tn (by omega)]
  show (x.toUInt32 % 65536).toNat = _
  rw [UInt32.toNat_mod]
  rfl
theorem pk_nc (x : Int32) : narrow .char (.int (x.toUInt32 % 65536).toInt32) = .int (x.toUInt32 % 65536).toInt32 := by
  rw [pk_char]
  exact (pk_charN (Nat.mod_lt _ (by decide))).1
theorem pk_fc (x : Int32) : fits .char (.int (x.toUInt32 % 65536).toInt32) = true := by
  rw [pk_char]
  exact (pk_charN (Nat.mod_lt _ (by decide))).2
theorem pk_vb (z : Int32) : vp_nar .byte z.toInt8.toInt32 = z.toInt8.toInt32 := by rw [vp_nar_byte]; simp
theorem pk_vs (z : Int32) : vp_nar .short z.toInt16.toInt32 = z.toInt16.toInt32 := by rw [vp_nar_short]; simp
theorem pk_vc (z : Int32) : vp_nar .char (z.toUInt32 % 65536).toInt32 = (z.toUInt32 % 65536).toInt32 := Value.int.inj (pk_nc z)
theorem pk_lT {n : Nat} (h : n < 2 ^ 63) : (lN n).toInt = (n : Int) := lg_ofNat_toInt h
theorem pk_lLT {a b : Nat} (ha : a < 2 ^ 63) (hb : b < 2 ^ 63) : lN a < lN b ↔ a < b := by
  rw [Int64.lt_iff_toInt_lt, pk_lT ha, pk_lT hb]; omega
theorem pk_lLE {a b : Nat} (ha : a < 2 ^ 63) (hb : b < 2 ^ 63) : lN a ≤ lN b ↔ a ≤ b := by
  rw [Int64.le_iff_toInt_le, pk_lT ha, pk_lT hb]; omega
theorem pk_lEQ {a b : Nat} (ha : a < 2 ^ 63) (hb : b < 2 ^ 63) : lN a = lN b ↔ a = b := by
  rw [← Int64.toInt_inj, pk_lT ha, pk_lT hb]; omega
theorem pk_lOf {x : Int64} (h : ¬ x < 0) : ∃ k : Nat, k < 2 ^ 63 ∧ x = lN k := by
  rw [Int64.lt_iff_toInt_lt] at h
  have h0 : (0 : Int64).toInt = 0 := by decide
  have hx := Int64.toInt_lt x
  refine ⟨x.toInt.toNat, by omega, Int64.toInt_inj.mp ?_⟩
  rw [pk_lT (by omega)]
  omega
theorem pk_lDiv {a b : Nat} (ha : a < 2 ^ 63) (h0 : 0 < b) (hb : b < 2 ^ 63) : lN a / lN b = lN (a / b) := by
  apply Int64.toInt_inj.mp
  rw [lg_ldiv_nonneg (by rw [pk_lT ha]; omega) (by rw [pk_lT hb]; omega), pk_lT ha, pk_lT hb, pk_lT (Nat.lt_of_le_of_lt (Nat.div_le_self a b) ha)]
  rfl
theorem pk_lRem {a b : Nat} (ha : a < 2 ^ 63) (h0 : 0 < b) (hb : b < 2 ^ 63) : lN a - lN a / lN b * lN b = lN (a % b) := by
  rw [pk_lDiv ha h0 hb, lN_mul, lN_sub (Nat.div_mul_le_self a b)]
  exact congrArg lN (by have := Nat.div_add_mod' a b; omega)
theorem pk_loop {σ : Type} (W : Nat → Nat → σ → Prop) (I : Nat → σ → Prop) (e i0 : Nat) (s : σ) (hi : i0 ≤ e) (h0 : I i0 s) (hx : ∀ n s, I e s → W (n + 1) e s)
    (hs : ∀ n i s, i < e → I i s → (∀ s', I (i + 1) s' → W n (i + 1) s') → W (n + 1) i s) : ∃ n, W n i0 s :=
  ⟨e + 1, loop_i W I e hx hs (e + 1) i0 s hi (by omega) h0⟩
theorem pk_loopD {σ : Type} (W : Nat → Nat → σ → Prop) (I : Nat → σ → Prop) (hx : ∀ n s, I 0 s → W (n + 1) 0 s)
    (hs : ∀ n i s, I (i + 1) s → (∀ s', I i s' → W n i s') → W (n + 1) (i + 1) s) : ∀ (e : Nat) (s : σ), I e s → W (e + 1) e s := by
  intro e
  induction e with
  | zero => exact fun s h => hx 0 s h
  | succ e ih => exact fun s h => hs (e + 1) e s h (fun s' h' => ih s' h')
theorem lp1 {A1 : Type} (W : Nat → A1 → Prop) (I : A1 → Prop) (μ : A1 → Nat) (hs : ∀ (n : Nat) (a1 : A1), I a1 → (∀ (b1 : A1), I b1 → μ b1 < μ a1 → W n b1) → W (n + 1) a1) (a1 : A1) (h : I a1) : ∃ n, W n a1 :=
  loop_m (σ := A1) (fun n s => W n s) (fun s => I s) (fun s => μ s) (fun n s hI hk => hs n s hI (fun b1 h9 hm => hk b1 h9 hm)) a1 h
theorem lp2 {A1 A2 : Type} (W : Nat → A1 → A2 → Prop) (I : A1 → A2 → Prop) (μ : A1 → A2 → Nat) (hs : ∀ (n : Nat) (a1 : A1) (a2 : A2), I a1 a2 → (∀ (b1 : A1) (b2 : A2), I b1 b2 → μ b1 b2 < μ a1 a2 → W n b1 b2) → W (n + 1) a1 a2) (a1 : A1) (a2 : A2) (h : I a1 a2) : ∃ n, W n a1 a2 :=
  loop_m (σ := A1 × A2) (fun n s => W n s.1 s.2) (fun s => I s.1 s.2) (fun s => μ s.1 s.2) (fun n s hI hk => hs n s.1 s.2 hI (fun b1 b2 h9 hm => hk (b1, b2) h9 hm)) (a1, a2) h
theorem lp3 {A1 A2 A3 : Type} (W : Nat → A1 → A2 → A3 → Prop) (I : A1 → A2 → A3 → Prop) (μ : A1 → A2 → A3 → Nat) (hs : ∀ (n : Nat) (a1 : A1) (a2 : A2) (a3 : A3), I a1 a2 a3 → (∀ (b1 : A1) (b2 : A2) (b3 : A3), I b1 b2 b3 → μ b1 b2 b3 < μ a1 a2 a3 → W n b1 b2 b3) → W (n + 1) a1 a2 a3) (a1 : A1) (a2 : A2) (a3 : A3) (h : I a1 a2 a3) : ∃ n, W n a1 a2 a3 :=
  loop_m (σ := A1 × A2 × A3) (fun n s => W n s.1 s.2.1 s.2.2) (fun s => I s.1 s.2.1 s.2.2) (fun s => μ s.1 s.2.1 s.2.2) (fun n s hI hk => hs n s.1 s.2.1 s.2.2 hI (fun b1 b2 b3 h9 hm => hk (b1, b2, b3) h9 hm)) (a1, a2, a3) h
theorem lp4 {A1 A2 A3 A4 : Type} (W : Nat → A1 → A2 → A3 → A4 → Prop) (I : A1 → A2 → A3 → A4 → Prop) (μ : A1 → A2 → A3 → A4 → Nat) (hs : ∀ (n : Nat) (a1 : A1) (a2 : A2) (a3 : A3) (a4 : A4), I a1 a2 a3 a4 → (∀ (b1 : A1) (b2 : A2) (b3 : A3) (b4 : A4), I b1 b2 b3 b4 → μ b1 b2 b3 b4 < μ a1 a2 a3 a4 → W n b1 b2 b3 b4) → W (n + 1) a1 a2 a3 a4) (a1 : A1) (a2 : A2) (a3 : A3) (a4 : A4) (h : I a1 a2 a3 a4) : ∃ n, W n a1 a2 a3 a4 :=
  loop_m (σ := A1 × A2 × A3 × A4) (fun n s => W n s.1 s.2.1 s.2.2.1 s.2.2.2) (fun s => I s.1 s.2.1 s.2.2.1 s.2.2.2) (fun s => μ s.1 s.2.1 s.2.2.1 s.2.2.2) (fun n s hI hk => hs n s.1 s.2.1 s.2.2.1 s.2.2.2 hI (fun b1 b2 b3 b4 h9 hm => hk (b1, b2, b3, b4) h9 hm)) (a1, a2, a3, a4) h
theorem lp5 {A1 A2 A3 A4 A5 : Type} (W : Nat → A1 → A2 → A3 → A4 → A5 → Prop) (I : A1 → A2 → A3 → A4 → A5 → Prop) (μ : A1 → A2 → A3 → A4 → A5 → Nat) (hs : ∀ (n : Nat) (a1 : A1) (a2 : A2) (a3 : A3) (a4 : A4) (a5 : A5), I a1 a2 a3 a4 a5 → (∀ (b1 : A1) (b2 : A2) (b3 : A3) (b4 : A4) (b5 : A5), I b1 b2 b3 b4 b5 → μ b1 b2 b3 b4 b5 < μ a1 a2 a3 a4 a5 → W n b1 b2 b3 b4 b5) → W (n + 1) a1 a2 a3 a4 a5) (a1 : A1) (a2 : A2) (a3 : A3) (a4 : A4) (a5 : A5) (h : I a1 a2 a3 a4 a5) : ∃ n, W n a1 a2 a3 a4 a5 :=
  loop_m (σ := A1 × A2 × A3 × A4 × A5) (fun n s => W n s.1 s.2.1 s.2.2.1 s.2.2.2.1 s.2.2.2.2) (fun s => I s.1 s.2.1 s.2.2.1 s.2.2.2.1 s.2.2.2.2) (fun s => μ s.1 s.2.1 s.2.2.1 s.2.2.2.1 s.2.2.2.2) (fun n s hI hk => hs n s.1 s.2.1 s.2.2.1 s.2.2.2.1 s.2.2.2.2 hI (fun b1 b2 b3 b4 b5 h9 hm => hk (b1, b2, b3, b4, b5) h9 hm)) (a1, a2, a3, a4, a5) h
theorem lp6 {A1 A2 A3 A4 A5 A6 : Type} (W : Nat → A1 → A2 → A3 → A4 → A5 → A6 → Prop) (I : A1 → A2 → A3 → A4 → A5 → A6 → Prop) (μ : A1 → A2 → A3 → A4 → A5 → A6 → Nat) (hs : ∀ (n : Nat) (a1 : A1) (a2 : A2) (a3 : A3) (a4 : A4) (a5 : A5) (a6 : A6), I a1 a2 a3 a4 a5 a6 → (∀ (b1 : A1) (b2 : A2) (b3 : A3) (b4 : A4) (b5 : A5) (b6 : A6), I b1 b2 b3 b4 b5 b6 → μ b1 b2 b3 b4 b5 b6 < μ a1 a2 a3 a4 a5 a6 → W n b1 b2 b3 b4 b5 b6) → W (n + 1) a1 a2 a3 a4 a5 a6) (a1 : A1) (a2 : A2) (a3 : A3) (a4 : A4) (a5 : A5) (a6 : A6) (h : I a1 a2 a3 a4 a5 a6) : ∃ n, W n a1 a2 a3 a4 a5 a6 :=
  loop_m (σ := A1 × A2 × A3 × A4 × A5 × A6) (fun n s => W n s.1 s.2.1 s.2.2.1 s.2.2.2.1 s.2.2.2.2.1 s.2.2.2.2.2) (fun s => I s.1 s.2.1 s.2.2.1 s.2.2.2.1 s.2.2.2.2.1 s.2.2.2.2.2) (fun s => μ s.1 s.2.1 s.2.2.1 s.2.2.2.1 s.2.2.2.2.1 s.2.2.2.2.2) (fun n s hI hk => hs n s.1 s.2.1 s.2.2.1 s.2.2.2.1 s.2.2.2.2.1 s.2.2.2.2.2 hI (fun b1 b2 b3 b4 b5 b6 h9 hm => hk (b1, b2, b3, b4, b5, b6) h9 hm)) (a1, a2, a3, a4, a5, a6) h
theorem lp7 {A1 A2 A3 A4 A5 A6 A7 : Type} (W : Nat → A1 → A2 → A3 → A4 → A5 → A6 → A7 → Prop) (I : A1 → A2 → A3 → A4 → A5 → A6 → A7 → Prop) (μ : A1 → A2 → A3 → A4 → A5 → A6 → A7 → Nat) (hs : ∀ (n : Nat) (a1 : A1) (a2 : A2) (a3 : A3) (a4 : A4) (a5 : A5) (a6 : A6) (a7 : A7), I a1 a2 a3 a4 a5 a6 a7 → (∀ (b1 : A1) (b2 : A2) (b3 : A3) (b4 : A4) (b5 : A5) (b6 : A6) (b7 : A7), I b1 b2 b3 b4 b5 b6 b7 → μ b1 b2 b3 b4 b5 b6 b7 < μ a1 a2 a3 a4 a5 a6 a7 → W n b1 b2 b3 b4 b5 b6 b7) → W (n + 1) a1 a2 a3 a4 a5 a6 a7) (a1 : A1) (a2 : A2) (a3 : A3) (a4 : A4) (a5 : A5) (a6 : A6) (a7 : A7) (h : I a1 a2 a3 a4 a5 a6 a7) : ∃ n, W n a1 a2 a3 a4 a5 a6 a7 :=
  loop_m (σ := A1 × A2 × A3 × A4 × A5 × A6 × A7) (fun n s => W n s.1 s.2.1 s.2.2.1 s.2.2.2.1 s.2.2.2.2.1 s.2.2.2.2.2.1 s.2.2.2.2.2.2) (fun s => I s.1 s.2.1 s.2.2.1 s.2.2.2.1 s.2.2.2.2.1 s.2.2.2.2.2.1 s.2.2.2.2.2.2) (fun s => μ s.1 s.2.1 s.2.2.1 s.2.2.2.1 s.2.2.2.2.1 s.2.2.2.2.2.1 s.2.2.2.2.2.2) (fun n s hI hk => hs n s.1 s.2.1 s.2.2.1 s.2.2.2.1 s.2.2.2.2.1 s.2.2.2.2.2.1 s.2.2.2.2.2.2 hI (fun b1 b2 b3 b4 b5 b6 b7 h9 hm => hk (b1, b2, b3, b4, b5, b6, b7) h9 hm)) (a1, a2, a3, a4, a5, a6, a7) h
theorem lp8 {A1 A2 A3 A4 A5 A6 A7 A8 : Type} (W : Nat → A1 → A2 → A3 → A4 → A5 → A6 → A7 → A8 → Prop) (I : A1 → A2 → A3 → A4 → A5 → A6 → A7 → A8 → Prop) (μ : A1 → A2 → A3 → A4 → A5 → A6 → A7 → A8 → Nat) (hs : ∀ (n : Nat) (a1 : A1) (a2 : A2) (a3 : A3) (a4 : A4) (a5 : A5) (a6 : A6) (a7 : A7) (a8 : A8), I a1 a2 a3 a4 a5 a6 a7 a8 → (∀ (b1 : A1) (b2 : A2) (b3 : A3) (b4 : A4) (b5 : A5) (b6 : A6) (b7 : A7) (b8 : A8), I b1 b2 b3 b4 b5 b6 b7 b8 → μ b1 b2 b3 b4 b5 b6 b7 b8 < μ a1 a2 a3 a4 a5 a6 a7 a8 → W n b1 b2 b3 b4 b5 b6 b7 b8) → W (n + 1) a1 a2 a3 a4 a5 a6 a7 a8) (a1 : A1) (a2 : A2) (a3 : A3) (a4 : A4) (a5 : A5) (a6 : A6) (a7 : A7) (a8 : A8) (h : I a1 a2 a3 a4 a5 a6 a7 a8) : ∃ n, W n a1 a2 a3 a4 a5 a6 a7 a8 :=
  loop_m (σ := A1 × A2 × A3 × A4 × A5 × A6 × A7 × A8) (fun n s => W n s.1 s.2.1 s.2.2.1 s.2.2.2.1 s.2.2.2.2.1 s.2.2.2.2.2.1 s.2.2.2.2.2.2.1 s.2.2.2.2.2.2.2) (fun s => I s.1 s.2.1 s.2.2.1 s.2.2.2.1 s.2.2.2.2.1 s.2.2.2.2.2.1 s.2.2.2.2.2.2.1 s.2.2.2.2.2.2.2) (fun s => μ s.1 s.2.1 s.2.2.1 s.2.2.2.1 s.2.2.2.2.1 s.2.2.2.2.2.1 s.2.2.2.2.2.2.1 s.2.2.2.2.2.2.2) (fun n s hI hk => hs n s.1 s.2.1 s.2.2.1 s.2.2.2.1 s.2.2.2.2.1 s.2.2.2.2.2.1 s.2.2.2.2.2.2.1 s.2.2.2.2.2.2.2 hI (fun b1 b2 b3 b4 b5 b6 b7 b8 h9 hm => hk (b1, b2, b3, b4, b5, b6, b7, b8) h9 hm)) (a1, a2, a3, a4, a5, a6, a7, a8) h
theorem lp9 {A1 A2 A3 A4 A5 A6 A7 A8 A9 : Type} (W : Nat → A1 → A2 → A3 → A4 → A5 → A6 → A7 → A8 → A9 → Prop) (I : A1 → A2 → A3 → A4 → A5 → A6 → A7 → A8 → A9 → Prop) (μ : A1 → A2 → A3 → A4 → A5 → A6 → A7 → A8 → A9 → Nat) (hs : ∀ (n : Nat) (a1 : A1) (a2 : A2) (a3 : A3) (a4 : A4) (a5 : A5) (a6 : A6) (a7 : A7) (a8 : A8) (a9 : A9), I a1 a2 a3 a4 a5 a6 a7 a8 a9 → (∀ (b1 : A1) (b2 : A2) (b3 : A3) (b4 : A4) (b5 : A5) (b6 : A6) (b7 : A7) (b8 : A8) (b9 : A9), I b1 b2 b3 b4 b5 b6 b7 b8 b9 → μ b1 b2 b3 b4 b5 b6 b7 b8 b9 < μ a1 a2 a3 a4 a5 a6 a7 a8 a9 → W n b1 b2 b3 b4 b5 b6 b7 b8 b9) → W (n + 1) a1 a2 a3 a4 a5 a6 a7 a8 a9) (a1 : A1) (a2 : A2) (a3 : A3) (a4 : A4) (a5 : A5) (a6 : A6) (a7 : A7) (a8 : A8) (a9 : A9) (h : I a1 a2 a3 a4 a5 a6 a7 a8 a9) : ∃ n, W n a1 a2 a3 a4 a5 a6 a7 a8 a9 :=
  loop_m (σ := A1 × A2 × A3 × A4 × A5 × A6 × A7 × A8 × A9) (fun n s => W n s.1 s.2.1 s.2.2.1 s.2.2.2.1 s.2.2.2.2.1 s.2.2.2.2.2.1 s.2.2.2.2.2.2.1 s.2.2.2.2.2.2.2.1 s.2.2.2.2.2.2.2.2) (fun s => I s.1 s.2.1 s.2.2.1 s.2.2.2.1 s.2.2.2.2.1 s.2.2.2.2.2.1 s.2.2.2.2.2.2.1 s.2.2.2.2.2.2.2.1 s.2.2.2.2.2.2.2.2) (fun s => μ s.1 s.2.1 s.2.2.1 s.2.2.2.1 s.2.2.2.2.1 s.2.2.2.2.2.1 s.2.2.2.2.2.2.1 s.2.2.2.2.2.2.2.1 s.2.2.2.2.2.2.2.2) (fun n s hI hk => hs n s.1 s.2.1 s.2.2.1 s.2.2.2.1 s.2.2.2.2.1 s.2.2.2.2.2.1 s.2.2.2.2.2.2.1 s.2.2.2.2.2.2.2.1 s.2.2.2.2.2.2.2.2 hI (fun b1 b2 b3 b4 b5 b6 b7 b8 b9 h9 hm => hk (b1, b2, b3, b4, b5, b6, b7, b8, b9) h9 hm)) (a1, a2, a3, a4, a5, a6, a7, a8, a9) h
theorem lp10 {A1 A2 A3 A4 A5 A6 A7 A8 A9 A10 : Type} (W : Nat → A1 → A2 → A3 → A4 → A5 → A6 → A7 → A8 → A9 → A10 → Prop) (I : A1 → A2 → A3 → A4 → A5 → A6 → A7 → A8 → A9 → A10 → Prop) (μ : A1 → A2 → A3 → A4 → A5 → A6 → A7 → A8 → A9 → A10 → Nat) (hs : ∀ (n : Nat) (a1 : A1) (a2 : A2) (a3 : A3) (a4 : A4) (a5 : A5) (a6 : A6) (a7 : A7) (a8 : A8) (a9 : A9) (a10 : A10), I a1 a2 a3 a4 a5 a6 a7 a8 a9 a10 → (∀ (b1 : A1) (b2 : A2) (b3 : A3) (b4 : A4) (b5 : A5) (b6 : A6) (b7 : A7) (b8 : A8) (b9 : A9) (b10 : A10), I b1 b2 b3 b4 b5 b6 b7 b8 b9 b10 → μ b1 b2 b3 b4 b5 b6 b7 b8 b9 b10 < μ a1 a2 a3 a4 a5 a6 a7 a8 a9 a10 → W n b1 b2 b3 b4 b5 b6 b7 b8 b9 b10) → W (n + 1) a1 a2 a3 a4 a5 a6 a7 a8 a9 a10) (a1 : A1) (a2 : A2) (a3 : A3) (a4 : A4) (a5 : A5) (a6 : A6) (a7 : A7) (a8 : A8) (a9 : A9) (a10 : A10) (h : I a1 a2 a3 a4 a5 a6 a7 a8 a9 a10) : ∃ n, W n a1 a2 a3 a4 a5 a6 a7 a8 a9 a10 :=
  loop_m (σ := A1 × A2 × A3 × A4 × A5 × A6 × A7 × A8 × A9 × A10) (fun n s => W n s.1 s.2.1 s.2.2.1 s.2.2.2.1 s.2.2.2.2.1 s.2.2.2.2.2.1 s.2.2.2.2.2.2.1 s.2.2.2.2.2.2.2.1 s.2.2.2.2.2.2.2.2.1 s.2.2.2.2.2.2.2.2.2) (fun s => I s.1 s.2.1 s.2.2.1 s.2.2.2.1 s.2.2.2.2.1 s.2.2.2.2.2.1 s.2.2.2.2.2.2.1 s.2.2.2.2.2.2.2.1 s.2.2.2.2.2.2.2.2.1 s.2.2.2.2.2.2.2.2.2) (fun s => μ s.1 s.2.1 s.2.2.1 s.2.2.2.1 s.2.2.2.2.1 s.2.2.2.2.2.1 s.2.2.2.2.2.2.1 s.2.2.2.2.2.2.2.1 s.2.2.2.2.2.2.2.2.1 s.2.2.2.2.2.2.2.2.2) (fun n s hI hk => hs n s.1 s.2.1 s.2.2.1 s.2.2.2.1 s.2.2.2.2.1 s.2.2.2.2.2.1 s.2.2.2.2.2.2.1 s.2.2.2.2.2.2.2.1 s.2.2.2.2.2.2.2.2.1 s.2.2.2.2.2.2.2.2.2 hI (fun b1 b2 b3 b4 b5 b6 b7 b8 b9 b10 h9 hm => hk (b1, b2, b3, b4, b5, b6, b7, b8, b9, b10) h9 hm)) (a1, a2, a3, a4, a5, a6, a7, a8, a9, a10) h
theorem lp11 {A1 A2 A3 A4 A5 A6 A7 A8 A9 A10 A11 : Type} (W : Nat → A1 → A2 → A3 → A4 → A5 → A6 → A7 → A8 → A9 → A10 → A11 → Prop) (I : A1 → A2 → A3 → A4 → A5 → A6 → A7 → A8 → A9 → A10 → A11 → Prop) (μ : A1 → A2 → A3 → A4 → A5 → A6 → A7 → A8 → A9 → A10 → A11 → Nat) (hs : ∀ (n : Nat) (a1 : A1) (a2 : A2) (a3 : A3) (a4 : A4) (a5 : A5) (a6 : A6) (a7 : A7) (a8 : A8) (a9 : A9) (a10 : A10) (a11 : A11), I a1 a2 a3 a4 a5 a6 a7 a8 a9 a10 a11 → (∀ (b1 : A1) (b2 : A2) (b3 : A3) (b4 : A4) (b5 : A5) (b6 : A6) (b7 : A7) (b8 : A8) (b9 : A9) (b10 : A10) (b11 : A11), I b1 b2 b3 b4 b5 b6 b7 b8 b9 b10 b11 → μ b1 b2 b3 b4 b5 b6 b7 b8 b9 b10 b11 < μ a1 a2 a3 a4 a5 a6 a7 a8 a9 a10 a11 → W n b1 b2 b3 b4 b5 b6 b7 b8 b9 b10 b11) → W (n + 1) a1 a2 a3 a4 a5 a6 a7 a8 a9 a10 a11) (a1 : A1) (a2 : A2) (a3 : A3) (a4 : A4) (a5 : A5) (a6 : A6) (a7 : A7) (a8 : A8) (a9 : A9) (a10 : A10) (a11 : A11) (h : I a1 a2 a3 a4 a5 a6 a7 a8 a9 a10 a11) : ∃ n, W n a1 a2 a3 a4 a5 a6 a7 a8 a9 a10 a11 :=
  loop_m (σ := A1 × A2 × A3 × A4 × A5 × A6 × A7 × A8 × A9 × A10 × A11) (fun n s => W n s.1 s.2.1 s.2.2.1 s.2.2.2.1 s.2.2.2.2.1 s.2.2.2.2.2.1 s.2.2.2.2.2.2.1 s.2.2.2.2.2.2.2.1 s.2.2.2.2.2.2.2.2.1 s.2.2.2.2.2.2.2.2.2.1 s.2.2.2.2.2.2.2.2.2.2) (fun s => I s.1 s.2.1 s.2.2.1 s.2.2.2.1 s.2.2.2.2.1 s.2.2.2.2.2.1 s.2.2.2.2.2.2.1 s.2.2.2.2.2.2.2.1 s.2.2.2.2.2.2.2.2.1 s.2.2.2.2.2.2.2.2.2.1 s.2.2.2.2.2.2.2.2.2.2) (fun s => μ s.1 s.2.1 s.2.2.1 s.2.2.2.1 s.2.2.2.2.1 s.2.2.2.2.2.1 s.2.2.2.2.2.2.1 s.2.2.2.2.2.2.2.1 s.2.2.2.2.2.2.2.2.1 s.2.2.2.2.2.2.2.2.2.1 s.2.2.2.2.2.2.2.2.2.2) (fun n s hI hk => hs n s.1 s.2.1 s.2.2.1 s.2.2.2.1 s.2.2.2.2.1 s.2.2.2.2.2.1 s.2.2.2.2.2.2.1 s.2.2.2.2.2.2.2.1 s.2.2.2.2.2.2.2.2.1 s.2.2.2.2.2.2.2.2.2.1 s.2.2.2.2.2.2.2.2.2.2 hI (fun b1 b2 b3 b4 b5 b6 b7 b8 b9 b10 b11 h9 hm => hk (b1, b2, b3, b4, b5, b6, b7, b8, b9, b10, b11) h9 hm)) (a1, a2, a3, a4, a5, a6, a7, a8, a9, a10, a11) h
theorem lp12 {A1 A2 A3 A4 A5 A6 A7 A8 A9 A10 A11 A12 : Type} (W : Nat → A1 → A2 → A3 → A4 → A5 → A6 → A7 → A8 → A9 → A10 → A11 → A12 → Prop) (I : A1 → A2 → A3 → A4 → A5 → A6 → A7 → A8 → A9 → A10 → A11 → A12 → Prop) (μ : A1 → A2 → A3 → A4 → A5 → A6 → A7 → A8 → A9 → A10 → A11 → A12 → Nat) (hs : ∀ (n : Nat) (a1 : A1) (a2 : A2) (a3 : A3) (a4 : A4) (a5 : A5) (a6 : A6) (a7 : A7) (a8 : A8) (a9 : A9) (a10 : A10) (a11 : A11) (a12 : A12), I a1 a2 a3 a4 a5 a6 a7 a8 a9 a10 a11 a12 → (∀ (b1 : A1) (b2 : A2) (b3 : A3) (b4 : A4) (b5 : A5) (b6 : A6) (b7 : A7) (b8 : A8) (b9 : A9) (b10 : A10) (b11 : A11) (b12 : A12), I b1 b2 b3 b4 b5 b6 b7 b8 b9 b10 b11 b12 → μ b1 b2 b3 b4 b5 b6 b7 b8 b9 b10 b11 b12 < μ a1 a2 a3 a4 a5 a6 a7 a8 a9 a10 a11 a12 → W n b1 b2 b3 b4 b5 b6 b7 b8 b9 b10 b11 b12) → W (n + 1) a1 a2 a3 a4 a5 a6 a7 a8 a9 a10 a11 a12) (a1 : A1) (a2 : A2) (a3 : A3) (a4 : A4) (a5 : A5) (a6 : A6) (a7 : A7) (a8 : A8) (a9 : A9) (a10 : A10) (a11 : A11) (a12 : A12) (h : I a1 a2 a3 a4 a5 a6 a7 a8 a9 a10 a11 a12) : ∃ n, W n a1 a2 a3 a4 a5 a6 a7 a8 a9 a10 a11 a12 :=
  loop_m (σ := A1 × A2 × A3 × A4 × A5 × A6 × A7 × A8 × A9 × A10 × A11 × A12) (fun n s => W n s.1 s.2.1 s.2.2.1 s.2.2.2.1 s.2.2.2.2.1 s.2.2.2.2.2.1 s.2.2.2.2.2.2.1 s.2.2.2.2.2.2.2.1 s.2.2.2.2.2.2.2.2.1 s.2.2.2.2.2.2.2.2.2.1 s.2.2.2.2.2.2.2.2.2.2.1 s.2.2.2.2.2.2.2.2.2.2.2) (fun s => I s.1 s.2.1 s.2.2.1 s.2.2.2.1 s.2.2.2.2.1 s.2.2.2.2.2.1 s.2.2.2.2.2.2.1 s.2.2.2.2.2.2.2.1 s.2.2.2.2.2.2.2.2.1 s.2.2.2.2.2.2.2.2.2.1 s.2.2.2.2.2.2.2.2.2.2.1 s.2.2.2.2.2.2.2.2.2.2.2) (fun s => μ s.1 s.2.1 s.2.2.1 s.2.2.2.1 s.2.2.2.2.1 s.2.2.2.2.2.1 s.2.2.2.2.2.2.1 s.2.2.2.2.2.2.2.1 s.2.2.2.2.2.2.2.2.1 s.2.2.2.2.2.2.2.2.2.1 s.2.2.2.2.2.2.2.2.2.2.1 s.2.2.2.2.2.2.2.2.2.2.2) (fun n s hI hk => hs n s.1 s.2.1 s.2.2.1 s.2.2.2.1 s.2.2.2.2.1 s.2.2.2.2.2.1 s.2.2.2.2.2.2.1 s.2.2.2.2.2.2.2.1 s.2.2.2.2.2.2.2.2.1 s.2.2.2.2.2.2.2.2.2.1 s.2.2.2.2.2.2.2.2.2.2.1 s.2.2.2.2.2.2.2.2.2.2.2 hI (fun b1 b2 b3 b4 b5 b6 b7 b8 b9 b10 b11 b12 h9 hm => hk (b1, b2, b3, b4, b5, b6, b7, b8, b9, b10, b11, b12) h9 hm)) (a1, a2, a3, a4, a5, a6, a7, a8, a9, a10, a11, a12) h
theorem lp13 {A1 A2 A3 A4 A5 A6 A7 A8 A9 A10 A11 A12 A13 : Type} (W : Nat → A1 → A2 → A3 → A4 → A5 → A6 → A7 → A8 → A9 → A10 → A11 → A12 → A13 → Prop) (I : A1 → A2 → A3 → A4 → A5 → A6 → A7 → A8 → A9 → A10 → A11 → A12 → A13 → Prop) (μ : A1 → A2 → A3 → A4 → A5 → A6 → A7 → A8 → A9 → A10 → A11 → A12 → A13 → Nat) (hs : ∀ (n : Nat) (a1 : A1) (a2 : A2) (a3 : A3) (a4 : A4) (a5 : A5) (a6 : A6) (a7 : A7) (a8 : A8) (a9 : A9) (a10 : A10) (a11 : A11) (a12 : A12) (a13 : A13), I a1 a2 a3 a4 a5 a6 a7 a8 a9 a10 a11 a12 a13 → (∀ (b1 : A1) (b2 : A2) (b3 : A3) (b4 : A4) (b5 : A5) (b6 : A6) (b7 : A7) (b8 : A8) (b9 : A9) (b10 : A10) (b11 : A11) (b12 : A12) (b13 : A13), I b1 b2 b3 b4 b5 b6 b7 b8 b9 b10 b11 b12 b13 → μ b1 b2 b3 b4 b5 b6 b7 b8 b9 b10 b11 b12 b13 < μ a1 a2 a3 a4 a5 a6 a7 a8 a9 a10 a11 a12 a13 → W n b1 b2 b3 b4 b5 b6 b7 b8 b9 b10 b11 b12 b13) → W (n + 1) a1 a2 a3 a4 a5 a6 a7 a8 a9 a10 a11 a12 a13) (a1 : A1) (a2 : A2) (a3 : A3) (a4 : A4) (a5 : A5) (a6 : A6) (a7 : A7) (a8 : A8) (a9 : A9) (a10 : A10) (a11 : A11) (a12 : A12) (a13 : A13) (h : I a1 a2 a3 a4 a5 a6 a7 a8 a9 a10 a11 a12 a13) : ∃ n, W n a1 a2 a3 a4 a5 a6 a7 a8 a9 a10 a11 a12 a13 :=
  loop_m (σ := A1 × A2 × A3 × A4 × A5 × A6 × A7 × A8 × A9 × A10 × A11 × A12 × A13) (fun n s => W n s.1 s.2.1 s.2.2.1 s.2.2.2.1 s.2.2.2.2.1 s.2.2.2.2.2.1 s.2.2.2.2.2.2.1 s.2.2.2.2.2.2.2.1 s.2.2.2.2.2.2.2.2.1 s.2.2.2.2.2.2.2.2.2.1 s.2.2.2.2.2.2.2.2.2.2.1 s.2.2.2.2.2.2.2.2.2.2.2.1 s.2.2.2.2.2.2.2.2.2.2.2.2) (fun s => I s.1 s.2.1 s.2.2.1 s.2.2.2.1 s.2.2.2.2.1 s.2.2.2.2.2.1 s.2.2.2.2.2.2.1 s.2.2.2.2.2.2.2.1 s.2.2.2.2.2.2.2.2.1 s.2.2.2.2.2.2.2.2.2.1 s.2.2.2.2.2.2.2.2.2.2.1 s.2.2.2.2.2.2.2.2.2.2.2.1 s.2.2.2.2.2.2.2.2.2.2.2.2) (fun s => μ s.1 s.2.1 s.2.2.1 s.2.2.2.1 s.2.2.2.2.1 s.2.2.2.2.2.1 s.2.2.2.2.2.2.1 s.2.2.2.2.2.2.2.1 s.2.2.2.2.2.2.2.2.1 s.2.2.2.2.2.2.2.2.2.1 s.2.2.2.2.2.2.2.2.2.2.1 s.2.2.2.2.2.2.2.2.2.2.2.1 s.2.2.2.2.2.2.2.2.2.2.2.2) (fun n s hI hk => hs n s.1 s.2.1 s.2.2.1 s.2.2.2.1 s.2.2.2.2.1 s.2.2.2.2.2.1 s.2.2.2.2.2.2.1 s.2.2.2.2.2.2.2.1 s.2.2.2.2.2.2.2.2.1 s.2.2.2.2.2.2.2.2.2.1 s.2.2.2.2.2.2.2.2.2.2.1 s.2.2.2.2.2.2.2.2.2.2.2.1 s.2.2.2.2.2.2.2.2.2.2.2.2 hI (fun b1 b2 b3 b4 b5 b6 b7 b8 b9 b10 b11 b12 b13 h9 hm => hk (b1, b2, b3, b4, b5, b6, b7, b8, b9, b10, b11, b12, b13) h9 hm)) (a1, a2, a3, a4, a5, a6, a7, a8, a9, a10, a11, a12, a13) h
theorem lp14 {A1 A2 A3 A4 A5 A6 A7 A8 A9 A10 A11 A12 A13 A14 : Type} (W : Nat → A1 → A2 → A3 → A4 → A5 → A6 → A7 → A8 → A9 → A10 → A11 → A12 → A13 → A14 → Prop) (I : A1 → A2 → A3 → A4 → A5 → A6 → A7 → A8 → A9 → A10 → A11 → A12 → A13 → A14 → Prop) (μ : A1 → A2 → A3 → A4 → A5 → A6 → A7 → A8 → A9 → A10 → A11 → A12 → A13 → A14 → Nat) (hs : ∀ (n : Nat) (a1 : A1) (a2 : A2) (a3 : A3) (a4 : A4) (a5 : A5) (a6 : A6) (a7 : A7) (a8 : A8) (a9 : A9) (a10 : A10) (a11 : A11) (a12 : A12) (a13 : A13) (a14 : A14), I a1 a2 a3 a4 a5 a6 a7 a8 a9 a10 a11 a12 a13 a14 → (∀ (b1 : A1) (b2 : A2) (b3 : A3) (b4 : A4) (b5 : A5) (b6 : A6) (b7 : A7) (b8 : A8) (b9 : A9) (b10 : A10) (b11 : A11) (b12 : A12) (b13 : A13) (b14 : A14), I b1 b2 b3 b4 b5 b6 b7 b8 b9 b10 b11 b12 b13 b14 → μ b1 b2 b3 b4 b5 b6 b7 b8 b9 b10 b11 b12 b13 b14 < μ a1 a2 a3 a4 a5 a6 a7 a8 a9 a10 a11 a12 a13 a14 → W n b1 b2 b3 b4 b5 b6 b7 b8 b9 b10 b11 b12 b13 b14) → W (n + 1) a1 a2 a3 a4 a5 a6 a7 a8 a9 a10 a11 a12 a13 a14) (a1 : A1) (a2 : A2) (a3 : A3) (a4 : A4) (a5 : A5) (a6 : A6) (a7 : A7) (a8 : A8) (a9 : A9) (a10 : A10) (a11 : A11) (a12 : A12) (a13 : A13) (a14 : A14) (h : I a1 a2 a3 a4 a5 a6 a7 a8 a9 a10 a11 a12 a13 a14) : ∃ n, W n a1 a2 a3 a4 a5 a6 a7 a8 a9 a10 a11 a12 a13 a14 :=
  loop_m (σ := A1 × A2 × A3 × A4 × A5 × A6 × A7 × A8 × A9 × A10 × A11 × A12 × A13 × A14) (fun n s => W n s.1 s.2.1 s.2.2.1 s.2.2.2.1 s.2.2.2.2.1 s.2.2.2.2.2.1 s.2.2.2.2.2.2.1 s.2.2.2.2.2.2.2.1 s.2.2.2.2.2.2.2.2.1 s.2.2.2.2.2.2.2.2.2.1 s.2.2.2.2.2.2.2.2.2.2.1 s.2.2.2.2.2.2.2.2.2.2.2.1 s.2.2.2.2.2.2.2.2.2.2.2.2.1 s.2.2.2.2.2.2.2.2.2.2.2.2.2) (fun s => I s.1 s.2.1 s.2.2.1 s.2.2.2.1 s.2.2.2.2.1 s.2.2.2.2.2.1 s.2.2.2.2.2.2.1 s.2.2.2.2.2.2.2.1 s.2.2.2.2.2.2.2.2.1 s.2.2.2.2.2.2.2.2.2.1 s.2.2.2.2.2.2.2.2.2.2.1 s.2.2.2.2.2.2.2.2.2.2.2.1 s.2.2.2.2.2.2.2.2.2.2.2.2.1 s.2.2.2.2.2.2.2.2.2.2.2.2.2) (fun s => μ s.1 s.2.1 s.2.2.1 s.2.2.2.1 s.2.2.2.2.1 s.2.2.2.2.2.1 s.2.2.2.2.2.2.1 s.2.2.2.2.2.2.2.1 s.2.2.2.2.2.2.2.2.1 s.2.2.2.2.2.2.2.2.2.1 s.2.2.2.2.2.2.2.2.2.2.1 s.2.2.2.2.2.2.2.2.2.2.2.1 s.2.2.2.2.2.2.2.2.2.2.2.2.1 s.2.2.2.2.2.2.2.2.2.2.2.2.2) (fun n s hI hk => hs n s.1 s.2.1 s.2.2.1 s.2.2.2.1 s.2.2.2.2.1 s.2.2.2.2.2.1 s.2.2.2.2.2.2.1 s.2.2.2.2.2.2.2.1 s.2.2.2.2.2.2.2.2.1 s.2.2.2.2.2.2.2.2.2.1 s.2.2.2.2.2.2.2.2.2.2.1 s.2.2.2.2.2.2.2.2.2.2.2.1 s.2.2.2.2.2.2.2.2.2.2.2.2.1 s.2.2.2.2.2.2.2.2.2.2.2.2.2 hI (fun b1 b2 b3 b4 b5 b6 b7 b8 b9 b10 b11 b12 b13 b14 h9 hm => hk (b1, b2, b3, b4, b5, b6, b7, b8, b9, b10, b11, b12, b13, b14) h9 hm)) (a1, a2, a3, a4, a5, a6, a7, a8, a9, a10, a11, a12, a13, a14) h
theorem lp15 {A1 A2 A3 A4 A5 A6 A7 A8 A9 A10 A11 A12 A13 A14 A15 : Type} (W : Nat → A1 → A2 → A3 → A4 → A5 → A6 → A7 → A8 → A9 → A10 → A11 → A12 → A13 → A14 → A15 → Prop) (I : A1 → A2 → A3 → A4 → A5 → A6 → A7 → A8 → A9 → A10 → A11 → A12 → A13 → A14 → A15 → Prop) (μ : A1 → A2 → A3 → A4 → A5 → A6 → A7 → A8 → A9 → A10 → A11 → A12 → A13 → A14 → A15 → Nat) (hs : ∀ (n : Nat) (a1 : A1) (a2 : A2) (a3 : A3) (a4 : A4) (a5 : A5) (a6 : A6) (a7 : A7) (a8 : A8) (a9 : A9) (a10 : A10) (a11 : A11) (a12 : A12) (a13 : A13) (a14 : A14) (a15 : A15), I a1 a2 a3 a4 a5 a6 a7 a8 a9 a10 a11 a12 a13 a14 a15 → (∀ (b1 : A1) (b2 : A2) (b3 : A3) (b4 : A4) (b5 : A5) (b6 : A6) (b7 : A7) (b8 : A8) (b9 : A9) (b10 : A10) (b11 : A11) (b12 : A12) (b13 : A13) (b14 : A14) (b15 : A15), I b1 b2 b3 b4 b5 b6 b7 b8 b9 b10 b11 b12 b13 b14 b15 → μ b1 b2 b3 b4 b5 b6 b7 b8 b9 b10 b11 b12 b13 b14 b15 < μ a1 a2 a3 a4 a5 a6 a7 a8 a9 a10 a11 a12 a13 a14 a15 → W n b1 b2 b3 b4 b5 b6 b7 b8 b9 b10 b11 b12 b13 b14 b15) → W (n + 1) a1 a2 a3 a4 a5 a6 a7 a8 a9 a10 a11 a12 a13 a14 a15) (a1 : A1) (a2 : A2) (a3 : A3) (a4 : A4) (a5 : A5) (a6 : A6) (a7 : A7) (a8 : A8) (a9 : A9) (a10 : A10) (a11 : A11) (a12 : A12) (a13 : A13) (a14 : A14) (a15 : A15) (h : I a1 a2 a3 a4 a5 a6 a7 a8 a9 a10 a11 a12 a13 a14 a15) : ∃ n, W n a1 a2 a3 a4 a5 a6 a7 a8 a9 a10 a11 a12 a13 a14 a15 :=
  loop_m (σ := A1 × A2 × A3 × A4 × A5 × A6 × A7 × A8 × A9 × A10 × A11 × A12 × A13 × A14 × A15) (fun n s => W n s.1 s.2.1 s.2.2.1 s.2.2.2.1 s.2.2.2.2.1 s.2.2.2.2.2.1 s.2.2.2.2.2.2.1 s.2.2.2.2.2.2.2.1 s.2.2.2.2.2.2.2.2.1 s.2.2.2.2.2.2.2.2.2.1 s.2.2.2.2.2.2.2.2.2.2.1 s.2.2.2.2.2.2.2.2.2.2.2.1 s.2.2.2.2.2.2.2.2.2.2.2.2.1 s.2.2.2.2.2.2.2.2.2.2.2.2.2.1 s.2.2.2.2.2.2.2.2.2.2.2.2.2.2) (fun s => I s.1 s.2.1 s.2.2.1 s.2.2.2.1 s.2.2.2.2.1 s.2.2.2.2.2.1 s.2.2.2.2.2.2.1 s.2.2.2.2.2.2.2.1 s.2.2.2.2.2.2.2.2.1 s.2.2.2.2.2.2.2.2.2.1 s.2.2.2.2.2.2.2.2.2.2.1 s.2.2.2.2.2.2.2.2.2.2.2.1 s.2.2.2.2.2.2.2.2.2.2.2.2.1 s.2.2.2.2.2.2.2.2.2.2.2.2.2.1 s.2.2.2.2.2.2.2.2.2.2.2.2.2.2) (fun s => μ s.1 s.2.1 s.2.2.1 s.2.2.2.1 s.2.2.2.2.1 s.2.2.2.2.2.1 s.2.2.2.2.2.2.1 s.2.2.2.2.2.2.2.1 s.2.2.2.2.2.2.2.2.1 s.2.2.2.2.2.2.2.2.2.1 s.2.2.2.2.2.2.2.2.2.2.1 s.2.2.2.2.2.2.2.2.2.2.2.1 s.2.2.2.2.2.2.2.2.2.2.2.2.1 s.2.2.2.2.2.2.2.2.2.2.2.2.2.1 s.2.2.2.2.2.2.2.2.2.2.2.2.2.2) (fun n s hI hk => hs n s.1 s.2.1 s.2.2.1 s.2.2.2.1 s.2.2.2.2.1 s.2.2.2.2.2.1 s.2.2.2.2.2.2.1 s.2.2.2.2.2.2.2.1 s.2.2.2.2.2.2.2.2.1 s.2.2.2.2.2.2.2.2.2.1 s.2.2.2.2.2.2.2.2.2.2.1 s.2.2.2.2.2.2.2.2.2.2.2.1 s.2.2.2.2.2.2.2.2.2.2.2.2.1 s.2.2.2.2.2.2.2.2.2.2.2.2.2.1 s.2.2.2.2.2.2.2.2.2.2.2.2.2.2 hI (fun b1 b2 b3 b4 b5 b6 b7 b8 b9 b10 b11 b12 b13 b14 b15 h9 hm => hk (b1, b2, b3, b4, b5, b6, b7, b8, b9, b10, b11, b12, b13, b14, b15) h9 hm)) (a1, a2, a3, a4, a5, a6, a7, a8, a9, a10, a11, a12, a13, a14, a15) h
theorem lp16 {A1 A2 A3 A4 A5 A6 A7 A8 A9 A10 A11 A12 A13 A14 A15 A16 : Type} (W : Nat → A1 → A2 → A3 → A4 → A5 → A6 → A7 → A8 → A9 → A10 → A11 → A12 → A13 → A14 → A15 → A16 → Prop) (I : A1 → A2 → A3 → A4 → A5 → A6 → A7 → A8 → A9 → A10 → A11 → A12 → A13 → A14 → A15 → A16 → Prop) (μ : A1 → A2 → A3 → A4 → A5 → A6 → A7 → A8 → A9 → A10 → A11 → A12 → A13 → A14 → A15 → A16 → Nat) (hs : ∀ (n : Nat) (a1 : A1) (a2 : A2) (a3 : A3) (a4 : A4) (a5 : A5) (a6 : A6) (a7 : A7) (a8 : A8) (a9 : A9) (a10 : A10) (a11 : A11) (a12 : A12) (a13 : A13) (a14 : A14) (a15 : A15) (a16 : A16), I a1 a2 a3 a4 a5 a6 a7 a8 a9 a10 a11 a12 a13 a14 a15 a16 → (∀ (b1 : A1) (b2 : A2) (b3 : A3) (b4 : A4) (b5 : A5) (b6 : A6) (b7 : A7) (b8 : A8) (b9 : A9) (b10 : A10) (b11 : A11) (b12 : A12) (b13 : A13) (b14 : A14) (b15 : A15) (b16 : A16), I b1 b2 b3 b4 b5 b6 b7 b8 b9 b10 b11 b12 b13 b14 b15 b16 → μ b1 b2 b3 b4 b5 b6 b7 b8 b9 b10 b11 b12 b13 b14 b15 b16 < μ a1 a2 a3 a4 a5 a6 a7 a8 a9 a10 a11 a12 a13 a14 a15 a16 → W n b1 b2 b3 b4 b5 b6 b7 b8 b9 b10 b11 b12 b13 b14 b15 b16) → W (n + 1) a1 a2 a3 a4 a5 a6 a7 a8 a9 a10 a11 a12 a13 a14 a15 a16) (a1 : A1) (a2 : A2) (a3 : A3) (a4 : A4) (a5 : A5) (a6 : A6) (a7 : A7) (a8 : A8) (a9 : A9) (a10 : A10) (a11 : A11) (a12 : A12) (a13 : A13) (a14 : A14) (a15 : A15) (a16 : A16) (h : I a1 a2 a3 a4 a5 a6 a7 a8 a9 a10 a11 a12 a13 a14 a15 a16) : ∃ n, W n a1 a2 a3 a4 a5 a6 a7 a8 a9 a10 a11 a12 a13 a14 a15 a16 :=
  loop_m (σ := A1 × A2 × A3 × A4 × A5 × A6 × A7 × A8 × A9 × A10 × A11 × A12 × A13 × A14 × A15 × A16) (fun n s => W n s.1 s.2.1 s.2.2.1 s.2.2.2.1 s.2.2.2.2.1 s.2.2.2.2.2.1 s.2.2.2.2.2.2.1 s.2.2.2.2.2.2.2.1 s.2.2.2.2.2.2.2.2.1 s.2.2.2.2.2.2.2.2.2.1 s.2.2.2.2.2.2.2.2.2.2.1 s.2.2.2.2.2.2.2.2.2.2.2.1 s.2.2.2.2.2.2.2.2.2.2.2.2.1 s.2.2.2.2.2.2.2.2.2.2.2.2.2.1 s.2.2.2.2.2.2.2.2.2.2.2.2.2.2.1 s.2.2.2.2.2.2.2.2.2.2.2.2.2.2.2) (fun s => I s.1 s.2.1 s.2.2.1 s.2.2.2.1 s.2.2.2.2.1 s.2.2.2.2.2.1 s.2.2.2.2.2.2.1 s.2.2.2.2.2.2.2.1 s.2.2.2.2.2.2.2.2.1 s.2.2.2.2.2.2.2.2.2.1 s.2.2.2.2.2.2.2.2.2.2.1 s.2.2.2.2.2.2.2.2.2.2.2.1 s.2.2.2.2.2.2.2.2.2.2.2.2.1 s.2.2.2.2.2.2.2.2.2.2.2.2.2.1 s.2.2.2.2.2.2.2.2.2.2.2.2.2.2.1 s.2.2.2.2.2.2.2.2.2.2.2.2.2.2.2) (fun s => μ s.1 s.2.1 s.2.2.1 s.2.2.2.1 s.2.2.2.2.1 s.2.2.2.2.2.1 s.2.2.2.2.2.2.1 s.2.2.2.2.2.2.2.1 s.2.2.2.2.2.2.2.2.1 s.2.2.2.2.2.2.2.2.2.1 s.2.2.2.2.2.2.2.2.2.2.1 s.2.2.2.2.2.2.2.2.2.2.2.1 s.2.2.2.2.2.2.2.2.2.2.2.2.1 s.2.2.2.2.2.2.2.2.2.2.2.2.2.1 s.2.2.2.2.2.2.2.2.2.2.2.2.2.2.1 s.2.2.2.2.2.2.2.2.2.2.2.2.2.2.2) (fun n s hI hk => hs n s.1 s.2.1 s.2.2.1 s.2.2.2.1 s.2.2.2.2.1 s.2.2.2.2.2.1 s.2.2.2.2.2.2.1 s.2.2.2.2.2.2.2.1 s.2.2.2.2.2.2.2.2.1 s.2.2.2.2.2.2.2.2.2.1 s.2.2.2.2.2.2.2.2.2.2.1 s.2.2.2.2.2.2.2.2.2.2.2.1 s.2.2.2.2.2.2.2.2.2.2.2.2.1 s.2.2.2.2.2.2.2.2.2.2.2.2.2.1 s.2.2.2.2.2.2.2.2.2.2.2.2.2.2.1 s.2.2.2.2.2.2.2.2.2.2.2.2.2.2.2 hI (fun b1 b2 b3 b4 b5 b6 b7 b8 b9 b10 b11 b12 b13 b14 b15 b16 h9 hm => hk (b1, b2, b3, b4, b5, b6, b7, b8, b9, b10, b11, b12, b13, b14, b15, b16) h9 hm)) (a1, a2, a3, a4, a5, a6, a7, a8, a9, a10, a11, a12, a13, a14, a15, a16) h
theorem pk_least (P : Nat → Prop) (h : ∃ k, P k) : ∃ k, P k ∧ ∀ j, j < k → ¬ P j := by
  obtain ⟨k, hk⟩ := h
  induction k using Nat.strongRecOn with
  | ind k ih =>
    by_cases e : ∃ j, j < k ∧ P j
    · obtain ⟨j, hj, pj⟩ := e
      exact ih j hj pj
    · exact ⟨k, hk, fun j hj pj => e ⟨j, hj, pj⟩⟩
theorem rp1 {ρ A1 : Type} (W : Nat → (ρ → Prop) → A1 → Prop) (ok : A1 → Prop) (μ : A1 → Nat) (val : A1 → ρ)
    (hs : ∀ (d : Nat) (post : ρ → Prop) (a1 : A1), ok a1 → post (val a1) → (∀ (post' : ρ → Prop) (b1 : A1), ok b1 → μ b1 < μ a1 → post' (val b1) → W d post' b1) → W (d + 1) post a1) :
    ∀ (d : Nat) (post : ρ → Prop) (a1 : A1), ok a1 → μ a1 < d → post (val a1) → W d post a1 := by
  intro d
  induction d with
  | zero => intro post a1 _ h; omega
  | succ d ih =>
    intro post a1 ho hm hp
    exact hs d post a1 ho hp (fun post' b1 ho' hm' hp' => ih post' b1 ho' (by omega) hp')
theorem rp2 {ρ A1 A2 : Type} (W : Nat → (ρ → Prop) → A1 → A2 → Prop) (ok : A1 → A2 → Prop) (μ : A1 → A2 → Nat) (val : A1 → A2 → ρ)
    (hs : ∀ (d : Nat) (post : ρ → Prop) (a1 : A1) (a2 : A2), ok a1 a2 → post (val a1 a2) → (∀ (post' : ρ → Prop) (b1 : A1) (b2 : A2), ok b1 b2 → μ b1 b2 < μ a1 a2 → post' (val b1 b2) → W d post' b1 b2) → W (d + 1) post a1 a2) :
    ∀ (d : Nat) (post : ρ → Prop) (a1 : A1) (a2 : A2), ok a1 a2 → μ a1 a2 < d → post (val a1 a2) → W d post a1 a2 := by
  intro d
  induction d with
  | zero => intro post a1 a2 _ h; omega
  | succ d ih =>
    intro post a1 a2 ho hm hp
    exact hs d post a1 a2 ho hp (fun post' b1 b2 ho' hm' hp' => ih post' b1 b2 ho' (by omega) hp')
theorem rp3 {ρ A1 A2 A3 : Type} (W : Nat → (ρ → Prop) → A1 → A2 → A3 → Prop) (ok : A1 → A2 → A3 → Prop) (μ : A1 → A2 → A3 → Nat) (val : A1 → A2 → A3 → ρ)
    (hs : ∀ (d : Nat) (post : ρ → Prop) (a1 : A1) (a2 : A2) (a3 : A3), ok a1 a2 a3 → post (val a1 a2 a3) → (∀ (post' : ρ → Prop) (b1 : A1) (b2 : A2) (b3 : A3), ok b1 b2 b3 → μ b1 b2 b3 < μ a1 a2 a3 → post' (val b1 b2 b3) → W d post' b1 b2 b3) → W (d + 1) post a1 a2 a3) :
    ∀ (d : Nat) (post : ρ → Prop) (a1 : A1) (a2 : A2) (a3 : A3), ok a1 a2 a3 → μ a1 a2 a3 < d → post (val a1 a2 a3) → W d post a1 a2 a3 := by
  intro d
  induction d with
  | zero => intro post a1 a2 a3 _ h; omega
  | succ d ih =>
    intro post a1 a2 a3 ho hm hp
    exact hs d post a1 a2 a3 ho hp (fun post' b1 b2 b3 ho' hm' hp' => ih post' b1 b2 b3 ho' (by omega) hp')
theorem rp4 {ρ A1 A2 A3 A4 : Type} (W : Nat → (ρ → Prop) → A1 → A2 → A3 → A4 → Prop) (ok : A1 → A2 → A3 → A4 → Prop) (μ : A1 → A2 → A3 → A4 → Nat) (val : A1 → A2 → A3 → A4 → ρ)
    (hs : ∀ (d : Nat) (post : ρ → Prop) (a1 : A1) (a2 : A2) (a3 : A3) (a4 : A4), ok a1 a2 a3 a4 → post (val a1 a2 a3 a4) → (∀ (post' : ρ → Prop) (b1 : A1) (b2 : A2) (b3 : A3) (b4 : A4), ok b1 b2 b3 b4 → μ b1 b2 b3 b4 < μ a1 a2 a3 a4 → post' (val b1 b2 b3 b4) → W d post' b1 b2 b3 b4) → W (d + 1) post a1 a2 a3 a4) :
    ∀ (d : Nat) (post : ρ → Prop) (a1 : A1) (a2 : A2) (a3 : A3) (a4 : A4), ok a1 a2 a3 a4 → μ a1 a2 a3 a4 < d → post (val a1 a2 a3 a4) → W d post a1 a2 a3 a4 := by
  intro d
  induction d with
  | zero => intro post a1 a2 a3 a4 _ h; omega
  | succ d ih =>
    intro post a1 a2 a3 a4 ho hm hp
    exact hs d post a1 a2 a3 a4 ho hp (fun post' b1 b2 b3 b4 ho' hm' hp' => ih post' b1 b2 b3 b4 ho' (by omega) hp')
theorem rp5 {ρ A1 A2 A3 A4 A5 : Type} (W : Nat → (ρ → Prop) → A1 → A2 → A3 → A4 → A5 → Prop) (ok : A1 → A2 → A3 → A4 → A5 → Prop) (μ : A1 → A2 → A3 → A4 → A5 → Nat) (val : A1 → A2 → A3 → A4 → A5 → ρ)
    (hs : ∀ (d : Nat) (post : ρ → Prop) (a1 : A1) (a2 : A2) (a3 : A3) (a4 : A4) (a5 : A5), ok a1 a2 a3 a4 a5 → post (val a1 a2 a3 a4 a5) → (∀ (post' : ρ → Prop) (b1 : A1) (b2 : A2) (b3 : A3) (b4 : A4) (b5 : A5), ok b1 b2 b3 b4 b5 → μ b1 b2 b3 b4 b5 < μ a1 a2 a3 a4 a5 → post' (val b1 b2 b3 b4 b5) → W d post' b1 b2 b3 b4 b5) → W (d + 1) post a1 a2 a3 a4 a5) :
    ∀ (d : Nat) (post : ρ → Prop) (a1 : A1) (a2 : A2) (a3 : A3) (a4 : A4) (a5 : A5), ok a1 a2 a3 a4 a5 → μ a1 a2 a3 a4 a5 < d → post (val a1 a2 a3 a4 a5) → W d post a1 a2 a3 a4 a5 := by
  intro d
  induction d with
  | zero => intro post a1 a2 a3 a4 a5 _ h; omega
  | succ d ih =>
    intro post a1 a2 a3 a4 a5 ho hm hp
    exact hs d post a1 a2 a3 a4 a5 ho hp (fun post' b1 b2 b3 b4 b5 ho' hm' hp' => ih post' b1 b2 b3 b4 b5 ho' (by omega) hp')
theorem rp6 {ρ A1 A2 A3 A4 A5 A6 : Type} (W : Nat → (ρ → Prop) → A1 → A2 → A3 → A4 → A5 → A6 → Prop) (ok : A1 → A2 → A3 → A4 → A5 → A6 → Prop) (μ : A1 → A2 → A3 → A4 → A5 → A6 → Nat) (val : A1 → A2 → A3 → A4 → A5 → A6 → ρ)
    (hs : ∀ (d : Nat) (post : ρ → Prop) (a1 : A1) (a2 : A2) (a3 : A3) (a4 : A4) (a5 : A5) (a6 : A6), ok a1 a2 a3 a4 a5 a6 → post (val a1 a2 a3 a4 a5 a6) → (∀ (post' : ρ → Prop) (b1 : A1) (b2 : A2) (b3 : A3) (b4 : A4) (b5 : A5) (b6 : A6), ok b1 b2 b3 b4 b5 b6 → μ b1 b2 b3 b4 b5 b6 < μ a1 a2 a3 a4 a5 a6 → post' (val b1 b2 b3 b4 b5 b6) → W d post' b1 b2 b3 b4 b5 b6) → W (d + 1) post a1 a2 a3 a4 a5 a6) :
    ∀ (d : Nat) (post : ρ → Prop) (a1 : A1) (a2 : A2) (a3 : A3) (a4 : A4) (a5 : A5) (a6 : A6), ok a1 a2 a3 a4 a5 a6 → μ a1 a2 a3 a4 a5 a6 < d → post (val a1 a2 a3 a4 a5 a6) → W d post a1 a2 a3 a4 a5 a6 := by
  intro d
  induction d with
  | zero => intro post a1 a2 a3 a4 a5 a6 _ h; omega
  | succ d ih =>
    intro post a1 a2 a3 a4 a5 a6 ho hm hp
    exact hs d post a1 a2 a3 a4 a5 a6 ho hp (fun post' b1 b2 b3 b4 b5 b6 ho' hm' hp' => ih post' b1 b2 b3 b4 b5 b6 ho' (by omega) hp')
theorem rec_p {σ ρ : Type} (W : Nat → (ρ → Prop) → σ → Prop) (ok : σ → Prop) (μ : σ → Nat) (val : σ → ρ)
    (hs : ∀ d s post, ok s → post (val s) → (∀ s' post', ok s' → μ s' < μ s → post' (val s') → W d post' s') → W (d + 1) post s) :
    ∀ d s post, ok s → μ s < d → post (val s) → W d post s := by
  intro d
  induction d with
  | zero => intro s post _ h; omega
  | succ d ih =>
    intro s post ho hm hp
    exact hs d s post ho hp (fun s' post' ho' hm' hp' => ih s' post' ho' (by omega) hp')
theorem rec_q {σ ρ : Type} (W : Nat → (ρ → Prop) → σ → Prop) (ok : σ → Prop) (μ : σ → Nat) (Q : σ → ρ → Prop)
    (hs : ∀ d s post, ok s → (∀ r, Q s r → post r) → (∀ s' post', ok s' → μ s' < μ s → (∀ r, Q s' r → post' r) → W d post' s') → W (d + 1) post s) :
    ∀ d s post, ok s → μ s < d → (∀ r, Q s r → post r) → W d post s := by
  intro d
  induction d with
  | zero => intro s post _ h; omega
  | succ d ih =>
    intro s post ho hm hp
    exact hs d s post ho hp (fun s' post' ho' hm' hp' => ih s' post' ho' (by omega) hp')
def bx_sum (f : Nat → Int32) : Nat → Int32
  | 0 => 0
  | n + 1 => bx_sum f n + f n
theorem ek_u {A : Prop} {B : Nat → Prop} {k N : Nat} (hk : k < N) (h : B k) : (some k = none → A) ∧ (∀ y : Nat, some k = some y → (y < N ∧ B y)) :=
  ⟨fun z => absurd z (Option.some_ne_none k), fun _ e => (by cases e; exact ⟨hk, h⟩)⟩
theorem ek_nu {A : Prop} {B : Nat → Prop} (h : A) : ((none : Option Nat) = none → A) ∧ (∀ y : Nat, (none : Option Nat) = some y → B y) :=
  ⟨fun _ => h, fun _ e => (by cases e)⟩
theorem ek_if {c d A B : Prop} (e : c ↔ d) (f : d → A) (g : ¬ d → B) : (c → A) ∧ (¬ c → B) :=
  ⟨fun z => f (e.mp z), fun z => g (fun y => z (e.mpr y))⟩
theorem ek_v {α : Sort _} {P : α → Prop} {a b : α} (e : a = b) (h : P b) : P a := e ▸ h
theorem co_some {x : Option Nat} {A : Prop} {B : Nat → Prop} (i : Nat) (h : B i) (hx : x = some i := by rfl) : (x = none → A) ∧ (∀ y : Nat, x = some y → B y) := by
  subst hx
  exact ⟨fun e => (nomatch e), fun y e => Option.some.inj e ▸ h⟩
theorem co_none {x : Option Nat} {A : Prop} {B : Nat → Prop} (h : A) (hx : x = none := by rfl) : (x = none → A) ∧ (∀ y : Nat, x = some y → B y) := by
  subst hx
  exact ⟨fun _ => h, fun y e => (nomatch e)⟩
theorem co_any {x : Option Nat} {A : Prop} {B : Nat → Prop} (hn : x = none → A) (hs : ∀ i : Nat, x = some i → B i) : (x = none → A) ∧ (∀ y : Nat, x = some y → B y) := ⟨hn, hs⟩
theorem co_2 {P : Nat → Prop} (h0 : P 0) (h1 : P 1) {i : Nat} (hi : i < 2) : P i :=
  match i, hi with
  | 0, _ => h0
  | 1, _ => h1
theorem co_3 {P : Nat → Prop} (h0 : P 0) (h1 : P 1) (h2 : P 2) {i : Nat} (hi : i < 3) : P i :=
  match i, hi with
  | 0, _ => h0
  | 1, _ => h1
  | 2, _ => h2
theorem co_4 {P : Nat → Prop} (h0 : P 0) (h1 : P 1) (h2 : P 2) (h3 : P 3) {i : Nat} (hi : i < 4) : P i :=
  match i, hi with
  | 0, _ => h0
  | 1, _ => h1
  | 2, _ => h2
  | 3, _ => h3
theorem co_dec {N : Nat} {P : Nat → Prop} [DecidablePred P] (h : (List.range N).all (fun i => decide (P i)) = true) {i : Nat} (hi : i < N) : P i := by
  have := List.all_eq_true.mp h i (List.mem_range.mpr hi)
  exact of_decide_eq_true this
theorem co_tab {α : Type} {l : List α} {d : α} {P : α → Prop} (h : ∀ a, a ∈ l → P a) {i : Nat} (hi : i < l.length) : P (l.getD i d) := by
  rw [List.getD_eq_getElem?_getD, List.getElem?_eq_getElem hi]
  exact h _ (List.getElem_mem hi)
theorem pk_mu {x : Int32} {L : Nat} (h0 : ¬ x < 0) (h : ¬ nI L ≤ x) (hL : L < 2 ^ 31) : ∃ j : Nat, j < L ∧ x = nI j ∧ x + 1 = nI (j + 1) ∧ x.toNatClampNeg = j ∧ L - (x + 1).toNatClampNeg < L - x.toNatClampNeg := by
  obtain ⟨j, hj, rfl⟩ := nI_of h0
  have hl : j < L := Nat.not_le.mp fun q => h (nI_le q hj)
  refine ⟨j, hl, rfl, nI_1 j, nI_clamp hj, ?_⟩
  rw [nI_1, nI_clamp (by omega), nI_clamp hj]
  omega
theorem op_s {α : Type} {r : Option α} {A : Prop} {B : α → Prop} {y : α} (h : r = some y) (b : B y) : (r = none → A) ∧ ∀ z, r = some z → B z :=
  ⟨fun e => (by rw [h] at e; cases e), fun z e => (by rw [h] at e; cases e; exact b)⟩
def l_holds {α : Type} (a : Nat → Option Nat) (LP : List Nat) (p : Nat → α) (c : Nat) (b : Nat → α) : Prop :=
  ∀ j, j < c → ∃ y, a j = some y ∧ y ∈ LP ∧ p y = b j
theorem l_holds_0 {α : Type} {a : Nat → Option Nat} {LP : List Nat} {p b : Nat → α} : l_holds a LP p 0 b := fun j h => absurd h (Nat.not_lt_zero j)
theorem l_in_new (LP : List Nat) (q : Nat) : q ∈ LP ++ [q] := List.mem_append.mpr (Or.inr (List.mem_singleton.mpr rfl))
def l_sum (b : Nat → Int32) : Nat → Int32
  | 0 => 0
  | k + 1 => l_sum b k + b k
theorem sb_shr0 (x : Int32) : x >>> ((0 : Int32) &&& 31) = x := by
  rw [show ((0 : Int32) &&& 31) = 0 by decide]
  simp
theorem sb_shl0 (x : Int32) : x <<< ((0 : Int32) &&& 31) = x := by
  rw [show ((0 : Int32) &&& 31) = 0 by decide]
  simp
theorem sb_cl0 : (0 : Int32).toNatClampNeg = 0 := by decide
theorem sb_m1 {p : Nat} (h : 0 < p) : nI p + (-1) = nI (p - 1) := by
  obtain ⟨q, rfl⟩ : ∃ q, p = q + 1 := ⟨p - 1, by omega⟩
  exact pk_m1 q
def sb_b (c : Nat) : Int32 := (nI c).toInt8.toInt32
theorem sb_byte : ∀ c, c < 256 → sb_b c &&& 255 = nI c ∧ ((nI c).toUInt32 % 65536).toInt32 = nI c ∧ nI c ≤ 255 := by decide +kernel
def sb_Fit (a : Nat → Int32) : Prop := ∀ j, fits .byte (.int (a j)) = true
def sb_Lat (t : Nat → Nat) (n : Nat) (a : Nat → Int32) : Prop := ∀ j, j < n → t j < 256 ∧ a j = sb_b (t j)
theorem sb_fitB (c : Nat) : fits .byte (.int (sb_b c)) = true := pk_fb _
theorem sb_fit0 : sb_Fit (fun _ => 0) := fun _ => by
  show fits .byte (.int 0) = true
  decide
theorem sb_fitU {a : Nat → Int32} {k : Nat} {x : Int32} (h : sb_Fit a) (hx : fits .byte (.int x) = true) : sb_Fit (upd a k x) := by
  intro j
  by_cases e : j = k
  · subst e
    rw [pk_us]
    exact hx
  · rw [pk_un e]
    exact h j
def sb_cat (t : Nat → Nat) (n : Nat) (s : Nat → Nat) : Nat → Nat := fun j => if j < n then t j else s (j - n)
theorem sb_cat_lo {t s : Nat → Nat} {n j : Nat} (h : j < n) : sb_cat t n s j = t j := if_pos h
theorem sb_cat_hi {t s : Nat → Nat} {n j : Nat} : sb_cat t n s (n + j) = s j := by
  show (if n + j < n then t (n + j) else s (n + j - n)) = s j
  rw [if_neg (by omega), Nat.add_sub_cancel_left]
theorem sb_latPut {t s : Nat → Nat} {n w : Nat} {a a' : Nat → Int32} (h : sb_Lat t n a) (hk : ∀ j, j < n → a' j = a j) (hs : ∀ i, i < w → s i < 256 ∧ a' (n + i) = sb_b (s i)) : sb_Lat (sb_cat t n s) (n + w) a' := by
  intro j hj
  by_cases e : j < n
  · rw [sb_cat_lo e, hk j e]
    exact h j e
  · obtain ⟨i, rfl⟩ : ∃ i, j = n + i := ⟨j - n, by omega⟩
    rw [sb_cat_hi]
    exact hs i (by omega)
theorem sb_latKeep {t : Nat → Nat} {n : Nat} {a a' : Nat → Int32} (h : sb_Lat t n a) (hk : ∀ j, j < n → a' j = a j) : sb_Lat t n a' := fun j hj => by
  rw [hk j hj]
  exact h j hj
def sb_cap (q m : Nat) : Nat := if q ≤ m then m else if 2 * m + 2 < q then q else 2 * m + 2
def sb_Room (q m mc ms : Nat) : Prop := q ≤ m ∨ (1 ≤ mc ∧ sb_cap q m ≤ ms ∧ sb_cap q m ≤ 65536)
theorem sb_cap_ge (q m : Nat) : q ≤ sb_cap q m := by
  unfold sb_cap
  split
  · omega
  · split <;> omega
theorem sb_cap_gem (q m : Nat) : m ≤ sb_cap q m := by
  unfold sb_cap
  split
  · omega
  · split <;> omega
theorem sb_cap_le {q m mc ms : Nat} (hm : m ≤ 65536) (hr : sb_Room q m mc ms) : sb_cap q m ≤ 65536 := by
  rcases hr with h | h
  · rw [sb_cap, if_pos h]
    exact hm
  · exact h.2.2
theorem sb_at {P : Int32 → Prop} {x y : Int32} (e : x = y) (h : P y) : P x := e ▸ h
def sb_dg (w : Nat) : Nat := if w < 10 then 1 else if w < 100 then 2 else if w < 1000 then 3 else if w < 10000 then 4 else if w < 100000 then 5 else if w < 1000000 then 6 else if w < 10000000 then 7 else if w < 100000000 then 8 else if w < 1000000000 then 9 else 10
def sb_dec (v : Nat) : Nat → Nat := fun i => 48 + v / 10 ^ (sb_dg v - 1 - i) % 10
theorem sb_dg_in (w : Nat) : 1 ≤ sb_dg w ∧ sb_dg w ≤ 10 := by
  unfold sb_dg
  constructor <;> (repeat' split) <;> omega
theorem sb_dg100 {w : Nat} (h : 100 ≤ w) (hw : w < 2 ^ 31) : sb_dg w = sb_dg (w / 100) + 2 := by
  rw [sb_dg, sb_dg, if_neg (show ¬ w < 10 by omega), if_neg (show ¬ w < 100 by omega)]
  by_cases h3 : w < 1000
  · rw [if_pos h3, if_pos (show w / 100 < 10 by omega)]
  rw [if_neg h3, if_neg (show ¬ w / 100 < 10 by omega)]
  by_cases h4 : w < 10000
  · rw [if_pos h4, if_pos (show w / 100 < 100 by omega)]
  rw [if_neg h4, if_neg (show ¬ w / 100 < 100 by omega)]
  by_cases h5 : w < 100000
  · rw [if_pos h5, if_pos (show w / 100 < 1000 by omega)]
  rw [if_neg h5, if_neg (show ¬ w / 100 < 1000 by omega)]
  by_cases h6 : w < 1000000
  · rw [if_pos h6, if_pos (show w / 100 < 10000 by omega)]
  rw [if_neg h6, if_neg (show ¬ w / 100 < 10000 by omega)]
  by_cases h7 : w < 10000000
  · rw [if_pos h7, if_pos (show w / 100 < 100000 by omega)]
  rw [if_neg h7, if_neg (show ¬ w / 100 < 100000 by omega)]
  by_cases h8 : w < 100000000
  · rw [if_pos h8, if_pos (show w / 100 < 1000000 by omega)]
  rw [if_neg h8, if_neg (show ¬ w / 100 < 1000000 by omega)]
  by_cases h9 : w < 1000000000
  · rw [if_pos h9, if_pos (show w / 100 < 10000000 by omega)]
  rw [if_neg h9, if_neg (show ¬ w / 100 < 10000000 by omega)]
  rw [if_pos (show w / 100 < 100000000 by omega)]
theorem sb_negT {w : Nat} (h : w < 2 ^ 31) : (-nI w).toInt = -(w : Int) := by
  rw [Int32.toInt_neg, nI_toInt h]
  exact Int.bmod_eq_of_le (by omega) (by omega)
theorem sb_nle {a b : Nat} (ha : a < 2 ^ 31) (hb : b < 2 ^ 31) : -nI a ≤ -nI b ↔ b ≤ a := by
  rw [Int32.le_iff_toInt_le, sb_negT ha, sb_negT hb]
  omega
theorem sb_nlt {a b : Nat} (ha : a < 2 ^ 31) (hb : b < 2 ^ 31) : -nI a < -nI b ↔ b < a := by
  rw [Int32.lt_iff_toInt_lt, sb_negT ha, sb_negT hb]
  omega
theorem sb_cmp {A B : Prop} {x : Int32} (v c : Nat) (f : c ≤ v → A) (g : v < c → B) (hv : v < 2 ^ 31) (hx : x = -nI c := by rfl) (hc : c < 2 ^ 31 := by omega) : (-nI v ≤ x → A) ∧ (¬ -nI v ≤ x → B) := by
  subst hx
  rw [sb_nle hv hc]
  exact ⟨f, fun z => g (by omega)⟩
theorem sb_ndiv {w : Nat} (hw : w < 2 ^ 31) : (-nI w) / 100 = -nI (w / 100) := by
  apply Int32.toInt_inj.mp
  have h100 : (100 : Int32).toInt = 100 := by decide
  rw [Int32.toInt_div, sb_negT hw, h100, sb_negT (by omega), Int.neg_tdiv, Int.tdiv_eq_ediv_of_nonneg (by omega), Int.bmod_eq_of_le (by omega) (by omega)]
  omega
theorem sb_nrem {w : Nat} (hw : w < 2 ^ 31) : (-nI (w / 100)) * 100 - (-nI w) = nI (w % 100) := by
  have h := pk_rem (a := w) (d := 100) hw (by decide) (by decide)
  rw [pk_div hw (by decide) (by decide)] at h
  rw [← h]
  show (-nI (w / 100)) * nI 100 - (-nI w) = nI w - nI (w / 100) * nI 100
  rw [Int32.neg_mul, Int32.sub_neg, Int32.add_comm, ← Int32.sub_eq_add_neg]

/-! rows on bits, shifts and unsigned numbers, to paste: each family out of a closed proof of our own, whole with what it rests on; each by itself clean at Lean in its own claim (generation 39, form 5). Take a family whole -/
/-! ===== Int32 by its bits: bt x i ===== -/
def bt (x : Int32) (i : Nat) : Bool := x.toBitVec.getLsbD i
theorem b_ext {x y : Int32} (h : ∀ i, i < 32 → bt x i = bt y i) : x = y := Int32.toBitVec_inj.mp (BitVec.eq_of_getLsbD_eq (fun i hi => h i hi))
theorem b_or (x y : Int32) (i : Nat) : bt (x ||| y) i = (bt x i || bt y i) := by unfold bt; rw [Int32.toBitVec_or, BitVec.getLsbD_or]
theorem b_and (x y : Int32) (i : Nat) : bt (x &&& y) i = (bt x i && bt y i) := by unfold bt; rw [Int32.toBitVec_and, BitVec.getLsbD_and]
theorem b_xor (x y : Int32) (i : Nat) : bt (x ^^^ y) i = (bt x i ^^ bt y i) := by unfold bt; rw [Int32.toBitVec_xor, BitVec.getLsbD_xor]
theorem b_big {x : Int32} {i : Nat} (h : 32 ≤ i) : bt x i = false := BitVec.getLsbD_of_ge _ _ h
theorem b_255 (i : Nat) : bt 255 i = decide (i < 8) := by
  rcases Nat.lt_or_ge i 32 with h | h
  · exact (by decide +kernel : ∀ i, i < 32 → bt 255 i = decide (i < 8)) i h
  · rw [b_big h, decide_eq_false (by omega)]
theorem b_65535 (i : Nat) : bt 65535 i = decide (i < 16) := by
  rcases Nat.lt_or_ge i 32 with h | h
  · exact (by decide +kernel : ∀ i, i < 32 → bt 65535 i = decide (i < 16)) i h
  · rw [b_big h, decide_eq_false (by omega)]
theorem b_m1 : ∀ i, i < 32 → bt (-1) i = true := by decide +kernel
theorem b_0 (i : Nat) : bt 0 i = false := BitVec.getLsbD_zero
theorem s_l : ∀ n, n < 32 → ((nI n &&& 31).toBitVec.smod 32).toNat = n := by decide +kernel
theorem s_u : ∀ n, n < 32 → (((nI n).toUInt32 &&& Int32.toUInt32 31).toBitVec % 32).toNat = n := by decide +kernel
theorem b_shl (n : Nat) (hn : n < 32) (x : Int32) {i : Nat} (hi : i < 32) : bt (x <<< (nI n &&& 31)) i = (decide (n ≤ i) && bt x (i - n)) := by
  unfold bt
  rw [Int32.toBitVec_shiftLeft]
  show (x.toBitVec <<< ((nI n &&& 31).toBitVec.smod 32).toNat).getLsbD i = _
  rw [s_l n hn, BitVec.getLsbD_shiftLeft]
  rcases Nat.lt_or_ge i n with h | h
  · simp [h, Nat.not_le.mpr h]
  · simp [hi, h, Nat.not_lt.mpr h]
theorem b_ushr (n : Nat) (hn : n < 32) (x : Int32) (i : Nat) : bt ((x.toUInt32 >>> ((nI n).toUInt32 &&& Int32.toUInt32 31)).toInt32) i = bt x (n + i) := by
  show (x.toUInt32 >>> ((nI n).toUInt32 &&& Int32.toUInt32 31)).toBitVec.getLsbD i = x.toUInt32.toBitVec.getLsbD (n + i)
  rw [UInt32.toBitVec_shiftRight]
  show (x.toUInt32.toBitVec >>> (((nI n).toUInt32 &&& Int32.toUInt32 31).toBitVec % 32).toNat).getLsbD i = _
  rw [s_u n hn, BitVec.getLsbD_ushiftRight]
theorem b_sshr (n : Nat) (hn : n < 32) (x : Int32) {i : Nat} (hi : i < 32) : bt (x >>> (nI n &&& 31)) i = if n + i < 32 then bt x (n + i) else bt x 31 := by
  unfold bt
  rw [Int32.toBitVec_shiftRight]
  show (x.toBitVec.sshiftRight ((nI n &&& 31).toBitVec.smod 32).toNat).getLsbD i = _
  rw [s_l n hn, BitVec.getLsbD_sshiftRight, BitVec.msb_eq_getLsbD_last]
  simp [hi]
theorem b_shl8 (x : Int32) {i : Nat} (hi : i < 32) : bt (x <<< ((8 : Int32) &&& 31)) i = (decide (8 ≤ i) && bt x (i - 8)) := b_shl 8 (by omega) x hi
theorem b_shl16 (x : Int32) {i : Nat} (hi : i < 32) : bt (x <<< ((16 : Int32) &&& 31)) i = (decide (16 ≤ i) && bt x (i - 16)) := b_shl 16 (by omega) x hi
theorem b_shl24 (x : Int32) {i : Nat} (hi : i < 32) : bt (x <<< ((24 : Int32) &&& 31)) i = (decide (24 ≤ i) && bt x (i - 24)) := b_shl 24 (by omega) x hi
theorem b_sshr8 (x : Int32) {i : Nat} (hi : i < 32) : bt (x >>> ((8 : Int32) &&& 31)) i = if 8 + i < 32 then bt x (8 + i) else bt x 31 := b_sshr 8 (by omega) x hi
/-! ===== nI under and, xor, >>>, one bit, 65535 ===== -/
theorem nx_and (a b : Nat) : nI a &&& nI b = nI (a &&& b) := by
  apply Int32.toBitVec_inj.1
  show BitVec.ofNat 32 a &&& BitVec.ofNat 32 b = BitVec.ofNat 32 (a &&& b)
  apply BitVec.eq_of_getLsbD_eq
  intro i hi
  simp [hi]
theorem nx_xor (a b : Nat) : nI a ^^^ nI b = nI (a ^^^ b) := by
  apply Int32.toBitVec_inj.1
  show BitVec.ofNat 32 a ^^^ BitVec.ofNat 32 b = BitVec.ofNat 32 (a ^^^ b)
  apply BitVec.eq_of_getLsbD_eq
  intro i hi
  simp [hi]
theorem nx_cnt : ∀ j : Fin 32, (UInt32.ofNat j.val &&& Int32.toUInt32 31).toNat % 32 = j.val := by decide +kernel
theorem nx_ush {k j : Nat} (hk : k < 65536) (hj : j < 32) : ((nI k).toUInt32 >>> ((nI j).toUInt32 &&& Int32.toUInt32 31)).toInt32 = nI (k >>> j) := by
  have hs : k >>> j ≤ k := by
    rw [Nat.shiftRight_eq_div_pow]
    exact Nat.div_le_self _ _
  have e2 : UInt32.ofNat k >>> (UInt32.ofNat j &&& Int32.toUInt32 31) = UInt32.ofNat (k >>> j) := by
    apply UInt32.toNat_inj.1
    have h1 : (UInt32.ofNat k).toNat = k := Nat.mod_eq_of_lt (by omega)
    have h2 : (UInt32.ofNat (k >>> j)).toNat = k >>> j := Nat.mod_eq_of_lt (by omega)
    rw [UInt32.toNat_shiftRight, nx_cnt ⟨j, hj⟩, h1, h2]
  show (UInt32.ofNat k >>> (UInt32.ofNat j &&& Int32.toUInt32 31)).toInt32 = _
  rw [e2]
  rfl
theorem nx_bit {k j : Nat} (hk : k < 65536) (hj : j < 16) : (((nI k).toUInt32 >>> ((nI j).toUInt32 &&& Int32.toUInt32 31)).toInt32 &&& 1) = 0 ↔ k.testBit j = false := by
  rw [nx_ush hk (by omega)]
  show nI (k >>> j) &&& nI 1 = 0 ↔ _
  rw [nx_and, Nat.and_one_is_mod, ← nI_0, nI_eq (by omega) (by omega), Nat.testBit_eq_decide_div_mod_eq, Nat.shiftRight_eq_div_pow, decide_eq_false_iff_not]
  generalize k / 2 ^ j = z
  omega
theorem nx_mod (k : Nat) : nI k &&& 65535 = nI (k % 65536) := by
  show nI k &&& nI 65535 = _
  rw [nx_and, show (65535 : Nat) = 2 ^ 16 - 1 from rfl, Nat.and_two_pow_sub_one_eq_mod]
theorem nx_m16 {k : Nat} (h : k < 65536) : nI k &&& 65535 = nI k := by rw [nx_mod, Nat.mod_eq_of_lt h]
theorem nx_mask (x : Int32) : ∃ k, k < 65536 ∧ x &&& 65535 = nI k := by
  have e : x = nI x.toBitVec.toNat := by
    apply Int32.toBitVec_inj.1
    show x.toBitVec = BitVec.ofNat 32 x.toBitVec.toNat
    simp
  refine ⟨x.toBitVec.toNat % 65536, Nat.mod_lt _ (by omega), ?_⟩
  rw [← nx_mod, ← e]
/-! ===== Int32 as a set of bits: test, set ===== -/
def nf_M (m : Int32) : Nat := 4294967296 - m.toBitVec.toNat
theorem nf_sh : ∀ l, l < 32 → ((1 : Int32) <<< (nI l &&& 31)).toBitVec = BitVec.twoPow 32 l := by decide +kernel
theorem nf_sl : ∀ l, l < 32 → (((nI l).toUInt32 &&& Int32.toUInt32 31).toBitVec % 32).toNat = l := by decide +kernel
theorem nf_tp : ∀ l, l < 32 → BitVec.twoPow 32 l ≠ 0#32 := by decide +kernel
theorem nf_bit (m : Int32) (l : Nat) (hl : l < 32) : ((m.toUInt32 >>> ((nI l).toUInt32 &&& Int32.toUInt32 31)).toInt32 &&& 1) = 0 ↔ (m &&& ((1 : Int32) <<< (nI l &&& 31))) = 0 := by
  have e : ((m.toUInt32 >>> ((nI l).toUInt32 &&& Int32.toUInt32 31)).toInt32).toBitVec = m.toBitVec >>> l := by
    show m.toBitVec >>> (((nI l).toUInt32 &&& Int32.toUInt32 31).toBitVec % 32) = m.toBitVec >>> l
    rw [BitVec.ushiftRight_eq', nf_sl l hl]
  rw [← Int32.toBitVec_inj, ← Int32.toBitVec_inj, Int32.toBitVec_and, Int32.toBitVec_and, nf_sh l hl, e, BitVec.and_twoPow]
  show (m.toBitVec >>> l &&& 1#32) = 0#32 ↔ _ = 0#32
  rw [BitVec.and_one_eq_setWidth_ofBool_getLsbD, BitVec.getLsbD_ushiftRight, Nat.add_zero]
  cases hb : m.toBitVec.getLsbD l
  · exact ⟨fun _ => by simp, fun _ => by decide⟩
  · exact ⟨fun z => absurd z (by decide), fun z => absurd ((if_pos rfl).symm.trans z) (nf_tp l hl)⟩
theorem nf_gr (m k : Int32) (h : m &&& k = 0) (hk : k ≠ 0) : nf_M (m ||| k) < nf_M m := by
  have hm := m.toBitVec.isLt
  have hm' := (m ||| k).toBitVec.isLt
  have h1 : m.toBitVec.toNat ≤ (m ||| k).toBitVec.toNat := by
    rw [Int32.toBitVec_or, BitVec.toNat_or]
    exact Nat.left_le_or
  have h2 : m.toBitVec.toNat ≠ (m ||| k).toBitVec.toNat := by
    intro e
    have e2 : m = m ||| k := Int32.toBitVec_inj.mp (BitVec.eq_of_toNat_eq e)
    apply hk
    apply Int32.toBitVec_inj.mp
    show k.toBitVec = 0#32
    apply BitVec.eq_of_getLsbD_eq
    intro i hi
    have a : m.toBitVec.getLsbD i = (m.toBitVec.getLsbD i || k.toBitVec.getLsbD i) := by rw [← BitVec.getLsbD_or, ← Int32.toBitVec_or, ← e2]
    have b : (m.toBitVec.getLsbD i && k.toBitVec.getLsbD i) = false := by
      rw [← BitVec.getLsbD_and, ← Int32.toBitVec_and, h]
      exact BitVec.getLsbD_zero
    rw [BitVec.getLsbD_zero]
    revert a b
    cases m.toBitVec.getLsbD i <;> cases k.toBitVec.getLsbD i <;> simp
  unfold nf_M
  omega
/-! ===== a byte read unsigned ===== -/
theorem bp_b (x : Int32) : x.toInt8.toInt32 &&& 255 = x &&& 255 := by
  apply Int32.toBitVec_inj.mp
  rw [Int32.toBitVec_and, Int32.toBitVec_and, Int8.toBitVec_toInt32, Int32.toBitVec_toInt8]
  apply BitVec.eq_of_getLsbD_eq
  intro i hi
  rw [BitVec.getLsbD_and, BitVec.getLsbD_and]
  have hm : ∀ i < 32, 8 ≤ i → (255 : Int32).toBitVec.getLsbD i = false := by decide
  rcases Nat.lt_or_ge i 8 with z | z
  · rw [BitVec.getLsbD_signExtend, BitVec.getLsbD_signExtend, if_pos z, if_pos hi]
    simp only [z, hi, decide_true, Bool.true_and]
  · rw [hm i hi z]; simp
/-! ===== the char cast and 65535 ===== -/
theorem em_w (v : Int32) : ∃ w : Nat, w < 65536 ∧ (v.toUInt32 % 65536).toInt32 = nI w ∧ v &&& 65535 = nI w := by
  have hr := lw_u16_r v
  have h0 : (0 : Int32).toInt = 0 := by decide
  obtain ⟨w, h1, h2⟩ := nI_of (x := lw_u16 v) (by rw [Int32.lt_iff_toInt_lt]; omega)
  have h3 : (v.toUInt32 % 65536).toInt32 = nI w := h2
  rw [h2, nI_toInt h1] at hr
  exact ⟨w, by omega, h3, by rw [← lg_i2c_mask, ← lg_i2c_nf, h3]⟩
/-! ===== Int64 as a set of bits: test, set, clear ===== -/
theorem ts_nf {x : Bool} (h : ¬ x = false) : x = true := by cases x <;> first | rfl | exact absurd rfl h
theorem ts_nt {x : Bool} (h : ¬ x = true) : x = false := by cases x <;> first | rfl | exact absurd rfl h
theorem ts_bit {w : Int64} {s : UInt64} {j : Nat} (hj : j < 64) (hs : s.toNat = j) : ((w.toUInt64 >>> s).toInt64 &&& 1) = 0 ↔ w.toBitVec.getLsbD j = false := by
  have e : (w.toUInt64 >>> s).toInt64.toBitVec = w.toBitVec >>> j := by
    apply BitVec.eq_of_toNat_eq
    show (w.toUInt64 >>> s).toNat = _
    rw [UInt64.toNat_shiftRight, hs, Nat.mod_eq_of_lt hj, BitVec.toNat_ushiftRight]
    rfl
  rw [← Int64.toBitVec_inj, Int64.toBitVec_and, e]
  show w.toBitVec >>> j &&& 1#64 = 0#64 ↔ _
  constructor
  · intro h
    have t := congrArg (fun x => x.getLsbD 0) h
    simpa using t
  · intro h
    apply BitVec.eq_of_getLsbD_eq
    intro i hi
    cases i with
    | zero => simp [h]
    | succ i => simp
theorem ts_or {w m : Int64} {j : Nat} (hj : j < 64) (hm : m.toBitVec = BitVec.twoPow 64 j) : (w ||| m) = w ↔ w.toBitVec.getLsbD j = true := by
  rw [← Int64.toBitVec_inj, Int64.toBitVec_or, hm]
  constructor
  · intro h
    have t := congrArg (fun x => x.getLsbD j) h
    simp only [BitVec.getLsbD_or, BitVec.getLsbD_twoPow] at t
    simpa [hj] using t.symm
  · intro h
    apply BitVec.eq_of_getLsbD_eq
    intro i hi
    rw [BitVec.getLsbD_or, BitVec.getLsbD_twoPow]
    by_cases e : j = i
    · subst e; rw [h, Bool.true_or]
    · simp [e]
theorem ts_and {w m : Int64} {j : Nat} (hj : j < 64) (hm : m.toBitVec = BitVec.twoPow 64 j) : (w &&& (m ^^^ (-1))) = w ↔ w.toBitVec.getLsbD j = false := by
  have ha : (-1 : Int64).toBitVec = BitVec.allOnes 64 := by decide
  rw [← Int64.toBitVec_inj, Int64.toBitVec_and, Int64.toBitVec_xor, hm, ha]
  constructor
  · intro h
    have t := congrArg (fun x => x.getLsbD j) h
    simp only [BitVec.getLsbD_and, BitVec.getLsbD_xor, BitVec.getLsbD_twoPow, BitVec.getLsbD_allOnes] at t
    simpa [hj] using t.symm
  · intro h
    apply BitVec.eq_of_getLsbD_eq
    intro i hi
    rw [BitVec.getLsbD_and, BitVec.getLsbD_xor, BitVec.getLsbD_twoPow, BitVec.getLsbD_allOnes]
    by_cases e : j = i
    · subst e; rw [h, Bool.false_and]
    · simp [e, hi]
/-! ===== lN n to 2^64: shifts, and, or, masks, one bit ===== -/
theorem wb_tb (n : Nat) : (lN n).toBitVec = BitVec.ofNat 64 n := rfl
theorem wb_inj {a b : Int64} (h : a.toBitVec = b.toBitVec) : a = b := Int64.toBitVec_inj.mp h
theorem wb_tn {n : Nat} (h : n < 2 ^ 64) : (lN n).toBitVec.toNat = n := by rw [wb_tb, BitVec.toNat_ofNat, Nat.mod_eq_of_lt h]
theorem wb_of (x : Int64) : ∃ n, n < 2 ^ 64 ∧ x = lN n := ⟨x.toBitVec.toNat, x.toBitVec.isLt, wb_inj (by rw [wb_tb]; simp)⟩
theorem wb_of32 (x : Int32) : ∃ n, n < 2 ^ 32 ∧ x = nI n := ⟨x.toBitVec.toNat, x.toBitVec.isLt, Int32.toBitVec_inj.mp (by show _ = BitVec.ofNat 32 _; simp)⟩
theorem wb_c : ∀ k, k < 64 → ((nI k).toInt64 &&& 63) = lN k := by decide +kernel
theorem wb_cu : ∀ k, k < 64 → ((nI k).toInt64.toUInt64 &&& Int64.toUInt64 63) = UInt64.ofNat k := by decide +kernel
theorem wb_sm : ∀ k, k < 64 → (BitVec.ofNat 64 k).smod 64 = BitVec.ofNat 64 k := by decide +kernel
theorem wb_pw {a b : Nat} (h : a ≤ b) : 2 ^ b = 2 ^ a * 2 ^ (b - a) := by rw [← Nat.pow_add]; congr 1; omega
theorem wb_lt2 {a b : Nat} (h : a < b) : 2 ^ a < 2 ^ b := Nat.pow_lt_pow_right (by decide) h
theorem wb_mod (n : Nat) : lN n = lN (n % 2 ^ 64) := wb_inj (by rw [wb_tb, wb_tb]; apply BitVec.eq_of_toNat_eq; rw [BitVec.toNat_ofNat, BitVec.toNat_ofNat, Nat.mod_mod])
theorem wb_shr {n k : Nat} (hn : n < 2 ^ 64) (hk : k < 64) : ((lN n).toUInt64 >>> ((nI k).toInt64.toUInt64 &&& Int64.toUInt64 63)).toInt64 = lN (n / 2 ^ k) := by
  rw [wb_cu k hk]
  apply wb_inj
  apply BitVec.eq_of_toNat_eq
  show ((lN n).toUInt64 >>> UInt64.ofNat k).toNat = (BitVec.ofNat 64 _).toNat
  have h1 : (UInt64.ofNat k).toNat = k := by
    show (BitVec.ofNat 64 k).toNat = k
    rw [BitVec.toNat_ofNat, Nat.mod_eq_of_lt (by omega)]
  have h2 : (lN n).toUInt64.toNat = n := wb_tn hn
  rw [UInt64.toNat_shiftRight, h1, h2, Nat.mod_eq_of_lt hk, Nat.shiftRight_eq_div_pow, BitVec.toNat_ofNat, Nat.mod_eq_of_lt (Nat.lt_of_le_of_lt (Nat.div_le_self _ _) hn)]
theorem wb_shl (n : Nat) {k : Nat} (hk : k < 64) : lN n <<< ((nI k).toInt64 &&& 63) = lN (n * 2 ^ k) := by
  rw [wb_c k hk]
  apply wb_inj
  rw [Int64.toBitVec_shiftLeft, wb_tb, wb_tb, wb_tb, wb_sm k hk]
  apply BitVec.eq_of_toNat_eq
  rw [BitVec.shiftLeft_eq', BitVec.toNat_shiftLeft, BitVec.toNat_ofNat, BitVec.toNat_ofNat, BitVec.toNat_ofNat, Nat.mod_eq_of_lt (show k < 2 ^ 64 by omega), Nat.shiftLeft_eq, Nat.mul_mod, Nat.mod_mod, ← Nat.mul_mod]
theorem wb_and {a b : Nat} (ha : a < 2 ^ 64) (hb : b < 2 ^ 64) : lN a &&& lN b = lN (a &&& b) := by
  apply wb_inj
  rw [Int64.toBitVec_and, wb_tb, wb_tb, wb_tb]
  apply BitVec.eq_of_toNat_eq
  rw [BitVec.toNat_and, BitVec.toNat_ofNat, BitVec.toNat_ofNat, BitVec.toNat_ofNat, Nat.mod_eq_of_lt ha, Nat.mod_eq_of_lt hb, Nat.mod_eq_of_lt (Nat.and_lt_two_pow _ hb)]
theorem wb_or {a b : Nat} (ha : a < 2 ^ 64) (hb : b < 2 ^ 64) : lN a ||| lN b = lN (a ||| b) := by
  apply wb_inj
  rw [Int64.toBitVec_or, wb_tb, wb_tb, wb_tb]
  apply BitVec.eq_of_toNat_eq
  rw [BitVec.toNat_or, BitVec.toNat_ofNat, BitVec.toNat_ofNat, BitVec.toNat_ofNat, Nat.mod_eq_of_lt ha, Nat.mod_eq_of_lt hb, Nat.mod_eq_of_lt (Nat.or_lt_two_pow ha hb)]
theorem wb_mask {n k : Nat} (hn : n < 2 ^ 64) (hk : k < 64) : lN n &&& lN (2 ^ k - 1) = lN (n % 2 ^ k) := by
  rw [wb_and hn (by have := wb_lt2 hk; omega), Nat.and_two_pow_sub_one_eq_mod]
theorem wb_a1 {n : Nat} (hn : n < 2 ^ 64) : lN n &&& 1 = lN (n % 2) := wb_mask (k := 1) hn (by decide)
theorem wb_bit {n k : Nat} (hn : n < 2 ^ 64) (hk : k < 64) : ((lN n).toUInt64 >>> ((nI k).toInt64.toUInt64 &&& Int64.toUInt64 63)).toInt64 &&& 1 = lN (n / 2 ^ k % 2) := by
  rw [wb_shr hn hk, wb_a1 (Nat.lt_of_le_of_lt (Nat.div_le_self _ _) hn)]
theorem wb_xor {q k : Nat} (hk : k < 63) (h : 2 ^ k ≤ q) (h2 : q < 2 ^ (k + 1)) : lN q ^^^ lN (2 ^ k) = lN (q - 2 ^ k) := by
  obtain ⟨r, rfl⟩ : ∃ r, q = 2 ^ k + r := ⟨q - 2 ^ k, by omega⟩
  have hr : r < 2 ^ k := by rw [Nat.pow_succ] at h2; omega
  have hx : (2 ^ k + r) ^^^ 2 ^ k = r := by
    apply Nat.eq_of_testBit_eq
    intro i
    rw [Nat.testBit_xor, Nat.testBit_two_pow]
    rcases Nat.lt_trichotomy i k with h | h | h
    · rw [Nat.testBit_two_pow_add_gt h]
      simp [show ¬ k = i by omega]
    · subst h
      rw [Nat.testBit_two_pow_add_eq]
      simp
    · have a1 : 2 ^ (k + 1) ≤ 2 ^ i := Nat.pow_le_pow_right (by decide) h
      rw [Nat.testBit_lt_two_pow (show 2 ^ k + r < 2 ^ i by omega), Nat.testBit_lt_two_pow (show r < 2 ^ i by omega)]
      simp [show ¬ k = i by omega]
  have b1 := wb_lt2 (show k + 1 < 64 by omega)
  have b2 := wb_lt2 (show k < 64 by omega)
  apply wb_inj
  rw [Int64.toBitVec_xor, wb_tb, wb_tb, wb_tb]
  apply BitVec.eq_of_toNat_eq
  rw [BitVec.toNat_xor, BitVec.toNat_ofNat, BitVec.toNat_ofNat, BitVec.toNat_ofNat, Nat.mod_eq_of_lt (by omega : 2 ^ k + r < 2 ^ 64), Nat.mod_eq_of_lt b2, hx, Nat.add_sub_cancel_left, Nat.mod_eq_of_lt (by omega)]
/-! ===== lN: masks, 'or' of parts that don't overlap is a sum ===== -/
theorem u_tn {n : Nat} (h : n < 2 ^ 64) : (UInt64.ofNat n).toNat = n := Nat.mod_eq_of_lt h
theorem g_and {a b c : Nat} (ha : a < 2 ^ 64) (hb : b < 2 ^ 64) (hc : a &&& b = c) : lN a &&& lN b = lN c := by
  subst hc
  have h : UInt64.ofNat a &&& UInt64.ofNat b = UInt64.ofNat (a &&& b) := UInt64.toNat_inj.mp (by rw [UInt64.toNat_and, u_tn ha, u_tn hb, u_tn (Nat.and_lt_two_pow a hb)])
  have h2 := congrArg UInt64.toInt64 h
  exact h2
theorem g_and1 {a : Nat} (ha : a < 2 ^ 64) : lN a &&& 1 = lN (a % 2) := g_and (b := 1) ha (by decide) (Nat.and_two_pow_sub_one_eq_mod a 1)
theorem g_mask {a s p : Nat} (hp : 2 ^ s = p) (hs : s < 64) (ha : a < 2 ^ 64) : lN a &&& lN (p - 1) = lN (a % p) := by
  subst hp
  have := Nat.pow_lt_pow_right (show 1 < 2 by decide) hs
  exact g_and ha (by omega) (Nat.and_two_pow_sub_one_eq_mod a s)
theorem g_or {k p a b : Nat} (hp : 2 ^ k = p) (ha : a < p) (h : b * p + a < 2 ^ 64) : lN (b * p) ||| lN a = lN (b * p + a) := by
  subst hp
  have h1 : b * 2 ^ k ||| a = b * 2 ^ k + a := by rw [← Nat.shiftLeft_eq, Nat.shiftLeft_add_eq_or_of_lt ha]
  have h3 : UInt64.ofNat (b * 2 ^ k) ||| UInt64.ofNat a = UInt64.ofNat (b * 2 ^ k + a) := UInt64.toNat_inj.mp (by rw [UInt64.toNat_or, u_tn (by omega), u_tn (by omega), u_tn h, h1])
  have h2 := congrArg UInt64.toInt64 h3
  exact h2
theorem g_or' {k p a b : Nat} (hp : 2 ^ k = p) (ha : a < p) (h : a + b * p < 2 ^ 64) : lN a ||| lN (b * p) = lN (a + b * p) := by
  rw [Int64.or_comm, g_or hp ha (by omega), Nat.add_comm]
theorem g_ushr {a k p : Nat} {y : UInt64} (hy : y = UInt64.ofNat k) (hk : k < 64) (hp : 2 ^ k = p) (ha : a < 2 ^ 64) : ((lN a).toUInt64 >>> y).toInt64 = lN (a / p) := by
  subst hy hp
  have h : UInt64.ofNat a >>> UInt64.ofNat k = UInt64.ofNat (a / 2 ^ k) := UInt64.toNat_inj.mp (by rw [UInt64.toNat_shiftRight, u_tn ha, u_tn (by omega), u_tn (Nat.lt_of_le_of_lt (Nat.div_le_self _ _) ha), Nat.mod_eq_of_lt hk, Nat.shiftRight_eq_div_pow])
  have h2 := congrArg UInt64.toInt64 h
  exact h2
theorem g_shl {a k p : Nat} {y : Int64} (hy : y.toBitVec.smod 64 = BitVec.ofNat 64 k) (hk : k < 64) (hp : 2 ^ k = p) (ha : a < 2 ^ 64) : lN a <<< y = lN (a * p) := by
  subst hp
  apply Int64.toBitVec_inj.mp
  rw [Int64.toBitVec_shiftLeft, hy]
  apply BitVec.eq_of_toNat_eq
  have hb : (lN a).toBitVec.toNat = a := Nat.mod_eq_of_lt ha
  have hk' : (BitVec.ofNat 64 k).toNat = k := Nat.mod_eq_of_lt (by omega)
  have h : ((lN a).toBitVec <<< BitVec.ofNat 64 k).toNat = (a * 2 ^ k) % 2 ^ 64 := by simp only [BitVec.shiftLeft_eq', BitVec.toNat_shiftLeft, hb, hk', Nat.shiftLeft_eq]
  exact h
/-! ===== lN to 2^62 under >> and >>> ===== -/
theorem pf_lI {a : Nat} (h : a < 2 ^ 63) : (lN a).toInt = (a : Int) := lg_ofNat_toInt h
theorem pf_shr {a d : Nat} {D : Int64} (hD : (D.toBitVec.smod 64).toNat = d) (h : a < 2 ^ 62) : lN a >>> D = lN (a / 2 ^ d) := by
  have hd : a / 2 ^ d ≤ a := Nat.div_le_self _ _
  apply Int64.toInt_inj.mp
  have e : (lN a >>> D).toInt = (lN a).toInt >>> d := by
    rw [← hD]
    exact BitVec.toInt_sshiftRight ..
  rw [e, Int.shiftRight_eq_div_pow, pf_lI (by omega), pf_lI (by omega)]
  rfl
theorem pf_ushr {a d : Nat} {D : UInt64} (hD : D.toNat % 64 = d) (h : a < 2 ^ 62) : ((lN a).toUInt64 >>> D).toInt64 = lN (a / 2 ^ d) := by
  have hd : a / 2 ^ d ≤ a := Nat.div_le_self _ _
  have e : (lN a).toUInt64 >>> D = UInt64.ofNat (a / 2 ^ d) := UInt64.toNat_inj.mp (by
    rw [UInt64.toNat_shiftRight, hD, Nat.shiftRight_eq_div_pow, UInt64.toNat_ofNat']
    show (UInt64.ofNat a).toNat / 2 ^ d = _
    rw [UInt64.toNat_ofNat', Nat.mod_eq_of_lt (by omega), Nat.mod_eq_of_lt (by omega)])
  rw [e]
  rfl
theorem pf_andw (x : Int64) : ∃ m, m < 2 ^ 32 ∧ x &&& 4294967295 = lN m := ⟨x.toBitVec.toNat % 2 ^ 32, Nat.mod_lt _ (by decide), Int64.toBitVec_inj.mp (BitVec.eq_of_toNat_eq (by
  show (x.toBitVec &&& 4294967295#64).toNat = (BitVec.ofNat 64 (x.toBitVec.toNat % 2 ^ 32)).toNat
  rw [BitVec.toNat_and, show (4294967295#64).toNat = 2 ^ 32 - 1 from by decide, Nat.and_two_pow_sub_one_eq_mod, BitVec.toNat_ofNat]
  omega))⟩
/-! ===== Int64 as an unsigned number: uN x ===== -/
def uN (x : Int64) : Nat := x.toUInt64.toNat
theorem uN_lt (x : Int64) : uN x < 18446744073709551616 := x.toUInt64.toNat_lt
theorem uN_inj {x y : Int64} (h : uN x = uN y) : x = y := congrArg UInt64.toInt64 (UInt64.toNat_inj.mp h)
theorem uN_add (x y : Int64) : uN (x + y) = (uN x + uN y) % 18446744073709551616 := by
  show (x.toUInt64 + y.toUInt64).toNat = _
  exact UInt64.toNat_add _ _
theorem uN_mul (x y : Int64) : uN (x * y) = (uN x * uN y) % 18446744073709551616 := by
  show (x.toUInt64 * y.toUInt64).toNat = _
  exact UInt64.toNat_mul _ _
theorem uN_shl (x : Int64) : uN (x <<< ((1 : Int32).toInt64 &&& 63)) = (2 * uN x) % 18446744073709551616 := by
  have h : (((1 : Int32).toInt64 &&& 63).toBitVec.smod 64).toNat = 1 := by decide
  show (x.toBitVec <<< (((1 : Int32).toInt64 &&& 63).toBitVec.smod 64).toNat).toNat = _
  rw [h, BitVec.toNat_shiftLeft, Nat.shiftLeft_eq, Nat.mul_comm]
  rfl
theorem uN_shr (x : Int64) (s : UInt64) : uN (x.toUInt64 >>> s).toInt64 = uN x / 2 ^ (s.toNat % 64) := by
  show (x.toUInt64 >>> s).toNat = _
  rw [UInt64.toNat_shiftRight, Nat.shiftRight_eq_div_pow]
  rfl
theorem uN_s32 (x : Int64) : uN (x.toUInt64 >>> ((32 : Int32).toInt64.toUInt64 &&& Int64.toUInt64 63)).toInt64 = uN x / 4294967296 := by
  have h : ((32 : Int32).toInt64.toUInt64 &&& Int64.toUInt64 63).toNat % 64 = 32 := by decide
  rw [uN_shr, h]
theorem uN_s63 (x : Int64) : uN (x.toUInt64 >>> ((63 : Int32).toInt64.toUInt64 &&& Int64.toUInt64 63)).toInt64 = uN x / 9223372036854775808 := by
  have h : ((63 : Int32).toInt64.toUInt64 &&& Int64.toUInt64 63).toNat % 64 = 63 := by decide
  rw [uN_shr, h]
theorem uN_lo (x : Int64) : uN (x &&& 4294967295) = uN x % 4294967296 := by
  show (x.toUInt64 &&& Int64.toUInt64 4294967295).toNat = _
  rw [UInt64.toNat_and]
  exact Nat.and_two_pow_sub_one_eq_mod _ 32
theorem uN_bit (x : Int64) : (x &&& 1) = 0 ↔ uN x % 2 = 0 := by
  have h : uN (x &&& 1) = uN x % 2 := by
    show (x.toUInt64 &&& Int64.toUInt64 1).toNat = _
    rw [UInt64.toNat_and]
    exact Nat.and_two_pow_sub_one_eq_mod _ 1
  rw [← h]
  exact ⟨fun z => by rw [z]; rfl, fun z => uN_inj (z.trans rfl)⟩
theorem uN_or {x y : Int64} (hy : uN y < 2) : uN ((x <<< ((1 : Int32).toInt64 &&& 63)) ||| y) = (2 * uN x) % 18446744073709551616 + uN y := by
  have h1 : uN ((x <<< ((1 : Int32).toInt64 &&& 63)) ||| y) = uN (x <<< ((1 : Int32).toInt64 &&& 63)) ||| uN y := UInt64.toNat_or _ _
  have h2 : (2 * uN x) % 18446744073709551616 = 2 ^ 1 * (uN x % 9223372036854775808) := by omega
  rw [h1, uN_shl, h2]
  exact (Nat.two_pow_add_eq_or_of_lt (i := 1) hy _).symm
theorem nat_xor {a : Nat} (h : a < 18446744073709551616) : a ^^^ 2 ^ 63 = (a + 9223372036854775808) % 18446744073709551616 := by
  have h1 : (a ^^^ 2 ^ 63) % 2 ^ 63 = a % 2 ^ 63 := by rw [Nat.xor_mod_two_pow, Nat.mod_self, Nat.xor_zero]
  have h2 : (a ^^^ 2 ^ 63) / 2 ^ 63 = (a / 2 ^ 63) ^^^ 1 := by rw [Nat.xor_div_two_pow, Nat.div_self (Nat.two_pow_pos 63)]
  have h3 : a / 2 ^ 63 = 0 ∨ a / 2 ^ 63 = 1 := by omega
  generalize a ^^^ 2 ^ 63 = t at h1 h2
  rcases h3 with h3 | h3
  · rw [h3] at h2
    have h2 : t / 2 ^ 63 = 1 := h2
    omega
  · rw [h3] at h2
    have h2 : t / 2 ^ 63 = 0 := h2
    omega
theorem uN_xor (x : Int64) : uN (x ^^^ (-9223372036854775808)) = (uN x + 9223372036854775808) % 18446744073709551616 := by
  rw [← nat_xor (uN_lt x)]
  exact UInt64.toNat_xor _ _
theorem uN_int (x : Int64) : x.toInt = if 2 * uN x < 18446744073709551616 then (uN x : Int) else (uN x : Int) - 18446744073709551616 := BitVec.toInt_eq_toNat_cond _
theorem uN_le (x y : Int64) : (x ^^^ (-9223372036854775808)) ≤ (y ^^^ (-9223372036854775808)) ↔ uN x ≤ uN y := by
  have hx := uN_lt x
  have hy := uN_lt y
  rw [Int64.le_iff_toInt_le, uN_int, uN_int, uN_xor, uN_xor]
  omega
theorem uN_sk (x : Int64) {k : Nat} (hk : k < 64) : uN (x.toUInt64 >>> ((nI k).toInt64.toUInt64 &&& Int64.toUInt64 63)).toInt64 = uN x / 2 ^ k := by
  have h : ((nI k).toInt64.toUInt64 &&& Int64.toUInt64 63).toNat % 64 = k := by
    rw [nI_l (by omega), UInt64.toNat_and]
    have e : (lN k).toUInt64.toNat = k % 2 ^ 64 := rfl
    have e2 : (Int64.toUInt64 63).toNat = 2 ^ 6 - 1 := by decide
    rw [e, e2, Nat.and_two_pow_sub_one_eq_mod]
    omega
  rw [uN_shr, h]
/-! ===== unsigned comparison by xor with the least ===== -/
theorem lN_bv (n : Nat) : (lN n).toBitVec = BitVec.ofNat 64 n := rfl
theorem lN_nat {n : Nat} (h : n < 2 ^ 64) : (lN n).toBitVec.toNat = n := by rw [lN_bv, BitVec.toNat_ofNat]; exact Nat.mod_eq_of_lt h
theorem lN_xor (a b : Nat) : lN a ^^^ lN b = lN (a ^^^ b) := by
  apply Int64.toBitVec_inj.mp; rw [Int64.toBitVec_xor, lN_bv, lN_bv, lN_bv]; apply BitVec.eq_of_getLsbD_eq; intro i hi; simp [BitVec.getLsbD_ofNat, Nat.testBit_xor, hi]
theorem lN_ti {m : Nat} (h : m < 2 ^ 64) : (lN m).toInt = if m < 2 ^ 63 then (m : Int) else (m : Int) - 2 ^ 64 := by
  have c := BitVec.toInt_eq_toNat_cond (lN m).toBitVec
  rw [lN_nat h] at c
  show (lN m).toBitVec.toInt = _
  rw [c]
  split <;> split <;> omega
theorem xor63 {x : Nat} (h : x < 2 ^ 63) : x ^^^ 2 ^ 63 = 2 ^ 63 + x := by
  apply Nat.eq_of_testBit_eq
  intro i
  rw [Nat.testBit_xor, Nat.testBit_two_pow]
  rcases Nat.lt_trichotomy i 63 with z | z | z
  · rw [Nat.testBit_two_pow_add_gt z, decide_eq_false (by omega)]; simp
  · subst z; rw [Nat.testBit_two_pow_add_eq]; simp
  · have hp : 2 ^ 64 ≤ 2 ^ i := Nat.pow_le_pow_right (by decide) z
    rw [Nat.testBit_lt_two_pow (show x < 2 ^ i by omega), Nat.testBit_lt_two_pow (show 2 ^ 63 + x < 2 ^ i by omega), decide_eq_false (by omega)]; rfl
theorem xorS {a : Nat} (h : a < 2 ^ 64) : (lN a ^^^ (-9223372036854775808)).toInt = (a : Int) - 2 ^ 63 := by
  rw [show (-9223372036854775808 : Int64) = lN (2 ^ 63) from by decide +kernel, lN_xor]
  rcases Nat.lt_or_ge a (2 ^ 63) with z | z
  · rw [xor63 z, lN_ti (by omega), if_neg (by omega)]; omega
  · obtain ⟨x, rfl⟩ : ∃ x, a = 2 ^ 63 + x := ⟨a - 2 ^ 63, by omega⟩
    rw [← xor63 (by omega), Nat.xor_assoc, Nat.xor_self, Nat.xor_zero, lN_ti (by omega), if_pos (by omega), xor63 (by omega)]; omega
theorem ultL {a b : Nat} (ha : a < 2 ^ 64) (hb : b < 2 ^ 64) : ((lN b ^^^ (-9223372036854775808)) ≤ (lN a ^^^ (-9223372036854775808))) ↔ b ≤ a := by
  rw [Int64.le_iff_toInt_le, xorS ha, xorS hb]; omega
/-! ===== Int64 masks of n low bits ===== -/
theorem cr_bits (W U M : BitVec 64) : ((W &&& U) &&& (U &&& (M ^^^ BitVec.allOnes 64))) = 0#64 ↔ (W &&& U) &&& M = W &&& U := by
  constructor
  · intro h
    apply BitVec.eq_of_getLsbD_eq
    intro i hi
    have e := congrArg (fun x => BitVec.getLsbD x i) h
    simp only [BitVec.getLsbD_and, BitVec.getLsbD_xor, BitVec.getLsbD_allOnes, BitVec.getLsbD_zero, hi, decide_true] at e ⊢
    revert e
    cases W.getLsbD i <;> cases U.getLsbD i <;> cases M.getLsbD i <;> decide
  · intro h
    apply BitVec.eq_of_getLsbD_eq
    intro i hi
    have e := congrArg (fun x => BitVec.getLsbD x i) h
    simp only [BitVec.getLsbD_and, BitVec.getLsbD_xor, BitVec.getLsbD_allOnes, BitVec.getLsbD_zero, hi, decide_true] at e ⊢
    revert e
    cases W.getLsbD i <;> cases U.getLsbD i <;> cases M.getLsbD i <;> decide
theorem cr_mask (w U m : Int64) (n : Nat) (hm : m.toBitVec.toNat = 2 ^ n - 1) : ((w &&& U) &&& (U &&& (m ^^^ (-1)))) = 0 ↔ (w &&& U).toBitVec.toNat < 2 ^ n := by
  have e0 : (-1 : Int64).toBitVec = BitVec.allOnes 64 := by decide
  have z0 : (0 : Int64).toBitVec = 0#64 := by decide
  rw [← Int64.toBitVec_inj, z0, Int64.toBitVec_and, Int64.toBitVec_and, Int64.toBitVec_and, Int64.toBitVec_xor, e0, cr_bits]
  generalize w.toBitVec &&& U.toBitVec = T
  rw [← BitVec.toNat_inj, BitVec.toNat_and, hm, Nat.and_two_pow_sub_one_eq_mod]
  constructor
  · intro h
    have t := Nat.mod_lt T.toNat (Nat.two_pow_pos n)
    rw [h] at t
    exact t
  · exact Nat.mod_eq_of_lt
theorem cr_shr (t : Int64) (x : UInt64) (n : Nat) (hx : x.toNat % 64 = n) : (t.toUInt64 >>> x).toInt64 = 0 ↔ t.toBitVec.toNat < 2 ^ n := by
  rw [← Int64.toBitVec_inj, ← BitVec.toNat_inj]
  show (t.toUInt64 >>> x).toNat = 0 ↔ t.toUInt64.toNat < 2 ^ n
  rw [UInt64.toNat_shiftRight, hx, Nat.shiftRight_eq_div_pow]
  constructor
  · intro h
    have d : t.toUInt64.toNat / 2 ^ n < 1 := by
      rw [h]
      decide
    have e := (Nat.div_lt_iff_lt_mul (Nat.two_pow_pos n)).mp d
    rw [Nat.one_mul] at e
    exact e
  · exact Nat.div_eq_of_lt
theorem cr_amt (s : Int64) : ∃ n, n < 64 ∧ s &&& 63 = lN n ∧ (s.toUInt64 &&& Int64.toUInt64 63).toNat % 64 = n := by
  have e : (s.toUInt64 &&& Int64.toUInt64 63).toNat = s.toUInt64.toNat % 2 ^ 6 := by
    rw [UInt64.toNat_and, show (Int64.toUInt64 63).toNat = 2 ^ 6 - 1 from by decide, Nat.and_two_pow_sub_one_eq_mod]
  refine ⟨s.toUInt64.toNat % 2 ^ 6, by omega, ?_, by omega⟩
  rw [← Int64.toBitVec_inj, ← BitVec.toNat_inj]
  show (s.toUInt64 &&& Int64.toUInt64 63).toNat = (BitVec.ofNat 64 (s.toUInt64.toNat % 2 ^ 6)).toNat
  rw [e, BitVec.toNat_ofNat]
  omega
end
section
/-! the search as mathematics: Lin (a completion), Fl (none), Ls (the least one in the order of the tries) -/
def hj_Dn (M D : Nat) : Prop := ∀ a, M.testBit a = true → D.testBit a = true
def hj_Lin (C : Nat → Int32 → Nat → Prop) (M : Nat) (N : Int32 → Nat → Int32) : List Nat → Nat → Int32 → Prop
  | [] => fun D _ => hj_Dn M D
  | o :: l => fun D s => C D s o ∧ hj_Lin C M N l (D ||| 2 ^ o) (N s o)
def hj_Fl (C : Nat → Int32 → Nat → Prop) (M : Nat) (N : Int32 → Nat → Int32) (D : Nat) (s : Int32) : Prop := ∀ l, ¬ hj_Lin C M N l D s
def hj_D (p : Nat → Nat) : Nat → Nat
  | 0 => 0
  | i + 1 => hj_D p i ||| 2 ^ p i
def hj_S (N : Int32 → Nat → Int32) (s0 : Int32) (p : Nat → Nat) : Nat → Int32
  | 0 => s0
  | i + 1 => N (hj_S N s0 p i) (p i)
section PU
variable {C C' : Nat → Int32 → Nat → Prop} {M : Nat} {N : Int32 → Nat → Int32} {s0 : Int32} {p p' : Nat → Nat} {d d' : Nat}
theorem hj_Fl_nd {D : Nat} {s : Int32} (h : hj_Fl C M N D s) : ¬ hj_Dn M D := h []
theorem hj_Fl_st {D : Nat} {s : Int32} (h : hj_Fl C M N D s) {o : Nat} (c : C D s o) : hj_Fl C M N (D ||| 2 ^ o) (N s o) := fun l hl => h (o :: l) ⟨c, hl⟩
theorem hj_Fl_of {D : Nat} {s : Int32} (h : ¬ hj_Dn M D) (k : ∀ o, C D s o → hj_Fl C M N (D ||| 2 ^ o) (N s o)) : hj_Fl C M N D s := by
  intro l hl
  cases l with
  | nil => exact h hl
  | cons o l => exact k o hl.1 l hl.2
theorem hj_D_c {k : Nat} (h : ∀ i, i < k → p i = p' i) : hj_D p k = hj_D p' k := by
  induction k with
  | zero => rfl
  | succ k ih =>
    show hj_D p k ||| 2 ^ p k = hj_D p' k ||| 2 ^ p' k
    rw [ih (fun i hi => h i (by omega)), h k (by omega)]
theorem hj_S_c {k : Nat} (h : ∀ i, i < k → p i = p' i) : hj_S N s0 p k = hj_S N s0 p' k := by
  induction k with
  | zero => rfl
  | succ k ih =>
    show N (hj_S N s0 p k) (p k) = N (hj_S N s0 p' k) (p' k)
    rw [ih (fun i hi => h i (by omega)), h k (by omega)]
/-- level i of a search: not yet done, and every try below t leads to nothing -/
def hj_Lv (C : Nat → Int32 → Nat → Prop) (M : Nat) (N : Int32 → Nat → Int32) (s0 : Int32) (p : Nat → Nat) (i t : Nat) : Prop :=
  ∀ q, q < t → C (hj_D p i) (hj_S N s0 p i) q → hj_Fl C M N (hj_D p i ||| 2 ^ q) (N (hj_S N s0 p i) q)
def hj_Pre (C : Nat → Int32 → Nat → Prop) (M : Nat) (N : Int32 → Nat → Int32) (s0 : Int32) (p : Nat → Nat) (d : Nat) : Prop :=
  ∀ i, i < d → ¬ hj_Dn M (hj_D p i) ∧ hj_Lv C M N s0 p i (p i) ∧ C (hj_D p i) (hj_S N s0 p i) (p i)
def hj_Ls (C : Nat → Int32 → Nat → Prop) (M : Nat) (N : Int32 → Nat → Int32) (s0 : Int32) (p : Nat → Nat) (d : Nat) : Prop :=
  hj_Pre C M N s0 p d ∧ hj_Dn M (hj_D p d)
theorem hj_Lv_c {i t : Nat} (h : ∀ j, j < i → p j = p' j) (k : hj_Lv C M N s0 p i t) : hj_Lv C M N s0 p' i t := by
  unfold hj_Lv at k ⊢
  rw [← hj_D_c h, ← hj_S_c (N := N) (s0 := s0) h]
  exact k
theorem hj_Pre_c (h : ∀ j, j < d → p j = p' j) (k : hj_Pre C M N s0 p d) : hj_Pre C M N s0 p' d := by
  intro i hi
  obtain ⟨a, b, c⟩ := k i hi
  have hj : ∀ j, j < i → p j = p' j := fun j hj => h j (by omega)
  rw [← hj_D_c hj, ← hj_S_c (N := N) (s0 := s0) hj, ← h i hi]
  exact ⟨a, hj_Lv_c hj b, c⟩
theorem hj_Ls_c (h : ∀ j, j < d → p j = p' j) (k : hj_Ls C M N s0 p d) : hj_Ls C M N s0 p' d :=
  ⟨hj_Pre_c h k.1, by rw [← hj_D_c h]; exact k.2⟩
theorem hj_Ls_nf (h : hj_Ls C M N s0 p d) : ∀ k i, i + k = d → ¬ hj_Fl C M N (hj_D p i) (hj_S N s0 p i) := by
  intro k
  induction k with
  | zero =>
    intro i hi f
    have : i = d := by omega
    subst this
    exact hj_Fl_nd f h.2
  | succ k ih =>
    intro i hi f
    exact ih (i + 1) (by omega) (hj_Fl_st f (h.1 i (by omega)).2.2)
theorem hj_Ls_u (h : hj_Ls C M N s0 p d) (h' : hj_Ls C M N s0 p' d') : d = d' ∧ ∀ i, i < d → p i = p' i := by
  have key : ∀ k, k ≤ d → k ≤ d' → ∀ i, i < k → p i = p' i := by
    intro k
    induction k with
    | zero => intro _ _ i hi; omega
    | succ k ih =>
      intro h1 h2
      have ag := ih (by omega) (by omega)
      have eD : hj_D p k = hj_D p' k := hj_D_c ag
      have eS : hj_S N s0 p k = hj_S N s0 p' k := hj_S_c ag
      have e : p k = p' k := by
        rcases Nat.lt_trichotomy (p k) (p' k) with z | z | z
        · have f := (h'.1 k (by omega)).2.1 (p k) z (by rw [← eD, ← eS]; exact (h.1 k (by omega)).2.2)
          rw [← eD, ← eS] at f
          exact absurd f (hj_Ls_nf h (d - (k + 1)) (k + 1) (by omega))
        · exact z
        · have f := (h.1 k (by omega)).2.1 (p' k) z (by rw [eD, eS]; exact (h'.1 k (by omega)).2.2)
          rw [eD, eS] at f
          exact absurd f (hj_Ls_nf h' (d' - (k + 1)) (k + 1) (by omega))
      intro i hi
      rcases Nat.lt_or_ge i k with z | z
      · exact ag i z
      · have : i = k := by omega
        subst this
        exact e
  rcases Nat.lt_trichotomy d d' with z | z | z
  · have eD : hj_D p d = hj_D p' d := hj_D_c (key d (by omega) (by omega))
    exact absurd (by rw [← eD]; exact h.2) (h'.1 d z).1
  · subst z
    exact ⟨rfl, key d (by omega) (by omega)⟩
  · have eD : hj_D p d' = hj_D p' d' := hj_D_c (key d' (by omega) (by omega))
    exact absurd (by rw [eD]; exact h'.2) (h.1 d' z).1
theorem hj_Fl_up (hC : ∀ D s o, C' D s o → C D s o ∨ hj_Dn M D) {D : Nat} {s : Int32} (f : hj_Fl C M N D s) : hj_Fl C' M N D s := by
  have key : ∀ l D s, hj_Lin C' M N l D s → ∃ l', hj_Lin C M N l' D s := by
    intro l
    induction l with
    | nil => intro D s h; exact ⟨[], h⟩
    | cons o l ih =>
      intro D s h
      rcases hC D s o h.1 with z | z
      · obtain ⟨l', hl⟩ := ih _ _ h.2
        exact ⟨o :: l', z, hl⟩
      · exact ⟨[], z⟩
  intro l hl
  obtain ⟨l', hl'⟩ := key l D s hl
  exact f l' hl'
theorem hj_Ls_up (hC : ∀ D s o, C' D s o → C D s o ∨ hj_Dn M D) (hC2 : ∀ D s o, C D s o → C' D s o) (h : hj_Ls C M N s0 p d) : hj_Ls C' M N s0 p d := by
  refine ⟨fun i hi => ?_, h.2⟩
  obtain ⟨a, b, c⟩ := h.1 i hi
  refine ⟨a, fun q hq cq => ?_, hC2 _ _ _ c⟩
  rcases hC _ _ _ cq with z | z
  · exact hj_Fl_up hC (b q hq z)
  · exact absurd z a
end PU
/-! counts: the ops from t on below P that are not in D -/
def hj_u (D : Nat) : Nat → Nat → Nat
  | _, 0 => 0
  | t, k + 1 => (if D.testBit t = true then 0 else 1) + hj_u D (t + 1) k
def hj_c (P D t : Nat) : Nat := hj_u D t (P - t)
theorem hj_c_e {P D t : Nat} (h : P ≤ t) : hj_c P D t = 0 := by
  unfold hj_c
  rw [show P - t = 0 by omega]
  rfl
theorem hj_c_s {P D t : Nat} (h : t < P) : hj_c P D t = (if D.testBit t = true then 0 else 1) + hj_c P D (t + 1) := by
  unfold hj_c
  rw [show P - t = (P - (t + 1)) + 1 by omega]
  rfl
theorem hj_c_m {P D t : Nat} : hj_c P D (t + 1) ≤ hj_c P D t := by
  rcases Nat.lt_or_ge t P with h | h
  · rw [hj_c_s h]; omega
  · rw [hj_c_e h, hj_c_e (by omega)]; omega
theorem hj_c_f {P D t : Nat} (h : t < P) (u : D.testBit t = false) : hj_c P D t = 1 + hj_c P D (t + 1) := by
  rw [hj_c_s h, u]; rfl
theorem hj_c_skip {P D o : Nat} (ho : o < P) (hD : D.testBit o = false) : ∀ k t, t + k = o → hj_c P D (o + 1) + 1 ≤ hj_c P D t := by
  intro k
  induction k with
  | zero =>
    intro t ht
    have : t = o := by omega
    subst this
    rw [hj_c_f ho hD]; omega
  | succ k ih =>
    intro t ht
    have a := ih (t + 1) (by omega)
    have b := hj_c_m (P := P) (D := D) (t := t)
    omega
theorem hj_tb_or (D o t : Nat) : (D ||| 2 ^ o).testBit t = (D.testBit t || decide (o = t)) := by
  rw [Nat.testBit_or, Nat.testBit_two_pow]
theorem hj_c_or {P D o : Nat} (ho : o < P) (hD : D.testBit o = false) : ∀ k t, P - t = k → hj_c P (D ||| 2 ^ o) t + (if t ≤ o then 1 else 0) = hj_c P D t := by
  intro k
  induction k with
  | zero =>
    intro t ht
    rw [hj_c_e (by omega), hj_c_e (by omega), if_neg (by omega)]
  | succ k ih =>
    intro t ht
    have a := ih (t + 1) (by omega)
    rw [hj_c_s (D := D) (by omega), hj_c_s (D := D ||| 2 ^ o) (by omega), ← a, hj_tb_or]
    rcases Nat.lt_trichotomy t o with z | z | z
    · rw [decide_eq_false (by omega), Bool.or_false, if_pos (show t ≤ o by omega), if_pos (show t + 1 ≤ o by omega)]; omega
    · subst z
      rw [hD, decide_eq_true rfl, if_pos (show t ≤ t by omega), if_neg (show ¬ t + 1 ≤ t by omega)]; simp; omega
    · rw [decide_eq_false (by omega), Bool.or_false, if_neg (show ¬ t ≤ o by omega), if_neg (show ¬ t + 1 ≤ o by omega)]; omega
theorem hj_c_0 (P : Nat) : hj_c P 0 0 = P := by
  have key : ∀ k t, hj_u 0 t k = k := by
    intro k
    induction k with
    | zero => intro t; rfl
    | succ k ih =>
      intro t
      show (if Nat.testBit 0 t = true then 0 else 1) + hj_u 0 (t + 1) k = k + 1
      rw [ih, Nat.zero_testBit]
      simp; omega
  exact key P 0
theorem hj_cnt {P : Nat} {p : Nat → Nat} : ∀ d, (∀ i, i < d → p i < P ∧ (hj_D p i).testBit (p i) = false) → hj_c P (hj_D p d) 0 + d = P := by
  intro d
  induction d with
  | zero => intro _; exact hj_c_0 P
  | succ d ih =>
    intro h
    have a := ih (fun i hi => h i (by omega))
    obtain ⟨b, c⟩ := h d (by omega)
    have e := hj_c_or b c P 0 (by omega)
    rw [if_pos (by omega)] at e
    show hj_c P (hj_D p d ||| 2 ^ p d) 0 + (d + 1) = P
    omega
/-! X's potential -/
def hj_w : Nat → Nat
  | 0 => 1
  | k + 1 => 1 + (k + 1) * (1 + hj_w k)
def hj_A (P : Nat) (p : Nat → Nat) : Nat → Nat
  | 0 => 0
  | i + 1 => hj_A P p i + 1 + hj_c P (hj_D p i) (p i + 1) * (1 + hj_w (8 - (i + 1)))
def hj_pX (P : Nat) (p : Nat → Nat) (d t : Nat) : Nat := hj_A P p d + 1 + hj_c P (hj_D p d) t * (1 + hj_w (8 - (d + 1)))
theorem hj_A_c {P : Nat} {p p' : Nat → Nat} {k : Nat} (h : ∀ i, i < k → p i = p' i) : hj_A P p k = hj_A P p' k := by
  induction k with
  | zero => rfl
  | succ k ih =>
    show hj_A P p k + 1 + hj_c P (hj_D p k) (p k + 1) * _ = hj_A P p' k + 1 + hj_c P (hj_D p' k) (p' k + 1) * _
    rw [ih (fun i hi => h i (by omega)), hj_D_c (fun i hi => h i (by omega) : ∀ i, i < k → p i = p' i), h k (by omega)]
theorem hj_w_b {k c : Nat} (h : c ≤ k) : 1 + c * (1 + hj_w (k - 1)) ≤ hj_w k := by
  cases k with
  | zero =>
    have : c = 0 := by omega
    subst this
    rw [Nat.zero_mul]; decide
  | succ k =>
    show 1 + c * (1 + hj_w k) ≤ 1 + (k + 1) * (1 + hj_w k)
    have := Nat.mul_le_mul_right (1 + hj_w k) h
    omega
theorem hj_pX_adv {P : Nat} {p p' : Nat → Nat} {d t o : Nat} (ag : ∀ i, i < d → p i = p' i) (ho : p' d = o) (ht : t ≤ o) (hP : o < P) (hD : (hj_D p d).testBit o = false) (hc : hj_c P (hj_D p' (d + 1)) 0 + (d + 1) ≤ 8) :
    hj_pX P p' (d + 1) 0 + 1 ≤ hj_pX P p d t := by
  unfold hj_pX
  have eD : hj_D p d = hj_D p' d := hj_D_c ag
  have eA : hj_A P p d = hj_A P p' d := hj_A_c ag
  have e1 : hj_A P p' (d + 1) = hj_A P p' d + 1 + hj_c P (hj_D p' d) (p' d + 1) * (1 + hj_w (8 - (d + 1))) := rfl
  rw [e1, ho, eD, eA]
  rw [eD] at hD
  have k1 := hj_c_skip hP hD (o - t) t (by omega)
  have k2 := Nat.mul_le_mul_right (1 + hj_w (8 - (d + 1))) k1
  rw [Nat.add_mul, Nat.one_mul] at k2
  have k3 := hj_w_b (k := 8 - (d + 1)) (c := hj_c P (hj_D p' (d + 1)) 0) (by omega)
  rw [show 8 - (d + 1) - 1 = 8 - (d + 1 + 1) by omega] at k3
  omega
theorem hj_pX_pop {P : Nat} {p : Nat → Nat} {d t : Nat} : hj_pX P p d (p d + 1) + 1 ≤ hj_pX P p (d + 1) t := by
  unfold hj_pX
  have e1 : hj_A P p (d + 1) = hj_A P p d + 1 + hj_c P (hj_D p d) (p d + 1) * (1 + hj_w (8 - (d + 1))) := rfl
  rw [e1]
  omega
theorem hj_pX_0 {P : Nat} {p : Nat → Nat} (hP : P ≤ 8) : hj_pX P p 0 0 ≤ 219201 := by
  unfold hj_pX
  have e : hj_c P (hj_D p 0) 0 = P := hj_c_0 P
  rw [e]
  have := Nat.mul_le_mul_right (1 + hj_w (8 - (0 + 1))) hP
  have e2 : 8 * (1 + hj_w (8 - (0 + 1))) = 219200 := by decide
  have e3 : hj_A P p 0 = 0 := rfl
  omega
/-! Y's potential -/
def hj_v : Nat → Nat
  | 0 => 0
  | k + 1 => 8 + (k + 1) * hj_v k
def hj_B (P : Nat) (p : Nat → Nat) : Nat → Nat
  | 0 => 0
  | i + 1 => hj_B P p i + (P - 1 - p i) + hj_c P (hj_D p i) (p i + 1) * hj_v (P - (i + 1))
def hj_pY (P : Nat) (p : Nat → Nat) (n : Nat) : Nat := hj_B P p n + (P - p n) + hj_c P (hj_D p n) (p n) * hj_v (P - (n + 1))
theorem hj_B_c {P : Nat} {p p' : Nat → Nat} {k : Nat} (h : ∀ i, i < k → p i = p' i) : hj_B P p k = hj_B P p' k := by
  induction k with
  | zero => rfl
  | succ k ih =>
    show hj_B P p k + (P - 1 - p k) + hj_c P (hj_D p k) (p k + 1) * _ = hj_B P p' k + (P - 1 - p' k) + hj_c P (hj_D p' k) (p' k + 1) * _
    rw [ih (fun i hi => h i (by omega)), hj_D_c (fun i hi => h i (by omega) : ∀ i, i < k → p i = p' i), h k (by omega)]
theorem hj_B_m {P : Nat} {p : Nat → Nat} : ∀ k m, hj_B P p m ≤ hj_B P p (m + k) := by
  intro k
  induction k with
  | zero => intro m; exact Nat.le_refl _
  | succ k ih =>
    intro m
    have a := ih m
    have e : hj_B P p (m + (k + 1)) = hj_B P p (m + k) + (P - 1 - p (m + k)) + hj_c P (hj_D p (m + k)) (p (m + k) + 1) * hj_v (P - (m + k + 1)) := rfl
    omega
theorem hj_pY_push {P : Nat} {p p' : Nat → Nat} {n : Nat} (hP : P ≤ 8) (ag : ∀ i, i < n + 1 → p i = p' i) (h0 : p' (n + 1) = 0) (hn : n + 1 < P) (hp : p n < P) (hD : (hj_D p n).testBit (p n) = false)
    (hc : hj_c P (hj_D p' (n + 1)) 0 + (n + 1) = P) : hj_pY P p' (n + 1) + 1 ≤ hj_pY P p n := by
  unfold hj_pY
  have eB : hj_B P p' (n + 1) = hj_B P p (n + 1) := (hj_B_c ag).symm
  have e1 : hj_B P p (n + 1) = hj_B P p n + (P - 1 - p n) + hj_c P (hj_D p n) (p n + 1) * hj_v (P - (n + 1)) := rfl
  rw [eB, e1, h0, hj_c_f hp hD, Nat.add_mul, Nat.one_mul]
  have k1 : P + hj_c P (hj_D p' (n + 1)) 0 * hj_v (P - (n + 1 + 1)) ≤ hj_v (P - (n + 1)) := by
    rw [show P - (n + 1) = (P - (n + 1 + 1)) + 1 by omega]
    show _ ≤ 8 + (P - (n + 1 + 1) + 1) * hj_v (P - (n + 1 + 1))
    rw [show hj_c P (hj_D p' (n + 1)) 0 = P - (n + 1 + 1) + 1 by omega]
    omega
  omega
theorem hj_pY_next {P : Nat} {p p' : Nat → Nat} {n m : Nat} (hm : m ≤ n) (ag : ∀ i, i < m → p i = p' i) (h1 : p' m = p m + 1) (hp : p m + 1 < P) (hn : p n < P) : hj_pY P p' m + 1 ≤ hj_pY P p n := by
  unfold hj_pY
  have eB : hj_B P p' m = hj_B P p m := (hj_B_c ag).symm
  have eD : hj_D p' m = hj_D p m := (hj_D_c ag).symm
  rw [eB, eD, h1]
  rcases Nat.lt_or_ge m n with z | z
  · have a := hj_B_m (P := P) (p := p) (n - (m + 1)) (m + 1)
    rw [show m + 1 + (n - (m + 1)) = n by omega] at a
    have e1 : hj_B P p (m + 1) = hj_B P p m + (P - 1 - p m) + hj_c P (hj_D p m) (p m + 1) * hj_v (P - (m + 1)) := rfl
    omega
  · have : m = n := by omega
    subst this
    have := Nat.mul_le_mul_right (hj_v (P - (m + 1))) (hj_c_m (P := P) (D := hj_D p m) (t := p m))
    omega
theorem hj_pY_0 {P : Nat} {p : Nat → Nat} (hP : P ≤ 8) (h0 : p 0 = 0) : hj_pY P p 0 ≤ 554248 := by
  unfold hj_pY
  have e : hj_c P (hj_D p 0) (p 0) = P := by rw [h0]; exact hj_c_0 P
  rw [e, h0]
  have e3 : hj_B P p 0 = 0 := rfl
  have k : ∀ q, q < 9 → q + q * hj_v (q - (0 + 1)) ≤ 554248 := by decide
  have := k P (by omega)
  omega
end
section
/-! the packed object: z values of three bits each, z from bit 24 on -/
theorem nx_or (a b : Nat) : nI a ||| nI b = nI (a ||| b) := by
  apply Int32.toBitVec_inj.1
  show BitVec.ofNat 32 a ||| BitVec.ofNat 32 b = BitVec.ofNat 32 (a ||| b)
  apply BitVec.eq_of_getLsbD_eq
  intro i hi
  simp [hi]
theorem hj_bt {n i : Nat} (h : i < 32) : bt (nI n) i = n.testBit i := by
  unfold bt
  show (BitVec.ofNat 32 n).getLsbD i = _
  rw [BitVec.getLsbD_ofNat]
  simp [h]
theorem hj_p8 (i : Nat) : 2 ^ (3 * i) = 8 ^ i := by rw [Nat.pow_mul]
theorem hj_p8p (i : Nat) : 0 < 8 ^ i := Nat.pow_pos (by omega)
theorem hj_p8s (i : Nat) : 8 ^ (i + 1) = 8 * 8 ^ i := by rw [Nat.pow_succ, Nat.mul_comm]
theorem hj_p8l {i j : Nat} (h : i ≤ j) : 8 ^ i ≤ 8 ^ j := Nat.pow_le_pow_right (by omega) h
theorem hj_p8a {i j : Nat} (h : i ≤ j) : 8 ^ j = 8 ^ i * 8 ^ (j - i) := by rw [← Nat.pow_add]; congr 1; omega
theorem hj_dA {a V i m : Nat} (h : i < m) : (a * 8 ^ m + V) / 8 ^ i % 8 = V / 8 ^ i % 8 := by
  have e : a * 8 ^ m + V = V + 8 ^ i * (8 * (8 ^ (m - (i + 1)) * a)) := by
    rw [hj_p8a (show i + 1 ≤ m by omega), hj_p8s, Nat.add_comm]
    congr 1
    simp only [Nat.mul_comm, Nat.mul_left_comm, Nat.mul_assoc]
  rw [e, Nat.add_mul_div_left _ _ (hj_p8p i), Nat.add_mul_mod_self_left]
theorem hj_dB {a V m : Nat} (h : V < 8 ^ m) (ha : a < 8) : (a * 8 ^ m + V) / 8 ^ m % 8 = a := by
  rw [Nat.add_comm, Nat.add_mul_div_right _ _ (hj_p8p m), Nat.div_eq_of_lt h, Nat.zero_add, Nat.mod_eq_of_lt ha]
theorem hj_dQ (V i : Nat) : V / 8 / 8 ^ i % 8 = V / 8 ^ (i + 1) % 8 := by
  rw [Nat.div_div_eq_div_mul, hj_p8s]
theorem hj_dC {V i m : Nat} (h : i < m) : V % 8 ^ m / 8 ^ i % 8 = V / 8 ^ i % 8 := by
  have := hj_dA (a := V / 8 ^ m) (V := V % 8 ^ m) h
  rw [Nat.div_add_mod'] at this
  exact this.symm
theorem hj_dec (V k : Nat) : V = V / 8 ^ (k + 1) * 8 ^ (k + 1) + (V / 8 ^ k % 8 * 8 ^ k + V % 8 ^ k) := by
  have a := Nat.div_add_mod' V (8 ^ k)
  have b := Nat.div_add_mod' (V / 8 ^ k) 8
  have c : V / 8 ^ k / 8 = V / 8 ^ (k + 1) := by rw [Nat.div_div_eq_div_mul, Nat.pow_succ]
  rw [c] at b
  have key : ∀ h, h * 8 + V / 8 ^ k % 8 = V / 8 ^ k → h * 8 ^ (k + 1) + V / 8 ^ k % 8 * 8 ^ k = V / 8 ^ k * 8 ^ k := fun h e => by
    rw [hj_p8s, ← Nat.mul_assoc, ← Nat.add_mul, e]
  have d := key _ b
  omega
def hj_rep (V k b : Nat) : Nat := V / 8 ^ (k + 1) * 8 ^ (k + 1) + (b * 8 ^ k + V % 8 ^ k)
theorem hj_lo {b r k : Nat} (hb : b < 8) (hr : r < 8 ^ k) : b * 8 ^ k + r < 8 ^ (k + 1) := by
  have a := Nat.mul_le_mul_right (8 ^ k) (show b ≤ 7 by omega)
  rw [hj_p8s]
  omega
theorem hj_dR {V k b i : Nat} (hb : b < 8) : hj_rep V k b / 8 ^ i % 8 = if i = k then b else V / 8 ^ i % 8 := by
  unfold hj_rep
  have hr : V % 8 ^ k < 8 ^ k := Nat.mod_lt _ (hj_p8p k)
  rcases Nat.lt_trichotomy i k with z | z | z
  · rw [if_neg (by omega), hj_dA (by omega), hj_dA z, hj_dC z]
  · subst z
    rw [if_pos rfl, hj_dA (by omega), hj_dB hr hb]
  · rw [if_neg (by omega), hj_p8a (show k + 1 ≤ i by omega), ← Nat.div_div_eq_div_mul, ← Nat.div_div_eq_div_mul]
    congr 2
    rw [Nat.add_comm, Nat.add_mul_div_right _ _ (hj_p8p (k + 1)), Nat.div_eq_of_lt (hj_lo hb hr), Nat.zero_add]
theorem hj_rep_lt {V k b z : Nat} (hb : b < 8) (hk : k < z) (hV : V < 8 ^ z) : hj_rep V k b < 8 ^ z := by
  unfold hj_rep
  have hr : V % 8 ^ k < 8 ^ k := Nat.mod_lt _ (hj_p8p k)
  have a := hj_lo hb hr
  have h1 : V / 8 ^ (k + 1) < 8 ^ (z - (k + 1)) := by
    apply Nat.div_lt_of_lt_mul
    rw [← hj_p8a (by omega)]
    exact hV
  have h2 := Nat.mul_le_mul_right (8 ^ (k + 1)) (show V / 8 ^ (k + 1) + 1 ≤ 8 ^ (z - (k + 1)) from h1)
  rw [Nat.add_mul, Nat.one_mul, Nat.mul_comm (8 ^ (z - (k + 1))), ← hj_p8a (show k + 1 ≤ z by omega)] at h2
  omega
theorem hj_b7 : ∀ j, j < 32 → bt 7 j = decide (j < 3) := by decide +kernel
theorem hj_clr {H t r k : Nat} (ht : t < 8) (hr : r < 8 ^ k) (hk : k < 8) :
    nI (H * 8 ^ (k + 1) + (t * 8 ^ k + r)) &&& (((7 : Int32) <<< (nI (3 * k) &&& 31)) ^^^ (-1)) = nI (H * 8 ^ (k + 1) + r) := by
  have hlo := hj_lo ht hr
  have hr2 : r < 8 ^ (k + 1) := Nat.lt_of_lt_of_le hr (hj_p8l (by omega))
  apply b_ext
  intro i hi
  rw [b_and, b_xor, b_m1 i hi, b_shl (3 * k) (by omega) _ hi, hj_bt hi, hj_bt hi, hj_b7 _ (by omega)]
  rw [← hj_p8] at hlo hr2 hr
  rw [← hj_p8, ← hj_p8, Nat.mul_comm H, Nat.mul_comm t] at *
  rw [Nat.testBit_two_pow_mul_add _ hlo, Nat.testBit_two_pow_mul_add _ hr2, Nat.testBit_two_pow_mul_add _ hr]
  rcases Nat.lt_or_ge i (3 * k) with z | z
  · rw [if_pos (show i < 3 * (k + 1) by omega), if_pos (show i < 3 * (k + 1) by omega), if_pos z, decide_eq_false (show ¬ 3 * k ≤ i by omega)]
    simp
  · rcases Nat.lt_or_ge i (3 * (k + 1)) with y | y
    · rw [if_pos y, if_pos y, decide_eq_true z, decide_eq_true (show i - 3 * k < 3 by omega)]
      rw [Nat.testBit_lt_two_pow (Nat.lt_of_lt_of_le hr (Nat.pow_le_pow_right (by omega) z))]
      simp
    · rw [if_neg (by omega), if_neg (by omega), decide_eq_false (show ¬ i - 3 * k < 3 by omega)]
      simp
theorem hj_ins {H b r k : Nat} (hb : b < 8) (hr : r < 8 ^ k) (hk : k < 8) :
    nI (H * 8 ^ (k + 1) + r) ||| (nI b <<< (nI (3 * k) &&& 31)) = nI (H * 8 ^ (k + 1) + (b * 8 ^ k + r)) := by
  have hlo := hj_lo hb hr
  have hr2 : r < 8 ^ (k + 1) := Nat.lt_of_lt_of_le hr (hj_p8l (by omega))
  have hs : b * 2 ^ (3 * k) < 2 ^ 32 := by
    rw [hj_p8]
    have := hj_p8l (show k + 1 ≤ 8 by omega)
    have : (8 : Nat) ^ 8 = 16777216 := by decide
    omega
  rw [pk_shlN _ (3 * k) (s_l _ (by omega)) hs, nx_or]
  congr 1
  rw [← hj_p8 (k + 1), ← hj_p8 k] at hlo
  rw [← hj_p8 (k + 1)] at hr2
  rw [← hj_p8 k] at hr
  rw [← hj_p8, ← hj_p8, Nat.mul_comm H, Nat.mul_comm b, Nat.two_pow_add_eq_or_of_lt hr2, Nat.two_pow_add_eq_or_of_lt hr, Nat.or_assoc, Nat.or_comm r, ← Nat.two_pow_add_eq_or_of_lt hr, ← Nat.two_pow_add_eq_or_of_lt (by rw [Nat.mul_comm]; exact hlo)]
/-! X's functions on the packed object, as they stand -/
def hj_sz (s : Int32) : Int32 := (s.toUInt32 >>> ((24 : Int32).toUInt32 &&& Int32.toUInt32 31)).toInt32
def hj_at (s k : Int32) : Int32 := ((s.toUInt32 >>> (k.toUInt32 &&& Int32.toUInt32 31)).toInt32) &&& 7
def hj_am (K z : Int32) : Int32 := if K = 2 then 3 * (z - 1) else 0
def hj_R (K Q : Int32) (kd oa : Nat → Int32) (s : Int32) (o : Nat) : Int32 :=
  if kd o = 0 then (if K = 0 then 1 else if hj_sz s < Q then 1 else 0)
  else if hj_sz s = 0 then (if kd o = 1 then 8 else 0)
  else if kd o = 1 then hj_at s (hj_am K (hj_sz s))
  else if hj_at s (hj_am K (hj_sz s)) = oa o then 1 else 0
def hj_ad (K s v : Int32) : Int32 := if K = 0 then 16777216 ||| v else (s ||| (v <<< ((3 * hj_sz s) &&& 31))) + 16777216
def hj_rv (K s : Int32) : Int32 :=
  (if K = 1 then ((s &&& 16777215).toUInt32 >>> ((3 : Int32).toUInt32 &&& Int32.toUInt32 31)).toInt32
   else (s &&& 16777215) &&& (((7 : Int32) <<< ((3 * (hj_sz s - 1)) &&& 31)) ^^^ (-1))) ||| ((hj_sz s - 1) <<< ((24 : Int32) &&& 31))
def hj_rp (K s v : Int32) : Int32 := (s &&& (((7 : Int32) <<< (hj_am K (hj_sz s) &&& 31)) ^^^ (-1))) ||| (v <<< (hj_am K (hj_sz s) &&& 31))
def hj_nx (K : Int32) (kd oa ob : Nat → Int32) (s : Int32) (o : Nat) (r : Int32) : Int32 :=
  if kd o = 0 then (if r = 0 then s else hj_ad K s (oa o))
  else if kd o = 1 then (if K = 0 then s else if r = 8 then s else hj_rv K s)
  else if r = 0 then s else hj_rp K s (ob o)
def hj_N (K Q : Int32) (kd oa ob : Nat → Int32) (s : Int32) (o : Nat) : Int32 := hj_nx K kd oa ob s o (hj_R K Q kd oa s o)
def hj_s0 (K : Int32) : Int32 := if K = 0 then 16777216 else 0
/-! the packed numbers -/
def hj_G (K : Int32) (z V : Nat) : Prop := z ≤ 8 ∧ V < 8 ^ z ∧ (K = 0 → z = 1)
def hj_pk (z V : Nat) : Int32 := nI (z * 16777216 + V)
theorem hj_88 : (8 : Nat) ^ 8 = 16777216 := by decide
theorem hj_G_V {K : Int32} {z V : Nat} (g : hj_G K z V) : V < 16777216 := by
  have := hj_p8l g.1
  rw [hj_88] at this
  have := g.2.1
  omega
theorem hj_sz_pk {K : Int32} {z V : Nat} (g : hj_G K z V) : hj_sz (hj_pk z V) = nI z := by
  have h := hj_G_V g
  have := g.1
  unfold hj_sz hj_pk
  rw [pk_ushrN (by omega) 24 24 (by decide)]
  congr 1
  omega
theorem hj_at_pk {K : Int32} {z V k : Nat} (g : hj_G K z V) (hk : k < 8) : hj_at (hj_pk z V) (nI (3 * k)) = nI (V / 8 ^ k % 8) := by
  have h := hj_G_V g
  have := g.1
  unfold hj_at hj_pk
  rw [pk_ushrN (by omega) _ (3 * k) (s_u _ (by omega))]
  have hd : (z * 16777216 + V) / 2 ^ (3 * k) ≤ z * 16777216 + V := Nat.div_le_self _ _
  rw [pk_andN (by omega) 3 (by decide), ← hj_88, hj_p8, show (2 : Nat) ^ 3 = 8 from rfl, hj_dA hk]
def hj_ai (K : Int32) (z : Nat) : Nat := if K = 2 then z - 1 else 0
theorem hj_ai_lt {K : Int32} {z : Nat} (h : 0 < z) : hj_ai K z < z := by
  unfold hj_ai
  split <;> omega
theorem hj_am_pk {K : Int32} {z : Nat} (h : 0 < z) : hj_am K (nI z) = nI (3 * hj_ai K z) := by
  unfold hj_am hj_ai
  split
  · show nI 3 * (nI z - nI 1) = _
    rw [pk_sub (by omega), pk_mul]
  · rfl
theorem hj_ad_pk0 {s : Int32} {a : Nat} (ha : a < 8) : hj_ad 0 s (nI a) = hj_pk 1 a := by
  unfold hj_ad hj_pk
  rw [if_pos rfl]
  show nI 16777216 ||| nI a = _
  rw [nx_or]
  have e := Nat.two_pow_add_eq_or_of_lt (show a < 2 ^ 24 by omega) 1
  rw [show (2 : Nat) ^ 24 * 1 = 16777216 from rfl] at e
  have e2 : 16777216 ||| a = 1 * 16777216 + a := by omega
  rw [e2]
theorem hj_e4 (z X : Nat) : z * 16777216 + X + 16777216 = (z + 1) * 16777216 + X := by omega
theorem hj_ad_pk {K : Int32} {z V a : Nat} (g : hj_G K z V) (hK : ¬ K = 0) (hz : z < 8) (ha : a < 8) : hj_ad K (hj_pk z V) (nI a) = hj_pk (z + 1) (a * 8 ^ z + V) := by
  unfold hj_ad
  rw [if_neg hK, hj_sz_pk g]
  have e3 : (3 : Int32) * nI z = nI (3 * z) := by
    show nI 3 * nI z = _
    rw [pk_mul]
  have e : z * 16777216 + V = z * 8 ^ (8 - (z + 1)) * 8 ^ (z + 1) + V := by
    rw [← hj_88, hj_p8a (show z + 1 ≤ 8 by omega), Nat.mul_assoc, Nat.mul_comm (8 ^ (8 - (z + 1)))]
  unfold hj_pk
  rw [e3, e, hj_ins ha g.2.1 hz, Nat.mul_assoc, Nat.mul_comm (8 ^ (8 - (z + 1))), ← hj_p8a (show z + 1 ≤ 8 by omega), hj_88]
  show nI _ + nI 16777216 = _
  rw [nI_add]
  rw [hj_e4]
theorem hj_lo24 {K : Int32} {z V : Nat} (g : hj_G K z V) : hj_pk z V &&& 16777215 = nI V := by
  have h := hj_G_V g
  have := g.1
  unfold hj_pk
  rw [pk_andN (by omega) 24 (by decide)]
  congr 1
  omega
theorem hj_hi24 {r z : Nat} (hr : r < 16777216) (hz : z ≤ 8) : nI r ||| (nI z <<< ((24 : Int32) &&& 31)) = hj_pk z r := by
  rw [pk_shlN _ 24 (by decide) (by omega), nx_or]
  unfold hj_pk
  congr 1
  have := Nat.two_pow_add_eq_or_of_lt (show r < 2 ^ 24 by omega) z
  rw [Nat.or_comm, Nat.mul_comm z, ← this]
theorem hj_rv_pk1 {z V : Nat} (g : hj_G 1 z V) (hz : 0 < z) : hj_rv 1 (hj_pk z V) = hj_pk (z - 1) (V / 8) := by
  have h := hj_G_V g
  have h8 := g.1
  unfold hj_rv
  rw [if_pos rfl, hj_lo24 g, hj_sz_pk g, pk_ushrN (by omega) 3 3 (by decide)]
  have e : nI z - 1 = nI (z - 1) := pk_sub (b := 1) hz
  rw [e, hj_hi24 (by omega) (by omega)]
theorem hj_rv_pk2 {K : Int32} {z V : Nat} (g : hj_G K z V) (hK : ¬ K = 1) (hz : 0 < z) : hj_rv K (hj_pk z V) = hj_pk (z - 1) (V % 8 ^ (z - 1)) := by
  have h := hj_G_V g
  have h8 := g.1
  unfold hj_rv
  rw [if_neg hK, hj_lo24 g, hj_sz_pk g]
  have e : nI z - 1 = nI (z - 1) := pk_sub (b := 1) hz
  have e3 : (3 : Int32) * nI (z - 1) = nI (3 * (z - 1)) := by
    show nI 3 * nI (z - 1) = _
    rw [pk_mul]
  rw [e, e3]
  have hm := Nat.mod_lt V (hj_p8p (z - 1))
  have d := hj_dec V (z - 1)
  have c := hj_clr (H := V / 8 ^ (z - 1 + 1)) (t := V / 8 ^ (z - 1) % 8) (r := V % 8 ^ (z - 1)) (k := z - 1) (Nat.mod_lt _ (by omega)) hm (by omega)
  rw [← d, show z - 1 + 1 = z by omega, Nat.div_eq_of_lt g.2.1, Nat.zero_mul, Nat.zero_add] at c
  rw [c, hj_hi24 _ (by omega)]
  have := Nat.mod_le V (8 ^ (z - 1))
  omega
theorem hj_rp_pk {K : Int32} {z V b : Nat} (g : hj_G K z V) (hz : 0 < z) (hb : b < 8) : hj_rp K (hj_pk z V) (nI b) = hj_pk z (hj_rep V (hj_ai K z) b) := by
  have h8 := g.1
  have hk := hj_ai_lt (K := K) hz
  unfold hj_rp
  rw [hj_sz_pk g, hj_am_pk hz]
  generalize hj_ai K z = k at hk
  have d := hj_dec (z * 16777216 + V) k
  have hm := Nat.mod_lt (z * 16777216 + V) (hj_p8p k)
  have c := hj_clr (H := (z * 16777216 + V) / 8 ^ (k + 1)) (t := (z * 16777216 + V) / 8 ^ k % 8) (k := k) (Nat.mod_lt _ (by omega)) hm (by omega)
  rw [← d] at c
  unfold hj_pk
  rw [c, hj_ins hb hm (by omega)]
  congr 1
  unfold hj_rep
  have e1 : ∀ j, j ≤ 8 → z * 16777216 + V = V + 8 ^ j * (8 ^ (8 - j) * z) := by
    intro j hj
    rw [← Nat.mul_assoc, ← hj_p8a hj, hj_88, Nat.mul_comm z, Nat.add_comm]
  have e2 : (z * 16777216 + V) % 8 ^ k = V % 8 ^ k := by rw [e1 k (by omega), Nat.add_mul_mod_self_left]
  have e3 : (z * 16777216 + V) / 8 ^ (k + 1) = V / 8 ^ (k + 1) + 8 ^ (8 - (k + 1)) * z := by
    rw [e1 (k + 1) (by omega), Nat.add_mul_div_left _ _ (hj_p8p (k + 1))]
  have e4 : 8 ^ (8 - (k + 1)) * z * 8 ^ (k + 1) = z * 16777216 := by
    rw [Nat.mul_comm, ← Nat.mul_assoc, ← hj_p8a (by omega), hj_88, Nat.mul_comm]
  rw [e2, e3, Nat.add_mul, e4]
  omega
theorem hj_s0_pk (K : Int32) : ∃ z, hj_s0 K = hj_pk z 0 ∧ hj_G K z 0 ∧ z ≤ 1 := by
  unfold hj_s0
  by_cases h : K = 0
  · rw [if_pos h]
    exact ⟨1, rfl, ⟨by omega, by decide, fun _ => rfl⟩, by omega⟩
  · rw [if_neg h]
    exact ⟨0, rfl, ⟨by omega, by decide, fun z => absurd z h⟩, by omega⟩
/-- what an op holds: its kind and its two values -/
def hj_Op (kd oa ob : Nat → Int32) (o : Nat) : Prop := (kd o = 0 ∨ kd o = 1 ∨ kd o = 2) ∧ (∃ a : Nat, a < 8 ∧ oa o = nI a) ∧ (∃ b : Nat, b < 8 ∧ ob o = nI b)
theorem hj_dig (V k : Nat) : V / 8 ^ k % 8 < 8 := Nat.mod_lt _ (by omega)
theorem hj_n8 {V k : Nat} : ¬ nI (V / 8 ^ k % 8) = 8 := by
  show ¬ nI _ = nI 8
  have := hj_dig V k
  rw [nI_eq (by omega) (by omega)]
  omega
theorem hj_G_N {K Q : Int32} {q : Nat} (hQ : Q = nI q) (hq : q ≤ 8) {kd oa ob : Nat → Int32} {o : Nat} (ho : hj_Op kd oa ob o) {z V : Nat} (g : hj_G K z V) (hK : K = 0 ∨ K = 1 ∨ K = 2) :
    ∃ z' V', hj_N K Q kd oa ob (hj_pk z V) o = hj_pk z' V' ∧ hj_G K z' V' := by
  obtain ⟨hk, ⟨a, ha, ea⟩, ⟨b, hb, eb⟩⟩ := ho
  have h8 := g.1
  have n01 : ¬ (1 : Int32) = 0 := by decide
  have n02 : ¬ (2 : Int32) = 0 := by decide
  have n12 : ¬ (2 : Int32) = 1 := by decide
  have n08 : ¬ (0 : Int32) = 8 := by decide
  unfold hj_N hj_nx hj_R
  rw [hj_sz_pk g, ea, eb, hQ]
  rcases hk with e | e | e
  · simp only [e, if_true]
    by_cases k0 : K = 0
    · subst k0
      simp only [if_true, n01, if_false]
      exact ⟨1, a, hj_ad_pk0 ha, by omega, by omega, fun _ => rfl⟩
    · simp only [k0, if_false]
      by_cases c : nI z < nI q
      · rw [nI_ltI (by omega) (by omega)] at c
        simp only [nI_ltI (show z < 2 ^ 31 by omega) (show q < 2 ^ 31 by omega), c, if_true, n01, if_false]
        exact ⟨z + 1, a * 8 ^ z + V, hj_ad_pk g k0 (by omega) ha, by omega, hj_lo ha g.2.1, fun z => absurd z k0⟩
      · simp only [c, if_false, if_true]
        exact ⟨z, V, rfl, g⟩
  · simp only [e, n01, if_false, if_true]
    by_cases k0 : K = 0
    · simp only [k0, if_true]
      exact ⟨z, V, rfl, by rw [← k0]; exact g⟩
    · simp only [k0, if_false]
      by_cases hz : z = 0
      · subst hz
        rw [nI_0]
        simp only [if_true]
        exact ⟨0, V, rfl, g⟩
      · have z0 : ¬ nI z = 0 := nI_ne0 (by omega) (by omega)
        have hk := hj_ai_lt (K := K) (show 0 < z by omega)
        simp only [z0, if_false]
        rw [hj_am_pk (by omega), hj_at_pk g (by omega), if_neg hj_n8]
        by_cases k1 : K = 1
        · subst k1
          refine ⟨z - 1, V / 8, hj_rv_pk1 g (by omega), by omega, ?_, fun z => absurd z k0⟩
          apply Nat.div_lt_of_lt_mul
          rw [← hj_p8s, show z - 1 + 1 = z by omega]
          exact g.2.1
        · exact ⟨z - 1, V % 8 ^ (z - 1), hj_rv_pk2 g k1 (by omega), by omega, Nat.mod_lt _ (hj_p8p _), fun z => absurd z k0⟩
  · simp only [e, n02, n12, if_false]
    by_cases hz : z = 0
    · subst hz
      rw [nI_0]
      simp only [if_true]
      exact ⟨0, V, rfl, g⟩
    · have z0 : ¬ nI z = 0 := nI_ne0 (by omega) (by omega)
      have hk := hj_ai_lt (K := K) (show 0 < z by omega)
      simp only [z0, if_false]
      rw [hj_am_pk (by omega), hj_at_pk g (by omega)]
      by_cases c : nI (V / 8 ^ hj_ai K z % 8) = nI a
      · simp only [c, if_true, n01, if_false]
        exact ⟨z, hj_rep V (hj_ai K z) b, hj_rp_pk g (by omega) hb, h8, hj_rep_lt hb hk g.2.1, g.2.2⟩
      · simp only [c, if_false, if_true]
        exact ⟨z, V, rfl, g⟩
end
section
/-! a history by its codes c and processes pr -/
def hj_cn (c : Nat → Nat) : Nat → Nat
  | 0 => 0
  | i + 1 => hj_cn c i + (if c i % 2 = 0 then 1 else 0)
def hj_rm (c : Nat → Nat) : Nat → Nat
  | 0 => 0
  | i + 1 => if c i % 2 = 0 then hj_rm c i else hj_rm c i ||| 2 ^ (c i / 2)
def hj_op (c pr : Nat → Nat) : Nat → Nat → Nat
  | 0, _ => 0
  | i + 1, p => if pr i = p then (if c i % 2 = 0 then c i / 2 + 1 else 0) else hj_op c pr i p
def hj_WF (c pr : Nat → Nat) (E : Nat) : Prop :=
  ∀ i, i < E → pr i < 4 ∧ (c i % 2 = 0 → c i / 2 = hj_cn c i ∧ hj_op c pr i (pr i) = 0) ∧ (c i % 2 = 1 → hj_op c pr i (pr i) = c i / 2 + 1)
section HI
variable {c c' pr pr' : Nat → Nat} {E : Nat}
theorem hj_cn_s (i : Nat) : hj_cn c (i + 1) = hj_cn c i + (if c i % 2 = 0 then 1 else 0) := rfl
theorem hj_cn_e {i : Nat} (h : c i % 2 = 0) : hj_cn c (i + 1) = hj_cn c i + 1 := by rw [hj_cn_s, if_pos h]
theorem hj_cn_o {i : Nat} (h : c i % 2 = 1) : hj_cn c (i + 1) = hj_cn c i := by rw [hj_cn_s, if_neg (by omega)]; rfl
theorem hj_rm_s (i : Nat) : hj_rm c (i + 1) = if c i % 2 = 0 then hj_rm c i else hj_rm c i ||| 2 ^ (c i / 2) := rfl
theorem hj_rm_e {i : Nat} (h : c i % 2 = 0) : hj_rm c (i + 1) = hj_rm c i := by rw [hj_rm_s, if_pos h]
theorem hj_rm_o {i : Nat} (h : c i % 2 = 1) : hj_rm c (i + 1) = hj_rm c i ||| 2 ^ (c i / 2) := by rw [hj_rm_s, if_neg (by omega)]
theorem hj_op_s (i p : Nat) : hj_op c pr (i + 1) p = if pr i = p then (if c i % 2 = 0 then c i / 2 + 1 else 0) else hj_op c pr i p := rfl
theorem hj_cn_c {k : Nat} (h : ∀ i, i < k → c i = c' i) : hj_cn c k = hj_cn c' k := by
  induction k with
  | zero => rfl
  | succ k ih => rw [hj_cn_s, hj_cn_s, ih (fun i hi => h i (by omega)), h k (by omega)]
theorem hj_rm_c {k : Nat} (h : ∀ i, i < k → c i = c' i) : hj_rm c k = hj_rm c' k := by
  induction k with
  | zero => rfl
  | succ k ih => rw [hj_rm_s, hj_rm_s, ih (fun i hi => h i (by omega)), h k (by omega)]
theorem hj_op_c {k : Nat} (h : ∀ i, i < k → c i = c' i) (h' : ∀ i, i < k → pr i = pr' i) (p : Nat) : hj_op c pr k p = hj_op c' pr' k p := by
  induction k with
  | zero => rfl
  | succ k ih => rw [hj_op_s, hj_op_s, ih (fun i hi => h i (by omega)) (fun i hi => h' i (by omega)), h k (by omega), h' k (by omega)]
theorem hj_WF_c (h : ∀ i, i < E → c i = c' i) (h' : ∀ i, i < E → pr i = pr' i) (w : hj_WF c pr E) : hj_WF c' pr' E := by
  intro i hi
  have a := w i hi
  have hc : ∀ j, j < i → c j = c' j := fun j hj => h j (by omega)
  have hp : ∀ j, j < i → pr j = pr' j := fun j hj => h' j (by omega)
  rw [← h i hi, ← h' i hi, ← hj_cn_c hc, ← hj_op_c hc hp]
  exact a
theorem hj_WF_le {k : Nat} (w : hj_WF c pr E) (h : k ≤ E) : hj_WF c pr k := fun i hi => w i (by omega)
theorem hj_cn_m (i : Nat) : ∀ k, hj_cn c i ≤ hj_cn c (i + k) := by
  intro k
  induction k with
  | zero => exact Nat.le_refl _
  | succ k ih =>
    have : hj_cn c (i + (k + 1)) = hj_cn c (i + k) + (if c (i + k) % 2 = 0 then 1 else 0) := rfl
    omega
theorem hj_cn_l {i j : Nat} (h : i ≤ j) : hj_cn c i ≤ hj_cn c j := by
  have := hj_cn_m (c := c) i (j - i)
  rw [show i + (j - i) = j by omega] at this
  exact this
theorem hj_call_u (w : hj_WF c pr E) {i j : Nat} (hi : i < E) (hj : j < E) (e : c i % 2 = 0) (h : c i = c j) : i = j := by
  have key : ∀ i j, i < j → j < E → c i % 2 = 0 → c i = c j → False := by
    intro i j hij hj e h
    have a := ((w i (by omega)).2.1 e).1
    have b := ((w j hj).2.1 (by omega)).1
    have m := hj_cn_l (c := c) (show i + 1 ≤ j by omega)
    rw [hj_cn_e e] at m
    omega
  rcases Nat.lt_trichotomy i j with z | z | z
  · exact (key i j z hj e h).elim
  · exact z
  · exact (key j i z hi (by omega) h.symm).elim
theorem hj_op_ex {p o : Nat} : ∀ i, hj_op c pr i p = o + 1 → ∃ j, j < i ∧ c j = 2 * o ∧ pr j = p ∧ ∀ k, j < k → k < i → pr k ≠ p := by
  intro i
  induction i with
  | zero => intro h; exact absurd h (by show ¬ 0 = o + 1; omega)
  | succ i ih =>
    intro h
    rw [hj_op_s] at h
    by_cases e : pr i = p
    · rw [if_pos e] at h
      by_cases z : c i % 2 = 0
      · rw [if_pos z] at h
        exact ⟨i, by omega, by omega, e, fun k h1 h2 => by omega⟩
      · rw [if_neg z] at h
        omega
    · rw [if_neg e] at h
      obtain ⟨j, a, b, d, f⟩ := ih h
      refine ⟨j, by omega, b, d, fun k h1 h2 => ?_⟩
      rcases Nat.lt_or_ge k i with z | z
      · exact f k h1 z
      · have : k = i := by omega
        subst this
        exact e
/-- an op returns once -/
theorem hj_ret_u (w : hj_WF c pr E) {i k o : Nat} (hi : i < E) (hk : k < E) (h1 : c i = 2 * o + 1) (h2 : c k = 2 * o + 1) : i = k := by
  have key : ∀ i k, k < i → i < E → c i = 2 * o + 1 → c k = 2 * o + 1 → False := by
    intro i k hki hi h1 h2
    have a := (w i hi).2.2 (by omega)
    have b := (w k (by omega)).2.2 (by omega)
    rw [show c i / 2 = o by omega] at a
    rw [show c k / 2 = o by omega] at b
    obtain ⟨j, j1, j2, j3, j4⟩ := hj_op_ex i a
    obtain ⟨l, l1, l2, l3, l4⟩ := hj_op_ex k b
    have e : j = l := hj_call_u w (by omega) (by omega) (by omega) (by omega)
    subst e
    exact j4 k l1 hki (by omega)
  rcases Nat.lt_trichotomy i k with z | z | z
  · exact (key k i z hk h2 h1).elim
  · exact z
  · exact (key i k z hi h1 h2).elim
/-- an op under way hasn't returned -/
theorem hj_op_nr (w : hj_WF c pr E) {p o : Nat} (h : hj_op c pr E p = o + 1) : ∀ k, k < E → c k ≠ 2 * o + 1 := by
  intro k hk e
  have b := (w k hk).2.2 (by omega)
  rw [show c k / 2 = o by omega] at b
  obtain ⟨j, j1, j2, j3, j4⟩ := hj_op_ex E h
  obtain ⟨l, l1, l2, l3, l4⟩ := hj_op_ex k b
  have e : j = l := hj_call_u w (by omega) (by omega) (by omega) (by omega)
  subst e
  exact j4 k l1 hk (by omega)
theorem hj_call_ex (w : hj_WF c pr E) {o : Nat} : ∀ i, i ≤ E → o < hj_cn c i → ∃ j, j < i ∧ c j = 2 * o := by
  intro i
  induction i with
  | zero => intro _ h; exact absurd h (by show ¬ o < 0; omega)
  | succ i ih =>
    intro hi h
    by_cases z : c i % 2 = 0
    · rw [hj_cn_e z] at h
      have a := ((w i (by omega)).2.1 z).1
      rcases Nat.lt_or_ge o (hj_cn c i) with y | y
      · obtain ⟨j, h1, h2⟩ := ih (by omega) y
        exact ⟨j, by omega, h2⟩
      · exact ⟨i, by omega, by omega⟩
    · rw [hj_cn_o (by omega)] at h
      obtain ⟨j, h1, h2⟩ := ih (by omega) h
      exact ⟨j, by omega, h2⟩
theorem hj_call_lt (w : hj_WF c pr E) {i j o : Nat} (hj : j < i) (hi : i ≤ E) (h : c j = 2 * o) : o < hj_cn c i := by
  have a := ((w j (by omega)).2.1 (by omega)).1
  have m := hj_cn_l (c := c) (show j + 1 ≤ i by omega)
  rw [hj_cn_e (by omega)] at m
  omega
theorem hj_ret_call (w : hj_WF c pr E) {j o : Nat} (hj : j < E) (h : c j = 2 * o + 1) : ∃ l, l < j ∧ c l = 2 * o ∧ pr l = pr j := by
  have b := (w j hj).2.2 (by omega)
  rw [show c j / 2 = o by omega] at b
  obtain ⟨l, l1, l2, l3, l4⟩ := hj_op_ex j b
  exact ⟨l, l1, l2, l3⟩
theorem hj_ret_lt (w : hj_WF c pr E) {i j o : Nat} (hj : j < i) (hi : i ≤ E) (h : c j = 2 * o + 1) : o < hj_cn c i := by
  obtain ⟨l, h1, h2, -⟩ := hj_ret_call w (by omega) h
  exact hj_call_lt w (by omega) hi h2
theorem hj_op_lt (w : hj_WF c pr E) {p o : Nat} (h : hj_op c pr E p = o + 1) : o < hj_cn c E := by
  obtain ⟨j, j1, j2, j3, j4⟩ := hj_op_ex E h
  exact hj_call_lt w j1 (Nat.le_refl _) j2
theorem hj_rm_iff {a : Nat} : ∀ i, (hj_rm c i).testBit a = true ↔ ∃ j, j < i ∧ c j = 2 * a + 1 := by
  intro i
  induction i with
  | zero =>
    constructor
    · intro h
      rw [show hj_rm c 0 = 0 from rfl, Nat.zero_testBit] at h
      exact absurd h (by decide)
    · rintro ⟨j, h, -⟩
      omega
  | succ i ih =>
    by_cases z : c i % 2 = 0
    · rw [hj_rm_e z, ih]
      constructor
      · rintro ⟨j, h1, h2⟩
        exact ⟨j, by omega, h2⟩
      · rintro ⟨j, h1, h2⟩
        rcases Nat.lt_or_ge j i with y | y
        · exact ⟨j, y, h2⟩
        · have : j = i := by omega
          subst this
          omega
    · rw [hj_rm_o (by omega), hj_tb_or, Bool.or_eq_true, ih, decide_eq_true_iff]
      constructor
      · rintro (⟨j, h1, h2⟩ | h)
        · exact ⟨j, by omega, h2⟩
        · exact ⟨i, by omega, by omega⟩
      · rintro ⟨j, h1, h2⟩
        rcases Nat.lt_or_ge j i with y | y
        · exact Or.inl ⟨j, y, h2⟩
        · have : j = i := by omega
          subst this
          exact Or.inr (by omega)
theorem hj_rm_lt (w : hj_WF c pr E) {i : Nat} (hi : i ≤ E) : hj_rm c i < 2 ^ hj_cn c i := by
  apply Nat.lt_pow_two_of_testBit
  intro a ha
  cases h : (hj_rm c i).testBit a
  · rfl
  · obtain ⟨j, h1, h2⟩ := (hj_rm_iff i).mp h
    have := hj_ret_lt w h1 hi h2
    omega
theorem hj_rm_256 (w : hj_WF c pr E) {i : Nat} (hi : i ≤ E) (h8 : hj_cn c E ≤ 8) : hj_rm c i < 256 := by
  have a := hj_rm_lt w hi
  have b := hj_cn_l (c := c) hi
  have d : 2 ^ hj_cn c i ≤ 2 ^ 8 := Nat.pow_le_pow_right (by omega) (by omega)
  omega
def hj_z (c pr : Nat → Nat) (i p : Nat) : Nat := if hj_op c pr i p = 0 then 0 else 1
theorem hj_count (w : hj_WF c pr E) : ∀ i, i ≤ E → i + hj_z c pr i 0 + hj_z c pr i 1 + hj_z c pr i 2 + hj_z c pr i 3 = 2 * hj_cn c i := by
  intro i
  induction i with
  | zero => intro _; rfl
  | succ i ih =>
    intro hi
    have a := ih (by omega)
    obtain ⟨h4, he, ho⟩ := w i (by omega)
    have ne : ∀ p, pr i ≠ p → hj_z c pr (i + 1) p = hj_z c pr i p := by
      intro p hp
      unfold hj_z
      rw [hj_op_s, if_neg hp]
    have key : hj_z c pr (i + 1) (pr i) + 1 + 2 * hj_cn c i = hj_z c pr i (pr i) + 2 * hj_cn c (i + 1) := by
      unfold hj_z
      by_cases z : c i % 2 = 0
      · rw [hj_cn_e z, hj_op_s, if_pos rfl, if_pos z, (he z).2, if_neg (by omega), if_pos rfl]
        omega
      · rw [hj_cn_o (by omega), hj_op_s, if_pos rfl, if_neg z, ho (by omega), if_pos rfl, if_neg (by omega)]
    have c4 : pr i = 0 ∨ pr i = 1 ∨ pr i = 2 ∨ pr i = 3 := by omega
    rcases c4 with z | z | z | z <;> rw [z] at ne key
    · rw [ne 1 (by omega), ne 2 (by omega), ne 3 (by omega)]; omega
    · rw [ne 0 (by omega), ne 2 (by omega), ne 3 (by omega)]; omega
    · rw [ne 0 (by omega), ne 1 (by omega), ne 3 (by omega)]; omega
    · rw [ne 0 (by omega), ne 1 (by omega), ne 2 (by omega)]; omega
theorem hj_E_le (w : hj_WF c pr E) : E ≤ 2 * hj_cn c E := by
  have := hj_count w E (Nat.le_refl _)
  omega
theorem hj_E_lt (w : hj_WF c pr E) {p o : Nat} (hp : p < 4) (h : hj_op c pr E p = o + 1) : E < 2 * hj_cn c E := by
  have a := hj_count w E (Nat.le_refl _)
  have b : hj_z c pr E p = 1 := by unfold hj_z; rw [h, if_neg (by omega)]
  have c4 : p = 0 ∨ p = 1 ∨ p = 2 ∨ p = 3 := by omega
  rcases c4 with z | z | z | z <;> rw [z] at b <;> omega
/-- a new event -/
def hj_ap (f : Nat → Nat) (E v : Nat) : Nat → Nat := fun j => if j = E then v else f j
theorem hj_ap_e {f : Nat → Nat} {v : Nat} : hj_ap f E v E = v := if_pos rfl
theorem hj_ap_l {f : Nat → Nat} {v : Nat} : ∀ i, i < E → f i = hj_ap f E v i := fun i hi => (if_neg (by omega)).symm
theorem hj_WF_call (w : hj_WF c pr E) {q : Nat} (hq : q < 4) (h : hj_op c pr E q = 0) : hj_WF (hj_ap c E (2 * hj_cn c E)) (hj_ap pr E q) (E + 1) := by
  intro i hi
  rcases Nat.lt_or_ge i E with z | z
  · exact hj_WF_c hj_ap_l hj_ap_l w i z
  · have : i = E := by omega
    subst this
    rw [hj_ap_e, hj_ap_e, ← hj_cn_c hj_ap_l, ← hj_op_c hj_ap_l hj_ap_l]
    exact ⟨hq, fun _ => ⟨by omega, h⟩, fun z => by omega⟩
theorem hj_WF_ret (w : hj_WF c pr E) {q o : Nat} (hq : q < 4) (h : hj_op c pr E q = o + 1) : hj_WF (hj_ap c E (2 * o + 1)) (hj_ap pr E q) (E + 1) := by
  intro i hi
  rcases Nat.lt_or_ge i E with z | z
  · exact hj_WF_c hj_ap_l hj_ap_l w i z
  · have : i = E := by omega
    subst this
    rw [hj_ap_e, hj_ap_e, ← hj_cn_c hj_ap_l, ← hj_op_c hj_ap_l hj_ap_l]
    exact ⟨hq, fun z => by omega, fun _ => by rw [h]; omega⟩
end HI
/-! the search that the first k events ask for -/
def hj_ex (c : Nat → Nat) (k : Nat) (rs : Nat → Int32) (o : Nat) : Int32 := if (hj_rm c k).testBit o = true then rs o else -9
def hj_Can (P : Nat) (bf : Nat → Nat) (ex : Nat → Int32) (R : Int32 → Nat → Int32) (D : Nat) (s : Int32) (o : Nat) : Prop :=
  o < P ∧ D.testBit o = false ∧ hj_Dn (bf o) D ∧ (ex o = -9 ∨ ex o = R s o)
theorem hj_Can_c {P : Nat} {bf bf' : Nat → Nat} {ex ex' : Nat → Int32} {R R' : Int32 → Nat → Int32} (h1 : ∀ o, o < P → bf o = bf' o) (h2 : ∀ o, o < P → ex o = ex' o) (h3 : ∀ s o, o < P → R s o = R' s o) :
    hj_Can P bf ex R = hj_Can P bf' ex' R' := by
  funext D s o
  apply propext
  unfold hj_Can
  constructor
  · rintro ⟨a, b, c, d⟩
    rw [h1 o a] at c
    rw [h2 o a, h3 s o a] at d
    exact ⟨a, b, c, d⟩
  · rintro ⟨a, b, c, d⟩
    rw [← h1 o a] at c
    rw [← h2 o a, ← h3 s o a] at d
    exact ⟨a, b, c, d⟩
/-- a call as the last event lets nothing new in before the search is done -/
theorem hj_Can_up {P M : Nat} {bf : Nat → Nat} {ex ex' : Nat → Int32} {R : Int32 → Nat → Int32} (hb : bf P = M) (he : ∀ o, o < P → ex' o = ex o) :
    (∀ D s o, hj_Can (P + 1) bf ex' R D s o → hj_Can P bf ex R D s o ∨ hj_Dn M D) ∧ (∀ D s o, hj_Can P bf ex R D s o → hj_Can (P + 1) bf ex' R D s o) := by
  refine ⟨?_, ?_⟩
  · rintro D s o ⟨a, b, c, d⟩
    rcases Nat.lt_or_ge o P with z | z
    · rw [he o z] at d
      exact Or.inl ⟨z, b, c, d⟩
    · have : o = P := by omega
      subst this
      rw [hb] at c
      exact Or.inr c
  · rintro D s o ⟨a, b, c, d⟩
    rw [← he o a] at d
    exact ⟨by omega, b, c, d⟩
/-- the history: Y's events against the ops as X keeps them -/
def hj_H (c pr : Nat → Nat) (E : Nat) (vC vP vK vA vB vR kd oa ob rs : Nat → Int32) (bf : Nat → Nat) : Prop :=
  hj_WF c pr E ∧ hj_cn c E ≤ 8 ∧
  (∀ i, i < E → vC i = nI (c i) ∧ vP i = nI (pr i)) ∧
  (∀ i o, i < E → c i = 2 * o → vK i = kd o ∧ vA i = oa o ∧ vB i = ob o ∧ bf o = hj_rm c i ∧ hj_Op kd oa ob o) ∧
  (∀ i o, i < E → c i = 2 * o + 1 → vR i = rs o ∧ ∃ r : Nat, r ≤ 8 ∧ rs o = nI r)
section HH
variable {c pr : Nat → Nat} {E : Nat} {vC vP vK vA vB vR kd oa ob rs : Nat → Int32} {bf : Nat → Nat}
theorem hj_H_c (h : hj_H c pr E vC vP vK vA vB vR kd oa ob rs bf) {i : Nat} (hi : i < E) : c i < 16 := by
  obtain ⟨w, h8, -⟩ := h
  by_cases z : c i % 2 = 0
  · have := hj_call_lt w hi (Nat.le_refl _) (o := c i / 2) (by omega)
    omega
  · have := hj_ret_lt w hi (Nat.le_refl _) (o := c i / 2) (by omega)
    omega
theorem hj_H_E (h : hj_H c pr E vC vP vK vA vB vR kd oa ob rs bf) : E ≤ 16 := by
  have := hj_E_le h.1
  have := h.2.1
  omega
theorem hj_H_op (h : hj_H c pr E vC vP vK vA vB vR kd oa ob rs bf) {o : Nat} (ho : o < hj_cn c E) : hj_Op kd oa ob o := by
  obtain ⟨j, h1, h2⟩ := hj_call_ex h.1 E (Nat.le_refl _) ho
  exact (h.2.2.2.1 j o h1 h2).2.2.2.2
theorem hj_H_bf (h : hj_H c pr E vC vP vK vA vB vR kd oa ob rs bf) {o : Nat} (ho : o < hj_cn c E) : bf o < 256 := by
  obtain ⟨j, h1, h2⟩ := hj_call_ex h.1 E (Nat.le_refl _) ho
  rw [(h.2.2.2.1 j o h1 h2).2.2.2.1]
  exact hj_rm_256 h.1 (by omega) h.2.1
end HH
end
section
/-! X: the object, the key, the memo -/
theorem hj_bi {α : Type} {c : Prop} [Decidable c] {a b : α} {Q : α → Prop} {A B : Prop} (h : Q (if c then a else b)) (f : c → Q a → A) (g : ¬ c → Q b → B) : (c → A) ∧ (¬ c → B) :=
  ⟨fun hc => f hc (by rw [if_pos hc] at h; exact h), fun hc => g hc (by rw [if_neg hc] at h; exact h)⟩
theorem hj_tb {D o : Nat} (hD : D < 2 ^ 31) (ho : o < 32) : ((nI D >>> (nI o &&& 31)) &&& 1) = 1 ↔ D.testBit o = true := by
  have hd : D / 2 ^ o ≤ D := Nat.div_le_self _ _
  rw [pk_shrN hD _ o (s_l o ho), pk_andN (by omega) 1 (by decide)]
  show nI _ = nI 1 ↔ _
  rw [nI_eq (by omega) (by omega), Nat.testBit_eq_decide_div_mod_eq, decide_eq_true_iff]
theorem hj_sub {B D : Nat} (hB : B < 2 ^ 32) : (nI B &&& (nI D ^^^ (-1))) = 0 ↔ hj_Dn B D := by
  constructor
  · intro h a ha
    have h32 : a < 32 := by
      rcases Nat.lt_or_ge a 32 with z | z
      · exact z
      · have := Nat.testBit_lt_two_pow (Nat.lt_of_lt_of_le hB (Nat.pow_le_pow_right (by omega) z))
        rw [this] at ha
        exact absurd ha (by decide)
    have e : bt (nI B &&& (nI D ^^^ (-1))) a = bt 0 a := by rw [h]
    rw [b_and, b_xor, b_m1 a h32, hj_bt h32, hj_bt h32, b_0, ha] at e
    simpa using e
  · intro h
    apply b_ext
    intro i hi
    rw [b_and, b_xor, b_m1 i hi, hj_bt hi, hj_bt hi, b_0]
    cases hb : B.testBit i
    · rfl
    · rw [h i hb]; rfl
theorem hj_set {D o : Nat} (ho : o < 31) : nI D ||| ((1 : Int32) <<< (nI o &&& 31)) = nI (D ||| 2 ^ o) := by
  have h2 : (2 : Nat) ^ o < 2 ^ 31 := Nat.pow_lt_pow_right (by omega) ho
  have e : (1 : Int32) <<< (nI o &&& 31) = nI (1 * 2 ^ o) := pk_shlN (n := 1) _ o (s_l o (by omega)) (by omega)
  rw [e, Nat.one_mul, nx_or]
/-- the memo: stamps up to g, and a key with stamp g is a failed pair -/
def hj_Me (F : Nat → Int32 → Prop) (g : Nat) (mk ms : Nat → Int64) : Prop :=
  ∀ j, j < 4096 → (∃ s : Nat, s ≤ g ∧ ms j = lN s) ∧ (ms j = lN g → ∃ D n, D < 256 ∧ n < 268435456 ∧ mk j = lN (D * 268435456 + n) ∧ F D (nI n))
theorem hj_Me_new {F F' : Nat → Int32 → Prop} {g : Nat} {mk ms : Nat → Int64} (h : hj_Me F g mk ms) (hg : g + 1 < 2 ^ 31) : hj_Me F' (g + 1) mk ms := by
  intro j hj
  obtain ⟨⟨s, hs, e⟩, -⟩ := h j hj
  refine ⟨⟨s, by omega, e⟩, fun z => ?_⟩
  rw [e, lN_eq (by omega) hg] at z
  omega
theorem hj_Me_w {F : Nat → Int32 → Prop} {g : Nat} {mk ms : Nat → Int64} (h : hj_Me F g mk ms) : hj_Me (fun _ _ => True) g mk ms := by
  intro j hj
  obtain ⟨a, b⟩ := h j hj
  refine ⟨a, fun z => ?_⟩
  obtain ⟨D, n, h1, h2, h3, -⟩ := b z
  exact ⟨D, n, h1, h2, h3, True.intro⟩
section XO
variable {f_processes f_operations f_capacity f_objectKind f_eventTotal f_opTotal f_returnedMask f_judged f_goodEvents f_witnessSize f_finalState f_present f_must f_pathLength : Int32} {f_generation : Int64} {a_events a_opProcess a_opKind a_opA a_opB a_opResult a_opBefore a_openOp a_witness a_witnessResults a_expected a_doneAt a_stateAt a_tryAt a_path : Nat → Int32} {a_memoKey a_memoStamp : Nat → Int64}
theorem hx_init {post : Int32 → Prop} (h : post (hj_s0 f_objectKind)) : wpX_initialState post (f_processes, f_operations, f_capacity, f_objectKind, f_eventTotal, f_opTotal, f_returnedMask, f_judged, f_goodEvents, f_witnessSize, f_finalState, f_present, f_must, f_pathLength, f_generation, a_events, a_opProcess, a_opKind, a_opA, a_opB, a_opResult, a_opBefore, a_openOp, a_witness, a_witnessResults, a_expected, a_doneAt, a_stateAt, a_tryAt, a_path, a_memoKey, a_memoStamp) := by
  unfold hj_s0 at h
  exact hj_bi h (fun _ x => x) (fun _ x => x)
theorem hx_aim {post : Int32 → Prop} {z : Int32} (h : post (hj_am f_objectKind z)) : wpX_aimShift post (f_processes, f_operations, f_capacity, f_objectKind, f_eventTotal, f_opTotal, f_returnedMask, f_judged, f_goodEvents, f_witnessSize, f_finalState, f_present, f_must, f_pathLength, f_generation, a_events, a_opProcess, a_opKind, a_opA, a_opB, a_opResult, a_opBefore, a_openOp, a_witness, a_witnessResults, a_expected, a_doneAt, a_stateAt, a_tryAt, a_path, a_memoKey, a_memoStamp) z := by
  unfold hj_am at h
  exact hj_bi h (fun _ x => x) (fun _ x => x)
theorem hx_res {post : Int32 → Prop} {s : Int32} {o : Nat} (ho : o < 8) (h : post (hj_R f_objectKind f_capacity a_opKind a_opA s o)) : wpX_resultOf post (f_processes, f_operations, f_capacity, f_objectKind, f_eventTotal, f_opTotal, f_returnedMask, f_judged, f_goodEvents, f_witnessSize, f_finalState, f_present, f_must, f_pathLength, f_generation, a_events, a_opProcess, a_opKind, a_opA, a_opB, a_opResult, a_opBefore, a_openOp, a_witness, a_witnessResults, a_expected, a_doneAt, a_stateAt, a_tryAt, a_path, a_memoKey, a_memoStamp) s (nI o) := by
  have hi : vp_in (nI o) 8 := vp_in_nI ho (by omega)
  have hc : (nI o).toNatClampNeg = o := nI_clamp (by omega)
  unfold hj_R at h
  unfold wpX_resultOf
  dsimp only
  rw [hc]
  refine nm_r (e' := hj_sz s) rfl ⟨hi, hj_bi h (fun _ h => ?_) (fun _ h => ?_)⟩
  · exact hj_bi h (fun _ x => x) (fun _ h => hj_bi h (fun _ x => x) (fun _ x => x))
  · refine hj_bi h (fun _ h => ⟨hi, hj_bi h (fun _ x => x) (fun _ x => x)⟩) (fun _ h => ?_)
    refine hx_aim ?_
    refine nm_r (e' := hj_at s (hj_am f_objectKind (hj_sz s))) rfl ⟨hi, ?_⟩
    exact hj_bi h (fun _ x => x) (fun _ h => ⟨hi, hj_bi h (fun _ x => x) (fun _ x => x)⟩)
theorem hx_add {post : Int32 → Prop} {s v : Int32} (h : post (hj_ad f_objectKind s v)) : wpX_added post (f_processes, f_operations, f_capacity, f_objectKind, f_eventTotal, f_opTotal, f_returnedMask, f_judged, f_goodEvents, f_witnessSize, f_finalState, f_present, f_must, f_pathLength, f_generation, a_events, a_opProcess, a_opKind, a_opA, a_opB, a_opResult, a_opBefore, a_openOp, a_witness, a_witnessResults, a_expected, a_doneAt, a_stateAt, a_tryAt, a_path, a_memoKey, a_memoStamp) s v := by
  unfold hj_ad at h
  unfold wpX_added
  dsimp only
  exact hj_bi h (fun _ x => x) (fun _ x => nm_r (e' := hj_sz s) rfl x)
theorem hx_rem {post : Int32 → Prop} {s : Int32} (h : post (hj_rv f_objectKind s)) : wpX_removed post (f_processes, f_operations, f_capacity, f_objectKind, f_eventTotal, f_opTotal, f_returnedMask, f_judged, f_goodEvents, f_witnessSize, f_finalState, f_present, f_must, f_pathLength, f_generation, a_events, a_opProcess, a_opKind, a_opA, a_opB, a_opResult, a_opBefore, a_openOp, a_witness, a_witnessResults, a_expected, a_doneAt, a_stateAt, a_tryAt, a_path, a_memoKey, a_memoStamp) s := by
  unfold hj_rv at h
  unfold wpX_removed
  dsimp only
  refine nm_r (e' := hj_sz s) rfl (nm_e ?_)
  by_cases k : f_objectKind = 1
  · rw [if_pos k] at h
    exact br_t k (nm_e h)
  · rw [if_neg k] at h
    exact br_f k (nm_e h)
theorem hx_rep {post : Int32 → Prop} {s v : Int32} (h : post (hj_rp f_objectKind s v)) : wpX_replaced post (f_processes, f_operations, f_capacity, f_objectKind, f_eventTotal, f_opTotal, f_returnedMask, f_judged, f_goodEvents, f_witnessSize, f_finalState, f_present, f_must, f_pathLength, f_generation, a_events, a_opProcess, a_opKind, a_opA, a_opB, a_opResult, a_opBefore, a_openOp, a_witness, a_witnessResults, a_expected, a_doneAt, a_stateAt, a_tryAt, a_path, a_memoKey, a_memoStamp) s v := by
  unfold hj_rp at h
  unfold wpX_replaced
  dsimp only
  exact nm_r (e' := hj_sz s) rfl (hx_aim h)
theorem hx_nxt {post : Int32 → Prop} {s r : Int32} {o : Nat} (ho : o < 8) (h : post (hj_nx f_objectKind a_opKind a_opA a_opB s o r)) : wpX_nextState post (f_processes, f_operations, f_capacity, f_objectKind, f_eventTotal, f_opTotal, f_returnedMask, f_judged, f_goodEvents, f_witnessSize, f_finalState, f_present, f_must, f_pathLength, f_generation, a_events, a_opProcess, a_opKind, a_opA, a_opB, a_opResult, a_opBefore, a_openOp, a_witness, a_witnessResults, a_expected, a_doneAt, a_stateAt, a_tryAt, a_path, a_memoKey, a_memoStamp) s (nI o) r := by
  have hi : vp_in (nI o) 8 := vp_in_nI ho (by omega)
  have hc : (nI o).toNatClampNeg = o := nI_clamp (by omega)
  unfold hj_nx at h
  unfold wpX_nextState
  dsimp only
  rw [hc]
  refine ⟨hi, hj_bi h (fun _ h => ?_) (fun _ h => ⟨hi, hj_bi h (fun _ h => ?_) (fun _ h => ?_)⟩)⟩
  · exact hj_bi h (fun _ x => x) (fun _ h => ⟨hi, hx_add h⟩)
  · exact hj_bi h (fun _ x => x) (fun _ h => hj_bi h (fun _ x => x) (fun _ h => hx_rem h))
  · exact hj_bi h (fun _ x => x) (fun _ h => ⟨hi, hx_rep h⟩)
theorem hx_key {post : Int64 → Prop} {d D n : Nat} (hd : d < 9) (hD : D < 256) (hn : n < 268435456) (eD : a_doneAt d = nI D) (eS : a_stateAt d = nI n) (h : post (lN (D * 268435456 + n))) : wpX_keyAt post (f_processes, f_operations, f_capacity, f_objectKind, f_eventTotal, f_opTotal, f_returnedMask, f_judged, f_goodEvents, f_witnessSize, f_finalState, f_present, f_must, f_pathLength, f_generation, a_events, a_opProcess, a_opKind, a_opA, a_opB, a_opResult, a_opBefore, a_openOp, a_witness, a_witnessResults, a_expected, a_doneAt, a_stateAt, a_tryAt, a_path, a_memoKey, a_memoStamp) (nI d) := by
  have hi : vp_in (nI d) 9 := vp_in_nI hd (by omega)
  have hc : (nI d).toNatClampNeg = d := nI_clamp (by omega)
  unfold wpX_keyAt
  dsimp only
  refine ⟨hi, hi, ?_⟩
  have e1 : lN D <<< ((28 : Int32).toInt64 &&& 63) = lN (D * 2 ^ 28) := wb_shl D (k := 28) (by omega)
  rw [hc, eD, eS, nI_l (by omega), nI_l (by omega), e1, g_or (k := 28) rfl (by omega) (by omega)]
  exact h
theorem hx_hf {F : Nat → Int32 → Prop} {g D n : Nat} (hM : hj_Me F g a_memoKey a_memoStamp) (hD : D < 256) (hn : n < 268435456) {post : Int32 → Prop} (h0 : post 0) (h1 : F D (nI n) → post 1) (x4 : Int32) :
    ∀ k i, i + k = 16 → wX_hasFailed_16 post (lN (D * 268435456 + n)) x4 f_processes f_operations f_capacity f_objectKind f_eventTotal f_opTotal f_returnedMask f_judged f_goodEvents f_witnessSize f_finalState f_present f_must f_pathLength (lN g) a_events a_opProcess a_opKind a_opA a_opB a_opResult a_opBefore a_openOp a_witness a_witnessResults a_expected a_doneAt a_stateAt a_tryAt a_path a_memoKey a_memoStamp (k + 1) (nI i) := by
  intro k
  induction k with
  | zero =>
    intro i hi
    have : i = 16 := by omega
    subst this
    exact br_t (by decide) h0
  | succ k ih =>
    intro i hi
    obtain ⟨j, hj, ej⟩ := pk_andE (x4 + nI i) (m := 4095) 12 (by decide)
    have hin : vp_in (nI j) 4096 := vp_in_nI (by omega) (by omega)
    have hc : (nI j).toNatClampNeg = j := nI_clamp (by omega)
    refine br_f (nI_ge (b := 16) (by omega) (by omega)) (nm_r ej ⟨hin, ?_⟩)
    rw [hc]
    refine br_c (fun e => ⟨hin, br_c (fun e2 => ?_) (fun _ => nm_r (nI_1 i) (ih (i + 1) (by omega)))⟩) (fun _ => h0)
    obtain ⟨D', n', hD', hn', ek, f⟩ := (hM j (by omega)).2 e
    rw [ek, pk_lEQ (by omega) (by omega)] at e2
    have eD : D' = D := by omega
    have en : n' = n := by omega
    rw [eD, en] at f
    exact h1 f
theorem hx_hasFailed {F : Nat → Int32 → Prop} {g D n d : Nat} (hM : hj_Me F g a_memoKey a_memoStamp) (hd : d < 9) (hD : D < 256) (hn : n < 268435456) (eD : a_doneAt d = nI D) (eS : a_stateAt d = nI n)
    {post : Int32 → Prop} (h0 : post 0) (h1 : F D (nI n) → post 1) : wpX_hasFailed post (f_processes, f_operations, f_capacity, f_objectKind, f_eventTotal, f_opTotal, f_returnedMask, f_judged, f_goodEvents, f_witnessSize, f_finalState, f_present, f_must, f_pathLength, lN g, a_events, a_opProcess, a_opKind, a_opA, a_opB, a_opResult, a_opBefore, a_openOp, a_witness, a_witnessResults, a_expected, a_doneAt, a_stateAt, a_tryAt, a_path, a_memoKey, a_memoStamp) (nI d) := by
  unfold wpX_hasFailed
  dsimp only
  refine hx_key hd hD hn eD eS ?_
  unfold wpX_slotOf
  dsimp only
  exact ⟨17, hx_hf hM hD hn h0 h1 _ 16 0 rfl⟩
theorem hx_rf {F : Nat → Int32 → Prop} {g D n : Nat} (hM : hj_Me F g a_memoKey a_memoStamp) (hD : D < 256) (hn : n < 268435456) (hF : F D (nI n)) {post : SX → Prop}
    (h : ∀ mk ms, hj_Me F g mk ms → post (f_processes, f_operations, f_capacity, f_objectKind, f_eventTotal, f_opTotal, f_returnedMask, f_judged, f_goodEvents, f_witnessSize, f_finalState, f_present, f_must, f_pathLength, lN g, a_events, a_opProcess, a_opKind, a_opA, a_opB, a_opResult, a_opBefore, a_openOp, a_witness, a_witnessResults, a_expected, a_doneAt, a_stateAt, a_tryAt, a_path, mk, ms)) (x4 : Int32) :
    ∀ k i, i + k = 16 → wX_rememberFailure_16 post (lN (D * 268435456 + n)) x4 f_processes f_operations f_capacity f_objectKind f_eventTotal f_opTotal f_returnedMask f_judged f_goodEvents f_witnessSize f_finalState f_present f_must f_pathLength (lN g) a_events a_opProcess a_opKind a_opA a_opB a_opResult a_opBefore a_openOp a_witness a_witnessResults a_expected a_doneAt a_stateAt a_tryAt a_path a_memoKey a_memoStamp (k + 1) (nI i) := by
  intro k
  induction k with
  | zero =>
    intro i hi
    have : i = 16 := by omega
    subst this
    exact br_t (by decide) (h _ _ hM)
  | succ k ih =>
    intro i hi
    obtain ⟨j, hj, ej⟩ := pk_andE (x4 + nI i) (m := 4095) 12 (by decide)
    have hin : vp_in (nI j) 4096 := vp_in_nI (by omega) (by omega)
    have hc : (nI j).toNatClampNeg = j := nI_clamp (by omega)
    refine br_f (nI_ge (b := 16) (by omega) (by omega)) (nm_r ej ⟨hin, ?_⟩)
    rw [hc]
    refine br_c (fun _ => nm_r (nI_1 i) (ih (i + 1) (by omega))) (fun _ => ⟨hin, nm_e ⟨hin, nm_e (h _ _ ?_)⟩⟩)
    intro l hl
    by_cases e : l = j
    · subst e
      rw [pk_uLs, pk_uLs]
      exact ⟨⟨g, Nat.le_refl _, rfl⟩, fun _ => ⟨D, n, hD, hn, rfl, hF⟩⟩
    · rw [pk_uLn e, pk_uLn e]
      exact hM l hl
theorem hx_remember {F : Nat → Int32 → Prop} {g D n d : Nat} (hM : hj_Me F g a_memoKey a_memoStamp) (hd : d < 9) (hD : D < 256) (hn : n < 268435456) (eD : a_doneAt d = nI D) (eS : a_stateAt d = nI n) (hF : F D (nI n))
    {post : SX → Prop} (h : ∀ mk ms, hj_Me F g mk ms → post (f_processes, f_operations, f_capacity, f_objectKind, f_eventTotal, f_opTotal, f_returnedMask, f_judged, f_goodEvents, f_witnessSize, f_finalState, f_present, f_must, f_pathLength, lN g, a_events, a_opProcess, a_opKind, a_opA, a_opB, a_opResult, a_opBefore, a_openOp, a_witness, a_witnessResults, a_expected, a_doneAt, a_stateAt, a_tryAt, a_path, mk, ms)) : wpX_rememberFailure post (f_processes, f_operations, f_capacity, f_objectKind, f_eventTotal, f_opTotal, f_returnedMask, f_judged, f_goodEvents, f_witnessSize, f_finalState, f_present, f_must, f_pathLength, lN g, a_events, a_opProcess, a_opKind, a_opA, a_opB, a_opResult, a_opBefore, a_openOp, a_witness, a_witnessResults, a_expected, a_doneAt, a_stateAt, a_tryAt, a_path, a_memoKey, a_memoStamp) (nI d) := by
  unfold wpX_rememberFailure
  dsimp only
  refine hx_key hd hD hn eD eS ?_
  unfold wpX_slotOf
  dsimp only
  exact ⟨17, hx_rf hM hD hn hF h _ 16 0 rfl⟩
end XO
end
section
/-! X: place, advance, search -/
/-- the search as X holds it -/
def hj_PX (P : Nat) (bf : Nat → Nat) (ex : Nat → Int32) (K Q : Int32) (kd oa ob xB xE : Nat → Int32) : Prop :=
  P ≤ 8 ∧ (∀ o, o < P → xB o = nI (bf o) ∧ bf o < 256 ∧ xE o = ex o ∧ hj_Op kd oa ob o) ∧ (∃ q : Nat, q ≤ 8 ∧ Q = nI q) ∧ (K = 0 ∨ K = 1 ∨ K = 2)
theorem hj_pk_lt {K : Int32} {z V : Nat} (g : hj_G K z V) : z * 16777216 + V < 268435456 := by
  have := hj_G_V g
  have := g.1
  omega
theorem hj_D_lt {p : Nat → Nat} : ∀ d, (∀ i, i < d → p i < 8) → hj_D p d < 256 := by
  intro d
  induction d with
  | zero => intro _; exact (by decide : 0 < 256)
  | succ d ih =>
    intro h
    have a := ih (fun i hi => h i (by omega))
    have b : 2 ^ p d < 2 ^ 8 := Nat.pow_lt_pow_right (by omega) (h d (by omega))
    show hj_D p d ||| 2 ^ p d < 2 ^ 8
    exact Nat.or_lt_two_pow a b
theorem hj_S_G {P : Nat} {bf : Nat → Nat} {ex : Nat → Int32} {K Q : Int32} {kd oa ob xB xE : Nat → Int32} (px : hj_PX P bf ex K Q kd oa ob xB xE) {p : Nat → Nat} : ∀ d, (∀ i, i < d → p i < P) →
    ∃ z V, hj_S (hj_N K Q kd oa ob) (hj_s0 K) p d = hj_pk z V ∧ hj_G K z V := by
  obtain ⟨-, ho, ⟨q, hq, eq⟩, hK⟩ := px
  intro d
  induction d with
  | zero =>
    intro _
    obtain ⟨z, e, g, -⟩ := hj_s0_pk K
    exact ⟨z, 0, e, g⟩
  | succ d ih =>
    intro h
    obtain ⟨z, V, e, g⟩ := ih (fun i hi => h i (by omega))
    show ∃ z V, hj_N K Q kd oa ob (hj_S (hj_N K Q kd oa ob) (hj_s0 K) p d) (p d) = hj_pk z V ∧ hj_G K z V
    rw [e]
    exact hj_G_N eq hq (ho _ (h d (by omega))).2.2.2 g hK
section XS
variable {f_processes f_operations f_capacity f_objectKind f_eventTotal f_opTotal f_returnedMask f_judged f_goodEvents f_witnessSize f_finalState f_present f_must f_pathLength : Int32} {f_generation : Int64} {a_events a_opProcess a_opKind a_opA a_opB a_opResult a_opBefore a_openOp a_witness a_witnessResults a_expected a_doneAt a_stateAt a_tryAt a_path : Nat → Int32} {a_memoKey a_memoStamp : Nat → Int64}
variable {P M g : Nat} {bf : Nat → Nat} {ex : Nat → Int32}
theorem hx_place {D z V d o : Nat} (px : hj_PX P bf ex f_objectKind f_capacity a_opKind a_opA a_opB a_opBefore a_expected) (hM : hj_Me (hj_Fl (hj_Can P bf ex (hj_R f_objectKind f_capacity a_opKind a_opA)) M (hj_N f_objectKind f_capacity a_opKind a_opA a_opB)) g a_memoKey a_memoStamp)
    (hd : d < 9) (eD : a_doneAt d = nI D) (hD : D < 256) (eS : a_stateAt d = hj_pk z V) (gS : hj_G f_objectKind z V) (ho : o < P) (h8 : D.testBit o = false → d < 8) {post : Int32 → SX → Prop}
    (h0 : ∀ dA sA, (∀ i, i ≤ d → dA i = a_doneAt i ∧ sA i = a_stateAt i) → ((hj_Can P bf ex (hj_R f_objectKind f_capacity a_opKind a_opA)) D (hj_pk z V) o → hj_Fl (hj_Can P bf ex (hj_R f_objectKind f_capacity a_opKind a_opA)) M (hj_N f_objectKind f_capacity a_opKind a_opA a_opB) (D ||| 2 ^ o) ((hj_N f_objectKind f_capacity a_opKind a_opA a_opB) (hj_pk z V) o)) → post 0 (f_processes, f_operations, f_capacity, f_objectKind, f_eventTotal, f_opTotal, f_returnedMask, f_judged, f_goodEvents, f_witnessSize, f_finalState, f_present, f_must, f_pathLength, lN g, a_events, a_opProcess, a_opKind, a_opA, a_opB, a_opResult, a_opBefore, a_openOp, a_witness, a_witnessResults, a_expected, dA, sA, a_tryAt, a_path, a_memoKey, a_memoStamp))
    (h1 : ∀ dA sA, (∀ i, i ≤ d → dA i = a_doneAt i ∧ sA i = a_stateAt i) → (hj_Can P bf ex (hj_R f_objectKind f_capacity a_opKind a_opA)) D (hj_pk z V) o → dA (d + 1) = nI (D ||| 2 ^ o) → sA (d + 1) = (hj_N f_objectKind f_capacity a_opKind a_opA a_opB) (hj_pk z V) o → post 1 (f_processes, f_operations, f_capacity, f_objectKind, f_eventTotal, f_opTotal, f_returnedMask, f_judged, f_goodEvents, f_witnessSize, f_finalState, f_present, f_must, f_pathLength, lN g, a_events, a_opProcess, a_opKind, a_opA, a_opB, a_opResult, a_opBefore, a_openOp, a_witness, a_witnessResults, a_expected, dA, sA, a_tryAt, a_path, a_memoKey, a_memoStamp)) :
    wpX_place post (f_processes, f_operations, f_capacity, f_objectKind, f_eventTotal, f_opTotal, f_returnedMask, f_judged, f_goodEvents, f_witnessSize, f_finalState, f_present, f_must, f_pathLength, lN g, a_events, a_opProcess, a_opKind, a_opA, a_opB, a_opResult, a_opBefore, a_openOp, a_witness, a_witnessResults, a_expected, a_doneAt, a_stateAt, a_tryAt, a_path, a_memoKey, a_memoStamp) (nI d) (nI o) := by
  obtain ⟨hP, hop, ⟨q, hq, eq⟩, hK⟩ := px
  obtain ⟨eB, hB, eE, hO⟩ := hop o ho
  have hid : vp_in (nI d) 9 := vp_in_nI hd (by omega)
  have hio : vp_in (nI o) 8 := vp_in_nI (by omega) (by omega)
  have cd : (nI d).toNatClampNeg = d := nI_clamp (by omega)
  have co : (nI o).toNatClampNeg = o := nI_clamp (by omega)
  have same : ∀ i, i ≤ d → a_doneAt i = a_doneAt i ∧ a_stateAt i = a_stateAt i := fun i _ => ⟨rfl, rfl⟩
  unfold wpX_place
  dsimp only
  rw [cd, co]
  refine ⟨hid, nm_r eD ?_⟩
  refine br_c (fun e => ?_) (fun e => ?_)
  · rw [hj_tb (by omega) (by omega)] at e
    exact h0 _ _ same (fun ⟨_, b, _⟩ => absurd e (by rw [b]; decide))
  have nb : D.testBit o = false := by
    rw [hj_tb (by omega) (by omega)] at e
    exact Bool.eq_false_iff.mpr e
  have hd8 := h8 nb
  rw [eB]
  refine ⟨hio, br_c (fun e2 => ?_) (fun e2 => ?_)⟩
  rotate_left
  · rw [hj_sub (by omega)] at e2
    exact h0 _ _ same (fun ⟨_, _, c, _⟩ => absurd c e2)
  rw [hj_sub (by omega)] at e2
  refine ⟨hid, nm_r eS ?_⟩
  refine hx_res (by omega) ?_
  rw [eE]
  have join : (ex o = -9 ∨ ex o = hj_R f_objectKind f_capacity a_opKind a_opA (hj_pk z V) o) → wX_place_72 post (nI d) (nI o) (nI D) (hj_pk z V) (hj_R f_objectKind f_capacity a_opKind a_opA (hj_pk z V) o) f_processes f_operations f_capacity f_objectKind f_eventTotal f_opTotal f_returnedMask f_judged f_goodEvents f_witnessSize f_finalState f_present f_must f_pathLength (lN g) a_events a_opProcess a_opKind a_opA a_opB a_opResult a_opBefore a_openOp a_witness a_witnessResults a_expected a_doneAt a_stateAt a_tryAt a_path a_memoKey a_memoStamp := by
    intro e3
    have can : (hj_Can P bf ex (hj_R f_objectKind f_capacity a_opKind a_opA)) D (hj_pk z V) o := ⟨ho, nb, e2, e3⟩
    have hi1 : vp_in (nI (d + 1)) 9 := vp_in_nI (by omega) (by omega)
    have c1 : (nI (d + 1)).toNatClampNeg = d + 1 := nI_clamp (by omega)
    obtain ⟨z', V', eN, gN⟩ := hj_G_N (Q := f_capacity) eq hq hO gS hK
    unfold wX_place_72
    rw [nI_1, c1]
    refine ⟨hi1, nm_r (congrArg (fun x => upd a_doneAt (d + 1) x) (hj_set (by omega))) ?_⟩
    refine hx_nxt (by omega) ⟨hi1, nm_e ?_⟩
    have hDo : D ||| 2 ^ o < 256 := Nat.or_lt_two_pow (n := 8) hD (Nat.pow_lt_pow_right (by omega) (by omega))
    have ag : ∀ i, i ≤ d → upd a_doneAt (d + 1) (nI (D ||| 2 ^ o)) i = a_doneAt i ∧ upd a_stateAt (d + 1) ((hj_N f_objectKind f_capacity a_opKind a_opA a_opB) (hj_pk z V) o) i = a_stateAt i := fun i hi => ⟨pk_un (by omega), pk_un (by omega)⟩
    have es : upd a_stateAt (d + 1) ((hj_N f_objectKind f_capacity a_opKind a_opA a_opB) (hj_pk z V) o) (d + 1) = nI (z' * 16777216 + V') := by rw [pk_us]; exact eN
    refine hx_hasFailed hM (by omega) hDo (hj_pk_lt gN) pk_us es ?_ ?_
    · exact br_t rfl (h1 _ _ ag can pk_us pk_us)
    · intro f
      refine br_f (by decide) (h0 _ _ ag fun _ => ?_)
      rw [eN]
      exact f
  refine ⟨hio, br_c (fun e3 => join (Or.inl e3)) (fun e3 => ⟨hio, br_c (fun e4 => join (Or.inr e4)) (fun e4 => ?_)⟩)⟩
  exact h0 _ _ same (fun ⟨_, _, _, c⟩ => by rcases c with c | c; exact absurd c e3; exact absurd c e4)
theorem hx_adv_loop {D z V d t0 : Nat} (px : hj_PX P bf ex f_objectKind f_capacity a_opKind a_opA a_opB a_opBefore a_expected) (hM : hj_Me (hj_Fl (hj_Can P bf ex (hj_R f_objectKind f_capacity a_opKind a_opA)) M (hj_N f_objectKind f_capacity a_opKind a_opA a_opB)) g a_memoKey a_memoStamp)
    (hd : d < 9) (hD : D < 256) (gS : hj_G f_objectKind z V) (h8 : ∀ o, o < P → D.testBit o = false → d < 8) {post : Int32 → SX → Prop}
    (h0 : ∀ dA sA, dA d = nI D → sA d = hj_pk z V → (∀ i, i ≤ d → dA i = a_doneAt i ∧ sA i = a_stateAt i) → (∀ q, q < P → (hj_Can P bf ex (hj_R f_objectKind f_capacity a_opKind a_opA)) D (hj_pk z V) q → hj_Fl (hj_Can P bf ex (hj_R f_objectKind f_capacity a_opKind a_opA)) M (hj_N f_objectKind f_capacity a_opKind a_opA a_opB) (D ||| 2 ^ q) ((hj_N f_objectKind f_capacity a_opKind a_opA a_opB) (hj_pk z V) q)) → post 0 (f_processes, f_operations, f_capacity, f_objectKind, f_eventTotal, f_opTotal, f_returnedMask, f_judged, f_goodEvents, f_witnessSize, f_finalState, nI P, f_must, f_pathLength, lN g, a_events, a_opProcess, a_opKind, a_opA, a_opB, a_opResult, a_opBefore, a_openOp, a_witness, a_witnessResults, a_expected, dA, sA, a_tryAt, a_path, a_memoKey, a_memoStamp))
    (h1 : ∀ o dA sA, t0 ≤ o → (∀ i, i ≤ d → dA i = a_doneAt i ∧ sA i = a_stateAt i) → (hj_Can P bf ex (hj_R f_objectKind f_capacity a_opKind a_opA)) D (hj_pk z V) o → (∀ q, q < o → (hj_Can P bf ex (hj_R f_objectKind f_capacity a_opKind a_opA)) D (hj_pk z V) q → hj_Fl (hj_Can P bf ex (hj_R f_objectKind f_capacity a_opKind a_opA)) M (hj_N f_objectKind f_capacity a_opKind a_opA a_opB) (D ||| 2 ^ q) ((hj_N f_objectKind f_capacity a_opKind a_opA a_opB) (hj_pk z V) q)) → d < 8 → dA (d + 1) = nI (D ||| 2 ^ o) → sA (d + 1) = (hj_N f_objectKind f_capacity a_opKind a_opA a_opB) (hj_pk z V) o →
      post 1 (f_processes, f_operations, f_capacity, f_objectKind, f_eventTotal, f_opTotal, f_returnedMask, f_judged, f_goodEvents, f_witnessSize, f_finalState, nI P, f_must, f_pathLength, lN g, a_events, a_opProcess, a_opKind, a_opA, a_opB, a_opResult, a_opBefore, a_openOp, a_witness, a_witnessResults, a_expected, dA, sA, upd (upd a_tryAt d (nI (o + 1))) (d + 1) 0, upd a_path d (nI o), a_memoKey, a_memoStamp)) :
    ∀ k t, t + k = P → t0 ≤ t → (∀ q, q < t → (hj_Can P bf ex (hj_R f_objectKind f_capacity a_opKind a_opA)) D (hj_pk z V) q → hj_Fl (hj_Can P bf ex (hj_R f_objectKind f_capacity a_opKind a_opA)) M (hj_N f_objectKind f_capacity a_opKind a_opA a_opB) (D ||| 2 ^ q) ((hj_N f_objectKind f_capacity a_opKind a_opA a_opB) (hj_pk z V) q)) → ∀ dA sA, dA d = nI D → sA d = hj_pk z V → (∀ i, i ≤ d → dA i = a_doneAt i ∧ sA i = a_stateAt i) →
      wX_advance_7 post (nI d) (k + 1) (nI t) f_processes f_operations f_capacity f_objectKind f_eventTotal f_opTotal f_returnedMask f_judged f_goodEvents f_witnessSize f_finalState (nI P) f_must f_pathLength (lN g) a_events a_opProcess a_opKind a_opA a_opB a_opResult a_opBefore a_openOp a_witness a_witnessResults a_expected dA sA a_tryAt a_path a_memoKey a_memoStamp := by
  have hP := px.1
  intro k
  induction k with
  | zero =>
    intro t ht ht0 lv dA sA e1 e2 ag
    have : t = P := by omega
    subst this
    exact br_t (nI_le (Nat.le_refl _) (by omega)) (h0 dA sA e1 e2 ag lv)
  | succ k ih =>
    intro t ht ht0 lv dA sA e1 e2 ag
    refine br_f (nI_ge (by omega) (by omega)) ?_
    refine hx_place (a_doneAt := dA) (a_stateAt := sA) (D := D) (z := z) (V := V) px hM hd e1 hD e2 gS (by omega) (h8 t (by omega)) ?_ ?_
    · intro dA' sA' ag' f
      refine br_t rfl (nm_r (nI_1 t) ?_)
      refine ih (t + 1) (by omega) (by omega) ?_ dA' sA' ((ag' d (by omega)).1.trans e1) ((ag' d (by omega)).2.trans e2) (fun i hi => ⟨(ag' i hi).1.trans (ag i hi).1, (ag' i hi).2.trans (ag i hi).2⟩)
      intro q hq cq
      rcases Nat.lt_or_ge q t with y | y
      · exact lv q y cq
      · have : q = t := by omega
        subst this
        exact f cq
    · intro dA' sA' ag' can ed es
      have hd8 := h8 t (by omega) can.2.1
      have hid : vp_in (nI d) 9 := vp_in_nI hd (by omega)
      have hi1 : vp_in (nI (d + 1)) 9 := vp_in_nI (by omega) (by omega)
      have cd : (nI d).toNatClampNeg = d := nI_clamp (by omega)
      have c1 : (nI (d + 1)).toNatClampNeg = d + 1 := nI_clamp (by omega)
      refine br_f (by decide) ?_
      rw [nI_1, nI_1, cd, c1]
      exact ⟨hid, nm_e ⟨hid, nm_e ⟨hi1, nm_e (h1 t dA' sA' ht0 (fun i hi => ⟨(ag' i hi).1.trans (ag i hi).1, (ag' i hi).2.trans (ag i hi).2⟩) can lv hd8 ed es)⟩⟩⟩
/-- what the search stack holds at depth d, next try t, on the path p -/
def hj_St (N : Int32 → Nat → Int32) (s0 : Int32) (p : Nat → Nat) (d t : Nat) (dA sA tA pA : Nat → Int32) : Prop :=
  (∀ i, i ≤ d → dA i = nI (hj_D p i) ∧ sA i = hj_S N s0 p i) ∧ (∀ i, i < d → tA i = nI (p i + 1) ∧ pA i = nI (p i)) ∧ tA d = nI t
theorem hx_search_loop (px : hj_PX P bf ex f_objectKind f_capacity a_opKind a_opA a_opB a_opBefore a_expected) (hM2 : M < 256) {post : Int32 → SX → Prop}
    (hF : ∀ dA sA tA pA mk ms, hj_Me (hj_Fl (hj_Can P bf ex (hj_R f_objectKind f_capacity a_opKind a_opA)) M (hj_N f_objectKind f_capacity a_opKind a_opA a_opB)) g mk ms → hj_Fl (hj_Can P bf ex (hj_R f_objectKind f_capacity a_opKind a_opA)) M (hj_N f_objectKind f_capacity a_opKind a_opA a_opB) 0 (hj_s0 f_objectKind) → post 0 (f_processes, f_operations, f_capacity, f_objectKind, f_eventTotal, f_opTotal, f_returnedMask, f_judged, f_goodEvents, f_witnessSize, f_finalState, nI P, nI M, f_pathLength, lN g, a_events, a_opProcess, a_opKind, a_opA, a_opB, a_opResult, a_opBefore, a_openOp, a_witness, a_witnessResults, a_expected, dA, sA, tA, pA, mk, ms))
    (hT : ∀ p d dA sA tA pA mk ms, hj_Me (hj_Fl (hj_Can P bf ex (hj_R f_objectKind f_capacity a_opKind a_opA)) M (hj_N f_objectKind f_capacity a_opKind a_opA a_opB)) g mk ms → hj_Ls (hj_Can P bf ex (hj_R f_objectKind f_capacity a_opKind a_opA)) M (hj_N f_objectKind f_capacity a_opKind a_opA a_opB) (hj_s0 f_objectKind) p d → d ≤ 8 → (∀ i, i < d → pA i = nI (p i) ∧ p i < P) → post 1 (f_processes, f_operations, f_capacity, f_objectKind, f_eventTotal, f_opTotal, f_returnedMask, f_judged, f_goodEvents, f_witnessSize, f_finalState, nI P, nI M, nI d, lN g, a_events, a_opProcess, a_opKind, a_opA, a_opB, a_opResult, a_opBefore, a_openOp, a_witness, a_witnessResults, a_expected, dA, sA, tA, pA, mk, ms)) :
    ∀ n p d t x dA sA tA pA mk ms, hj_pX P p d t + 1 < n → x + hj_pX P p d t ≤ 300000 → t ≤ P → hj_Pre (hj_Can P bf ex (hj_R f_objectKind f_capacity a_opKind a_opA)) M (hj_N f_objectKind f_capacity a_opKind a_opA a_opB) (hj_s0 f_objectKind) p d → hj_Lv (hj_Can P bf ex (hj_R f_objectKind f_capacity a_opKind a_opA)) M (hj_N f_objectKind f_capacity a_opKind a_opA a_opB) (hj_s0 f_objectKind) p d t → hj_St (hj_N f_objectKind f_capacity a_opKind a_opA a_opB) (hj_s0 f_objectKind) p d t dA sA tA pA → hj_Me (hj_Fl (hj_Can P bf ex (hj_R f_objectKind f_capacity a_opKind a_opA)) M (hj_N f_objectKind f_capacity a_opKind a_opA a_opB)) g mk ms →
      wX_search_38 post n (nI d) (nI x) f_processes f_operations f_capacity f_objectKind f_eventTotal f_opTotal f_returnedMask f_judged f_goodEvents f_witnessSize f_finalState (nI P) (nI M) f_pathLength (lN g) a_events a_opProcess a_opKind a_opA a_opB a_opResult a_opBefore a_openOp a_witness a_witnessResults a_expected dA sA tA pA mk ms := by
  have hP := px.1
  intro n
  induction n with
  | zero => intro p d t x dA sA tA pA mk ms h; omega
  | succ n ih =>
    intro p d t x dA sA tA pA mk ms hn hx htP pre lv st hM
    have hp : ∀ i, i < d → p i < P ∧ (hj_D p i).testBit (p i) = false := fun i hi => ⟨(pre i hi).2.2.1, (pre i hi).2.2.2.1⟩
    have cnt := hj_cnt d hp
    have hd : d ≤ 8 := by omega
    have hD := hj_D_lt d (fun i hi => Nat.lt_of_lt_of_le (hp i hi).1 hP)
    obtain ⟨z, V, eS, gS⟩ := hj_S_G px d (fun i hi => (hp i hi).1)
    have hid : vp_in (nI d) 9 := vp_in_nI (by omega) (by omega)
    have cd : (nI d).toNatClampNeg = d := nI_clamp (by omega)
    obtain ⟨st1, st2, st3⟩ := st
    have eD := (st1 d (by omega)).1
    have eS' : sA d = hj_pk z V := (st1 d (by omega)).2.trans eS
    refine br_f (nI_ge (b := 1000000) (by omega) (by omega)) (br_f (nI_pos (by omega)) ⟨hid, ?_⟩)
    rw [cd, eD]
    refine br_c (fun e => ?_) (fun e => ?_)
    · rw [hj_sub (by omega)] at e
      exact hT p d dA sA tA pA mk ms hM ⟨pre, e⟩ hd (fun i hi => ⟨(st2 i hi).2, (hp i hi).1⟩)
    rw [hj_sub (by omega)] at e
    unfold wpX_advance
    dsimp only
    rw [cd, st3]
    refine ⟨hid, nm_e ⟨P - t + 1, ?_⟩⟩
    have lv' : ∀ q, q < t → (hj_Can P bf ex (hj_R f_objectKind f_capacity a_opKind a_opA)) (hj_D p d) (hj_pk z V) q → hj_Fl (hj_Can P bf ex (hj_R f_objectKind f_capacity a_opKind a_opA)) M (hj_N f_objectKind f_capacity a_opKind a_opA a_opB) (hj_D p d ||| 2 ^ q) ((hj_N f_objectKind f_capacity a_opKind a_opA a_opB) (hj_pk z V) q) := by
      rw [← eS]; exact lv
    refine hx_adv_loop (D := hj_D p d) (z := z) (V := V) (t0 := t) (a_doneAt := dA) (a_stateAt := sA) px hM (by omega) hD gS ?_ ?_ ?_ (P - t) t (by omega) (Nat.le_refl _) lv' dA sA eD eS' (fun i _ => ⟨rfl, rfl⟩)
    · intro o ho nb
      have := hj_c_skip ho nb o 0 (by omega)
      omega
    · intro dA' sA' e1 e2 ag all
      have fl : hj_Fl (hj_Can P bf ex (hj_R f_objectKind f_capacity a_opKind a_opA)) M (hj_N f_objectKind f_capacity a_opKind a_opA a_opB) (hj_D p d) (hj_pk z V) := hj_Fl_of e (fun o co => all o co.1 co)
      refine br_t rfl ?_
      refine hx_remember hM (by omega) hD (hj_pk_lt gS) e1 e2 fl ?_
      intro mk' ms' hM'
      cases d with
      | zero =>
        refine nm_e (nm_e ?_)
        cases n with
        | zero => omega
        | succ n =>
          have fl0 : hj_Fl (hj_Can P bf ex (hj_R f_objectKind f_capacity a_opKind a_opA)) M (hj_N f_objectKind f_capacity a_opKind a_opA a_opB) 0 (hj_s0 f_objectKind) := by
            have e0 : hj_s0 f_objectKind = hj_pk z V := eS
            rw [e0]
            exact fl
          exact br_c (fun _ => hF _ _ _ _ _ _ hM' fl0) (fun _ => br_t (by decide) (hF _ _ _ _ _ _ hM' fl0))
      | succ d =>
        refine nm_r (pk_m1 d) (nm_r (nI_1 x) ?_)
        have pop := hj_pX_pop (P := P) (p := p) (d := d) (t := t)
        refine ih p d (p d + 1) (x + 1) dA' sA' tA pA mk' ms' (by omega) (by omega) (hp d (by omega)).1 (fun i hi => pre i (by omega)) ?_ ⟨?_, fun i hi => st2 i (by omega), (st2 d (by omega)).1⟩ hM'
        · intro q hq cq
          rcases Nat.lt_or_ge q (p d) with y | y
          · exact (pre d (by omega)).2.1 q y cq
          · have : q = p d := by omega
            subst this
            show hj_Fl (hj_Can P bf ex (hj_R f_objectKind f_capacity a_opKind a_opA)) M (hj_N f_objectKind f_capacity a_opKind a_opA a_opB) (hj_D p (d + 1)) (hj_S (hj_N f_objectKind f_capacity a_opKind a_opA a_opB) (hj_s0 f_objectKind) p (d + 1))
            rw [eS]
            exact fl
        · intro i hi
          rw [(ag i (by omega)).1, (ag i (by omega)).2]
          exact st1 i (by omega)
    · intro o dA' sA' hto ag can lvo hd8 ed es
      refine br_f (by decide) (nm_r (nI_1 d) (nm_r (nI_1 x) ?_))
      have agp : ∀ i, i < d → p i = hj_ap p d o i := hj_ap_l
      have epd : hj_ap p d o d = o := hj_ap_e
      have eDd : hj_D p d = hj_D (hj_ap p d o) d := hj_D_c agp
      have eSd : hj_S (hj_N f_objectKind f_capacity a_opKind a_opA a_opB) (hj_s0 f_objectKind) p d = hj_S (hj_N f_objectKind f_capacity a_opKind a_opA a_opB) (hj_s0 f_objectKind) (hj_ap p d o) d := hj_S_c agp
      have pre' : hj_Pre (hj_Can P bf ex (hj_R f_objectKind f_capacity a_opKind a_opA)) M (hj_N f_objectKind f_capacity a_opKind a_opA a_opB) (hj_s0 f_objectKind) (hj_ap p d o) (d + 1) := by
        intro i hi
        rcases Nat.lt_or_ge i d with y | y
        · exact hj_Pre_c agp pre i y
        · have : i = d := by omega
          subst this
          unfold hj_Lv
          rw [epd, ← eDd, ← eSd, eS]
          exact ⟨e, lvo, can⟩
      have hp' : ∀ i, i < d + 1 → hj_ap p d o i < P ∧ (hj_D (hj_ap p d o) i).testBit (hj_ap p d o i) = false := fun i hi => ⟨(pre' i hi).2.2.1, (pre' i hi).2.2.2.1⟩
      have cnt' := hj_cnt (d + 1) hp'
      have adv := hj_pX_adv (P := P) agp epd hto can.1 can.2.1 (by omega)
      refine ih (hj_ap p d o) (d + 1) 0 (x + 1) dA' sA' (upd (upd tA d (nI (o + 1))) (d + 1) 0) (upd pA d (nI o)) mk ms (by omega) (by omega) (by omega) pre' (fun q hq => by omega) ⟨?_, ?_, pk_us⟩ hM
      · intro i hi
        rcases Nat.lt_or_ge i (d + 1) with y | y
        · rw [(ag i (by omega)).1, (ag i (by omega)).2, (st1 i (by omega)).1, (st1 i (by omega)).2, hj_D_c (fun j hj => agp j (by omega) : ∀ j, j < i → p j = hj_ap p d o j), hj_S_c (N := (hj_N f_objectKind f_capacity a_opKind a_opA a_opB)) (s0 := hj_s0 f_objectKind) (fun j hj => agp j (by omega) : ∀ j, j < i → p j = hj_ap p d o j)]
          exact ⟨rfl, rfl⟩
        · have : i = d + 1 := by omega
          subst this
          rw [ed, es]
          show nI (hj_D p d ||| 2 ^ o) = nI (hj_D (hj_ap p d o) d ||| 2 ^ hj_ap p d o d) ∧ (hj_N f_objectKind f_capacity a_opKind a_opA a_opB) (hj_pk z V) o = (hj_N f_objectKind f_capacity a_opKind a_opA a_opB) (hj_S (hj_N f_objectKind f_capacity a_opKind a_opA a_opB) (hj_s0 f_objectKind) (hj_ap p d o) d) (hj_ap p d o d)
          rw [epd, ← eDd, ← eSd, eS]
          exact ⟨rfl, rfl⟩
      · intro i hi
        rw [pk_un (show i ≠ d + 1 by omega)]
        rcases Nat.lt_or_ge i d with y | y
        · rw [pk_un (show i ≠ d by omega), pk_un (show i ≠ d by omega), ← agp i y]
          exact st2 i y
        · have : i = d := by omega
          subst this
          rw [pk_us, pk_us, epd]
          exact ⟨rfl, rfl⟩
theorem hx_search (px : hj_PX P bf ex f_objectKind f_capacity a_opKind a_opA a_opB a_opBefore a_expected) (hM2 : M < 256) (hg : g + 1 < 2 ^ 31) {F : Nat → Int32 → Prop} (hM : hj_Me F g a_memoKey a_memoStamp) {post : Int32 → SX → Prop}
    (hF : ∀ dA sA tA pA mk ms, hj_Me (fun _ _ => True) (g + 1) mk ms → hj_Fl (hj_Can P bf ex (hj_R f_objectKind f_capacity a_opKind a_opA)) M (hj_N f_objectKind f_capacity a_opKind a_opA a_opB) 0 (hj_s0 f_objectKind) → post 0 (f_processes, f_operations, f_capacity, f_objectKind, f_eventTotal, f_opTotal, f_returnedMask, f_judged, f_goodEvents, f_witnessSize, f_finalState, nI P, nI M, f_pathLength, lN (g + 1), a_events, a_opProcess, a_opKind, a_opA, a_opB, a_opResult, a_opBefore, a_openOp, a_witness, a_witnessResults, a_expected, dA, sA, tA, pA, mk, ms))
    (hT : ∀ p d dA sA tA pA mk ms, hj_Me (fun _ _ => True) (g + 1) mk ms → hj_Ls (hj_Can P bf ex (hj_R f_objectKind f_capacity a_opKind a_opA)) M (hj_N f_objectKind f_capacity a_opKind a_opA a_opB) (hj_s0 f_objectKind) p d → d ≤ 8 → (∀ i, i < d → pA i = nI (p i) ∧ p i < P) → post 1 (f_processes, f_operations, f_capacity, f_objectKind, f_eventTotal, f_opTotal, f_returnedMask, f_judged, f_goodEvents, f_witnessSize, f_finalState, nI P, nI M, nI d, lN (g + 1), a_events, a_opProcess, a_opKind, a_opA, a_opB, a_opResult, a_opBefore, a_openOp, a_witness, a_witnessResults, a_expected, dA, sA, tA, pA, mk, ms)) :
    wpX_search post (f_processes, f_operations, f_capacity, f_objectKind, f_eventTotal, f_opTotal, f_returnedMask, f_judged, f_goodEvents, f_witnessSize, f_finalState, nI P, nI M, f_pathLength, lN g, a_events, a_opProcess, a_opKind, a_opA, a_opB, a_opResult, a_opBefore, a_openOp, a_witness, a_witnessResults, a_expected, a_doneAt, a_stateAt, a_tryAt, a_path, a_memoKey, a_memoStamp) := by
  unfold wpX_search
  dsimp only
  refine nm_r (lN_1 g) (nm_e (hx_init (nm_e (nm_e ⟨219203, ?_⟩))))
  have h0 := hj_pX_0 (p := fun _ => 0) px.1
  refine hx_search_loop px hM2 (fun dA sA tA pA mk ms m => hF dA sA tA pA mk ms (hj_Me_w m)) (fun p d dA sA tA pA mk ms m => hT p d dA sA tA pA mk ms (hj_Me_w m)) 219203 (fun _ => 0) 0 0 0 _ _ _ _ _ _ (by omega) (by omega) (by omega) (fun i hi => by omega) (fun q hq => by omega) ⟨?_, fun i hi => by omega, pk_us⟩ (hj_Me_new hM hg)
  intro i hi
  have : i = 0 := by omega
  subst this
  exact ⟨pk_us, pk_us⟩
end XS
end
section
/-! Y: find, callsIn, openOf, inTrial, precedes, reset, apply -/
def hj_oI : Nat → Int32
  | 0 => -1
  | k + 1 => nI k
theorem hj_D_tb {p : Nat → Nat} {a : Nat} : ∀ k, (hj_D p k).testBit a = true ↔ ∃ i, i < k ∧ p i = a := by
  intro k
  induction k with
  | zero =>
    rw [show hj_D p 0 = 0 from rfl, Nat.zero_testBit]
    constructor
    · intro h; exact absurd h (by decide)
    · rintro ⟨i, h, -⟩; omega
  | succ k ih =>
    rw [show hj_D p (k + 1) = hj_D p k ||| 2 ^ p k from rfl, hj_tb_or, Bool.or_eq_true, ih, decide_eq_true_iff]
    constructor
    · rintro (⟨i, h1, h2⟩ | h)
      · exact ⟨i, by omega, h2⟩
      · exact ⟨k, by omega, h⟩
    · rintro ⟨i, h1, h2⟩
      rcases Nat.lt_or_ge i k with z | z
      · exact Or.inl ⟨i, z, h2⟩
      · have : i = k := by omega
        subst this
        exact Or.inr h2
theorem hj_rem2 {a : Nat} (h : a < 2 ^ 31) : nI a - nI a / 2 * 2 = nI (a % 2) := pk_rem (d := 2) h (by omega) (by omega)
theorem hj_div2 {a : Nat} (h : a < 2 ^ 31) : nI a / 2 = nI (a / 2) := pk_div (d := 2) h (by omega) (by omega)
theorem hj_m2 (a : Nat) : (2 : Int32) * nI a = nI (2 * a) := pk_mul 2 a
theorem hj_20 : ¬ (2 : Int32) = 0 := by decide
section YB
variable {g_objectKind g_processes g_operations g_capacity g_events g_judged g_good g_witnessSize g_trialSize g_size : Int32} {b_evCode b_evProcess b_evKind b_evA b_evB b_evResult b_witness b_trial b_list : Nat → Int32}
variable {c pr bf : Nat → Nat} {E : Nat} {kd oa ob rs : Nat → Int32}
theorem hy_find_loop {w : Nat} (hE : E ≤ 16) (hc : ∀ i, i < E → b_evCode i = nI (c i) ∧ c i < 16) (hw : w < 2 ^ 31) {post : Int32 → Prop} (hN : (∀ i, i < E → c i ≠ w) → post (-1)) (hS : ∀ i, i < E → c i = w → (∀ j, j < i → c j ≠ w) → post (nI i)) :
    ∀ k i, i + k = E → (∀ j, j < i → c j ≠ w) → wY_find_2 post (nI w) g_objectKind g_processes g_operations g_capacity (nI E) g_judged g_good g_witnessSize g_trialSize g_size b_evCode b_evProcess b_evKind b_evA b_evB b_evResult b_witness b_trial b_list (k + 1) (nI i) := by
  intro k
  induction k with
  | zero =>
    intro i hi h
    have : i = E := by omega
    subst this
    exact br_t (nI_le (Nat.le_refl _) (by omega)) (hN h)
  | succ k ih =>
    intro i hi h
    obtain ⟨e, h16⟩ := hc i (by omega)
    have hin : vp_in (nI i) 16 := vp_in_nI (by omega) (by omega)
    have ci : (nI i).toNatClampNeg = i := nI_clamp (by omega)
    refine br_f (nI_ge (by omega) (by omega)) ⟨hin, ?_⟩
    rw [ci, e]
    refine br_c (fun z => ?_) (fun z => ?_)
    · rw [nI_eq (by omega) hw] at z
      exact hS i (by omega) z h
    · rw [nI_eq (by omega) hw] at z
      refine nm_r (nI_1 i) (ih (i + 1) (by omega) ?_)
      intro j hj
      rcases Nat.lt_or_ge j i with y | y
      · exact h j y
      · have : j = i := by omega
        subst this
        exact z
theorem hy_find {w : Nat} (h : hj_H c pr E b_evCode b_evProcess b_evKind b_evA b_evB b_evResult kd oa ob rs bf) (hw : w < 2 ^ 31) {post : Int32 → Prop} (hN : (∀ i, i < E → c i ≠ w) → post (-1)) (hS : ∀ i, i < E → c i = w → (∀ j, j < i → c j ≠ w) → post (nI i)) : wpY_find post (g_objectKind, g_processes, g_operations, g_capacity, nI E, g_judged, g_good, g_witnessSize, g_trialSize, g_size, b_evCode, b_evProcess, b_evKind, b_evA, b_evB, b_evResult, b_witness, b_trial, b_list) (nI w) := by
  unfold wpY_find
  dsimp only
  exact ⟨E + 1, hy_find_loop (hj_H_E h) (fun i hi => ⟨(h.2.2.1 i hi).1, hj_H_c h hi⟩) hw hN hS E 0 (by omega) (fun j hj => by omega)⟩
theorem hy_callsIn {lim : Nat} (h : hj_H c pr E b_evCode b_evProcess b_evKind b_evA b_evB b_evResult kd oa ob rs bf) (hl : lim ≤ E) {post : Int32 → Prop} (hp : post (nI (hj_cn c lim))) : wpY_callsIn post (g_objectKind, g_processes, g_operations, g_capacity, g_events, g_judged, g_good, g_witnessSize, g_trialSize, g_size, b_evCode, b_evProcess, b_evKind, b_evA, b_evB, b_evResult, b_witness, b_trial, b_list) (nI lim) := by
  have hE := hj_H_E h
  have key : ∀ k i, i + k = lim → wY_callsIn_4 post (nI lim) g_objectKind g_processes g_operations g_capacity g_events g_judged g_good g_witnessSize g_trialSize g_size b_evCode b_evProcess b_evKind b_evA b_evB b_evResult b_witness b_trial b_list (k + 1) (nI (hj_cn c i)) (nI i) := by
    intro k
    induction k with
    | zero =>
      intro i hi
      have : i = lim := by omega
      subst this
      exact br_t (nI_le (Nat.le_refl _) (by omega)) hp
    | succ k ih =>
      intro i hi
      have e := (h.2.2.1 i (by omega)).1
      have h16 := hj_H_c h (show i < E by omega)
      have hin : vp_in (nI i) 16 := vp_in_nI (by omega) (by omega)
      have ci : (nI i).toNatClampNeg = i := nI_clamp (by omega)
      refine br_f (nI_ge (by omega) (by omega)) ⟨hin, hj_20, ?_⟩
      rw [ci, e, hj_rem2 (by omega)]
      have a := ih (i + 1) (by omega)
      by_cases z : c i % 2 = 0
      · rw [hj_cn_e z] at a
        refine br_t (by rw [z]; rfl) (nm_r (nI_1 _) (nm_r (nI_1 i) a))
      · rw [hj_cn_o (by omega)] at a
        refine br_f (nI_ne0 (by omega) (by omega)) (nm_r (nI_1 i) a)
  unfold wpY_callsIn
  dsimp only
  exact ⟨lim + 1, key lim 0 (by omega)⟩
theorem hy_openOf {q : Nat} (h : hj_H c pr E b_evCode b_evProcess b_evKind b_evA b_evB b_evResult kd oa ob rs bf) (hq : q < 4) {post : Int32 → Prop} (hp : post (hj_oI (hj_op c pr E q))) : wpY_openOf post (g_objectKind, g_processes, g_operations, g_capacity, nI E, g_judged, g_good, g_witnessSize, g_trialSize, g_size, b_evCode, b_evProcess, b_evKind, b_evA, b_evB, b_evResult, b_witness, b_trial, b_list) (nI q) := by
  have hE := hj_H_E h
  have key : ∀ k i, i + k = E → wY_openOf_4 post (nI q) g_objectKind g_processes g_operations g_capacity (nI E) g_judged g_good g_witnessSize g_trialSize g_size b_evCode b_evProcess b_evKind b_evA b_evB b_evResult b_witness b_trial b_list (k + 1) (hj_oI (hj_op c pr i q)) (nI i) := by
    intro k
    induction k with
    | zero =>
      intro i hi
      have : i = E := by omega
      subst this
      exact br_t (nI_le (Nat.le_refl _) (by omega)) hp
    | succ k ih =>
      intro i hi
      obtain ⟨e, e'⟩ := h.2.2.1 i (by omega)
      have h16 := hj_H_c h (show i < E by omega)
      have h4 := (h.1 i (by omega)).1
      have hin : vp_in (nI i) 16 := vp_in_nI (by omega) (by omega)
      have ci : (nI i).toNatClampNeg = i := nI_clamp (by omega)
      refine br_f (nI_ge (by omega) (by omega)) ⟨hin, ?_⟩
      rw [ci, e, e', hj_rem2 (by omega), hj_div2 (by omega)]
      have a := ih (i + 1) (by omega)
      rw [hj_op_s] at a
      refine br_c (fun z => ?_) (fun z => ?_)
      · rw [nI_eq (by omega) (by omega)] at z
        rw [if_pos z] at a
        refine ⟨hin, hj_20, ?_⟩
        by_cases y : c i % 2 = 0
        · rw [if_pos y] at a
          exact br_t (by rw [y]; rfl) ⟨hin, hj_20, nm_e (nm_r (nI_1 i) a)⟩
        · rw [if_neg y] at a
          exact br_f (nI_ne0 (by omega) (by omega)) (nm_r (nI_1 i) a)
      · rw [nI_eq (by omega) (by omega)] at z
        rw [if_neg z] at a
        exact nm_r (nI_1 i) a
  unfold wpY_openOf
  dsimp only
  exact ⟨E + 1, key E 0 (by omega)⟩
theorem hy_inTrial {p : Nat → Nat} {a m : Nat} (hm : m ≤ 8) (ha : a < 2 ^ 31) (ht : ∀ i, i < m → b_trial i = nI (p i) ∧ p i < 8) {post : Int32 → Prop} (h1 : (hj_D p m).testBit a = true → post 1) (h0 : (hj_D p m).testBit a = false → post 0) :
    wpY_inTrial post (g_objectKind, g_processes, g_operations, g_capacity, g_events, g_judged, g_good, g_witnessSize, g_trialSize, g_size, b_evCode, b_evProcess, b_evKind, b_evA, b_evB, b_evResult, b_witness, b_trial, b_list) (nI a) (nI m) := by
  have key : ∀ k i, i + k = m → (∀ j, j < i → p j ≠ a) → wY_inTrial_2 post (nI a) (nI m) g_objectKind g_processes g_operations g_capacity g_events g_judged g_good g_witnessSize g_trialSize g_size b_evCode b_evProcess b_evKind b_evA b_evB b_evResult b_witness b_trial b_list (k + 1) (nI i) := by
    intro k
    induction k with
    | zero =>
      intro i hi n
      have : i = m := by omega
      subst this
      refine br_t (nI_le (Nat.le_refl _) (by omega)) (h0 ?_)
      cases z : (hj_D p i).testBit a
      · rfl
      · obtain ⟨j, j1, j2⟩ := (hj_D_tb i).mp z
        exact absurd j2 (n j j1)
    | succ k ih =>
      intro i hi n
      obtain ⟨e, h8⟩ := ht i (by omega)
      have hin : vp_in (nI i) 8 := vp_in_nI (by omega) (by omega)
      have ci : (nI i).toNatClampNeg = i := nI_clamp (by omega)
      refine br_f (nI_ge (by omega) (by omega)) ⟨hin, ?_⟩
      rw [ci, e]
      refine br_c (fun z => ?_) (fun z => ?_)
      · rw [nI_eq (by omega) ha] at z
        exact h1 ((hj_D_tb m).mpr ⟨i, by omega, z⟩)
      · rw [nI_eq (by omega) ha] at z
        refine nm_r (nI_1 i) (ih (i + 1) (by omega) ?_)
        intro j hj
        rcases Nat.lt_or_ge j i with y | y
        · exact n j y
        · have : j = i := by omega
          subst this
          exact z
  unfold wpY_inTrial
  dsimp only
  exact ⟨m + 1, key m 0 (by omega) (fun j hj => by omega)⟩
theorem hy_precedes {a b : Nat} (h : hj_H c pr E b_evCode b_evProcess b_evKind b_evA b_evB b_evResult kd oa ob rs bf) (ha : a < hj_cn c E) (hb : b < hj_cn c E) {post : Int32 → Prop} (h1 : (bf b).testBit a = true → post 1) (h0 : (bf b).testBit a = false → post 0) :
    wpY_precedes post (g_objectKind, g_processes, g_operations, g_capacity, nI E, g_judged, g_good, g_witnessSize, g_trialSize, g_size, b_evCode, b_evProcess, b_evKind, b_evA, b_evB, b_evResult, b_witness, b_trial, b_list) (nI a) (nI b) := by
  have hE := hj_H_E h
  have h8 := h.2.1
  unfold wpY_precedes
  dsimp only
  rw [hj_m2, hj_m2, nI_1]
  refine hy_callsIn h (Nat.le_refl _) (br_f (nI_pos (by omega)) (br_f (nI_ge ha (by omega)) (br_f (nI_pos (by omega)) (br_t (nI_lt hb (by omega)) ?_))))
  obtain ⟨j, j1, j2⟩ := hj_call_ex h.1 E (Nat.le_refl _) hb
  have ebf := (h.2.2.2.1 j b j1 j2).2.2.2.1
  have hb2 : ∀ i, i < E → c i = 2 * b → i = j := fun i hi e => hj_call_u h.1 hi j1 (by omega) (by omega)
  refine hy_find h (by omega) (fun n => ?_) (fun i hi e _ => ?_)
  · refine hy_find h (by omega) (fun _ => ?_) (fun _ _ _ _ => ?_)
    all_goals
      refine br_t (by decide) (h0 ?_)
      cases z : (bf b).testBit a
      · rfl
      · rw [ebf] at z
        obtain ⟨i, i1, i2⟩ := (hj_rm_iff j).mp z
        exact absurd i2 (n i (by omega))
  · refine hy_find h (by omega) (fun n => absurd j2 (n j j1)) (fun l hl el _ => ?_)
    have : l = j := hb2 l hl el
    subst this
    refine br_f (nI_pos (by omega)) (br_c (fun z => ?_) (fun z => ?_))
    · rw [nI_leI (by omega) (by omega)] at z
      refine h0 ?_
      cases y : (bf b).testBit a
      · rfl
      · rw [ebf] at y
        obtain ⟨i', i1, i2⟩ := (hj_rm_iff l).mp y
        have := hj_ret_u h.1 hi (by omega) e i2
        omega
    · rw [nI_leI (by omega) (by omega)] at z
      refine h1 ?_
      rw [ebf]
      exact (hj_rm_iff l).mpr ⟨i, by omega, e⟩
theorem hy_reset {post : SY → Prop} (h : ∀ z ls, hj_s0 g_objectKind = hj_pk z 0 → hj_G g_objectKind z 0 → (∀ i, i < z → ls i = nI (0 / 8 ^ i % 8)) → post (g_objectKind, g_processes, g_operations, g_capacity, g_events, g_judged, g_good, g_witnessSize, g_trialSize, nI z, b_evCode, b_evProcess, b_evKind, b_evA, b_evB, b_evResult, b_witness, b_trial, ls)) : wpY_reset post (g_objectKind, g_processes, g_operations, g_capacity, g_events, g_judged, g_good, g_witnessSize, g_trialSize, g_size, b_evCode, b_evProcess, b_evKind, b_evA, b_evB, b_evResult, b_witness, b_trial, b_list) := by
  unfold wpY_reset
  dsimp only
  refine br_c (fun k => nm_e ?_) (fun k => nm_e ?_)
  · refine h 1 _ ?_ ⟨by omega, by decide, fun _ => rfl⟩ ?_
    · unfold hj_s0
      rw [if_pos k]
      rfl
    · intro i hi
      have : i = 0 := by omega
      subst this
      rw [pk_us]
      rfl
  · refine h 0 _ ?_ ⟨by omega, by decide, fun z => absurd z k⟩ (fun i hi => by omega)
    unfold hj_s0
    rw [if_neg k]
    rfl
theorem hy_shift {L : Nat → Int32} {z i0 : Nat} (hz : z ≤ 8) {x4 : Int32} {post : Int32 → SY → Prop} (h : ∀ ls, (∀ j, i0 ≤ j → j + 1 < z → ls j = L (j + 1)) → (∀ j, j < i0 → ls j = L j) → post x4 (g_objectKind, g_processes, g_operations, g_capacity, g_events, g_judged, g_good, g_witnessSize, g_trialSize, nI (z - 1), b_evCode, b_evProcess, b_evKind, b_evA, b_evB, b_evResult, b_witness, b_trial, ls)) :
    ∀ k i cur, i + 1 + k = z → i0 ≤ i → (∀ j, i0 ≤ j → j < i → cur j = L (j + 1)) → (∀ j, j < i0 ∨ i ≤ j → cur j = L j) → wY_apply_159 post x4 g_objectKind g_processes g_operations g_capacity g_events g_judged g_good g_witnessSize g_trialSize (nI z) (k + 1) (nI i) b_evCode b_evProcess b_evKind b_evA b_evB b_evResult b_witness b_trial cur := by
  intro k
  induction k with
  | zero =>
    intro i cur hi h0 ha hb
    have e : nI z - 1 = nI (z - 1) := pk_sub (b := 1) (by omega)
    refine br_t (by rw [nI_1]; exact nI_le (by omega) (by omega)) (nm_r e (h cur (fun j h1 h2 => ha j h1 (by omega)) (fun j hj => hb j (Or.inl hj))))
  | succ k ih =>
    intro i cur hi h0 ha hb
    have hin : vp_in (nI i) 8 := vp_in_nI (by omega) (by omega)
    have hin1 : vp_in (nI (i + 1)) 8 := vp_in_nI (by omega) (by omega)
    have ci : (nI i).toNatClampNeg = i := nI_clamp (by omega)
    have ci1 : (nI (i + 1)).toNatClampNeg = i + 1 := nI_clamp (by omega)
    refine br_f (by rw [nI_1]; exact nI_ge (by omega) (by omega)) ?_
    rw [nI_1, ci, ci1]
    refine ⟨hin1, hin, nm_e (nm_e (ih (i + 1) _ (by omega) (by omega) ?_ ?_))⟩
    · intro j h1 h2
      rcases Nat.lt_or_ge j i with y | y
      · rw [pk_un (by omega)]
        exact ha j h1 y
      · have : j = i := by omega
        subst this
        rw [pk_us]
        exact hb _ (Or.inr (by omega))
    · intro j hj
      rw [pk_un (by omega)]
      exact hb j (by omega)
end YB
end
section
/-! Y: apply -/
section ST
variable {K Q : Int32} {q : Nat} {kd oa ob : Nat → Int32} {o a b z V : Nat}
theorem hj_s1 (ea : oa o = nI a) (ha : a < 8) {s : Int32} (k : kd o = 0) (k0 : K = 0) : hj_R K Q kd oa s o = 1 ∧ hj_N K Q kd oa ob s o = hj_pk 1 a := by
  subst k0
  have n01 : ¬ (1 : Int32) = 0 := by decide
  unfold hj_N hj_nx hj_R
  simp only [k, ea, if_true, n01, if_false]
  exact ⟨trivial, hj_ad_pk0 ha⟩
theorem hj_s2 (hQ : Q = nI q) (hq : q ≤ 8) (ea : oa o = nI a) (ha : a < 8) (g : hj_G K z V) (k : kd o = 0) (k0 : ¬ K = 0) (c : z < q) : hj_R K Q kd oa (hj_pk z V) o = 1 ∧ hj_N K Q kd oa ob (hj_pk z V) o = hj_pk (z + 1) (a * 8 ^ z + V) := by
  have n01 : ¬ (1 : Int32) = 0 := by decide
  have c' : nI z < nI q := nI_lt c (by omega)
  unfold hj_N hj_nx hj_R
  rw [hj_sz_pk g, ea, hQ]
  simp only [k, k0, c', if_true, n01, if_false]
  exact ⟨trivial, hj_ad_pk g k0 (by omega) ha⟩
theorem hj_s3 (hQ : Q = nI q) (hq : q ≤ 8) (g : hj_G K z V) (k : kd o = 0) (k0 : ¬ K = 0) (c : q ≤ z) : hj_R K Q kd oa (hj_pk z V) o = 0 ∧ hj_N K Q kd oa ob (hj_pk z V) o = hj_pk z V := by
  have h8 := g.1
  have c' : ¬ nI z < nI q := nI_nlt c (by omega)
  unfold hj_N hj_nx hj_R
  rw [hj_sz_pk g, hQ]
  simp only [k, k0, c', if_true, if_false]
  exact ⟨trivial, trivial⟩
theorem hj_s4 (g : hj_G K z V) (k : kd o = 1) (c : z = 0) : hj_R K Q kd oa (hj_pk z V) o = 8 ∧ hj_N K Q kd oa ob (hj_pk z V) o = hj_pk z V := by
  have n01 : ¬ (1 : Int32) = 0 := by decide
  unfold hj_N hj_nx hj_R
  rw [hj_sz_pk g, c, nI_0]
  simp only [k, n01, if_true, if_false, ite_self]
  exact ⟨trivial, trivial⟩
theorem hj_s5 (g : hj_G K z V) (k : kd o = 2) (c : z = 0) : hj_R K Q kd oa (hj_pk z V) o = 0 ∧ hj_N K Q kd oa ob (hj_pk z V) o = hj_pk z V := by
  have n02 : ¬ (2 : Int32) = 0 := by decide
  have n12 : ¬ (2 : Int32) = 1 := by decide
  unfold hj_N hj_nx hj_R
  rw [hj_sz_pk g, c, nI_0]
  simp only [k, n02, n12, if_true, if_false, ite_self]
  exact ⟨trivial, trivial⟩
theorem hj_s6 (g : hj_G K z V) (k : kd o = 1) (c : 0 < z) : hj_R K Q kd oa (hj_pk z V) o = nI (V / 8 ^ hj_ai K z % 8) ∧ hj_N K Q kd oa ob (hj_pk z V) o = if K = 0 then hj_pk z V else hj_rv K (hj_pk z V) := by
  have n01 : ¬ (1 : Int32) = 0 := by decide
  have h8 := g.1
  have z0 : ¬ nI z = 0 := nI_ne0 (by omega) (by omega)
  have hk := hj_ai_lt (K := K) c
  unfold hj_N hj_nx hj_R
  rw [hj_sz_pk g, hj_am_pk c, hj_at_pk g (by omega)]
  simp only [k, n01, z0, hj_n8, if_true, if_false]
  exact ⟨trivial, trivial⟩
theorem hj_s8 (ea : oa o = nI a) (eb : ob o = nI b) (hb : b < 8) (g : hj_G K z V) (k : kd o = 2) (c : 0 < z) (e : nI (V / 8 ^ hj_ai K z % 8) = nI a) : hj_R K Q kd oa (hj_pk z V) o = 1 ∧ hj_N K Q kd oa ob (hj_pk z V) o = hj_pk z (hj_rep V (hj_ai K z) b) := by
  have n02 : ¬ (2 : Int32) = 0 := by decide
  have n12 : ¬ (2 : Int32) = 1 := by decide
  have n01 : ¬ (1 : Int32) = 0 := by decide
  have h8 := g.1
  have z0 : ¬ nI z = 0 := nI_ne0 (by omega) (by omega)
  have hk := hj_ai_lt (K := K) c
  unfold hj_N hj_nx hj_R
  rw [hj_sz_pk g, hj_am_pk c, hj_at_pk g (by omega), ea, eb]
  simp only [k, n01, n02, n12, z0, e, if_true, if_false]
  exact ⟨trivial, hj_rp_pk g c hb⟩
theorem hj_s9 (ea : oa o = nI a) (g : hj_G K z V) (k : kd o = 2) (c : 0 < z) (e : ¬ nI (V / 8 ^ hj_ai K z % 8) = nI a) : hj_R K Q kd oa (hj_pk z V) o = 0 ∧ hj_N K Q kd oa ob (hj_pk z V) o = hj_pk z V := by
  have n02 : ¬ (2 : Int32) = 0 := by decide
  have n12 : ¬ (2 : Int32) = 1 := by decide
  have h8 := g.1
  have z0 : ¬ nI z = 0 := nI_ne0 (by omega) (by omega)
  have hk := hj_ai_lt (K := K) c
  unfold hj_N hj_nx hj_R
  rw [hj_sz_pk g, hj_am_pk c, hj_at_pk g (by omega), ea]
  simp only [k, n02, n12, z0, e, if_true, if_false]
  exact ⟨trivial, trivial⟩
end ST
section YA
variable {g_objectKind g_processes g_operations g_capacity g_events g_judged g_good g_witnessSize g_trialSize g_size : Int32} {b_evCode b_evProcess b_evKind b_evA b_evB b_evResult b_witness b_trial b_list : Nat → Int32}
variable {c pr bf : Nat → Nat} {E : Nat} {kd oa ob rs : Nat → Int32}
theorem hy_ap127 {o z V j i : Nat} (h : hj_H c pr E b_evCode b_evProcess b_evKind b_evA b_evB b_evResult kd oa ob rs bf) (hj : j < E) (ej : c j = 2 * o) (hK : g_objectKind = 0 ∨ g_objectKind = 1 ∨ g_objectKind = 2)
    (g : hj_G g_objectKind z V) (dg : ∀ i, i < z → b_list i = nI (V / 8 ^ i % 8)) (hz : 0 < z) (ei : i = hj_ai g_objectKind z) (k0 : ¬ kd o = 0) {post : Int32 → SY → Prop}
    (k : ∀ z' V' ls, (hj_N g_objectKind g_capacity kd oa ob) (hj_pk z V) o = hj_pk z' V' → hj_G g_objectKind z' V' → (∀ i, i < z' → ls i = nI (V' / 8 ^ i % 8)) → post (hj_R g_objectKind g_capacity kd oa (hj_pk z V) o) (g_objectKind, g_processes, g_operations, g_capacity, g_events, g_judged, g_good, g_witnessSize, g_trialSize, nI z', b_evCode, b_evProcess, b_evKind, b_evA, b_evB, b_evResult, b_witness, b_trial, ls)) :
    wY_apply_127 post (nI j) (nI i) g_objectKind g_processes g_operations g_capacity g_events g_judged g_good g_witnessSize g_trialSize (nI z) b_evCode b_evProcess b_evKind b_evA b_evB b_evResult b_witness b_trial b_list := by
  have hE := hj_H_E h
  obtain ⟨eK, eA, eB, -, hk, ⟨a, ha, ea⟩, ⟨b, hb, eb⟩⟩ := h.2.2.2.1 j o hj ej
  have h8 := g.1
  have hi : i < z := by rw [ei]; exact hj_ai_lt hz
  have hin : vp_in (nI j) 16 := vp_in_nI (by omega) (by omega)
  have cj : (nI j).toNatClampNeg = j := nI_clamp (by omega)
  have hin8 : vp_in (nI i) 8 := vp_in_nI (by omega) (by omega)
  have ci : (nI i).toNatClampNeg = i := nI_clamp (by omega)
  unfold wY_apply_127
  rw [ci, cj, eK, eA, eB, dg i hi]
  refine ⟨hin8, nm_e ⟨hin, br_c (fun k1 => ?_) (fun k1 => ?_)⟩⟩
  · obtain ⟨eR, eN⟩ := hj_s6 (Q := g_capacity) (oa := oa) (ob := ob) g k1 hz
    rw [eR, ← ei] at k
    refine br_c (fun K0 => ?_) (fun K0 => ?_)
    · rw [if_pos K0] at eN
      exact k z V _ eN g dg
    · rw [if_neg K0] at eN
      refine ⟨z - 1 - i + 1, hy_shift (L := b_list) (i0 := i) h8 (fun ls l1 l2 => ?_) (z - 1 - i) i b_list (by omega) (Nat.le_refl _) (fun j' h1 h2 => by omega) (fun _ _ => rfl)⟩
      by_cases K1 : g_objectKind = 1
      · have i0 : i = 0 := by rw [ei]; unfold hj_ai; rw [if_neg (by rw [K1]; decide)]
        rw [i0] at l1
        have eN' : (hj_N g_objectKind g_capacity kd oa ob) (hj_pk z V) o = hj_pk (z - 1) (V / 8) := by
          rw [eN, K1]
          rw [K1] at g
          exact hj_rv_pk1 g hz
        refine k (z - 1) (V / 8) ls eN' ⟨by omega, ?_, fun z => absurd z K0⟩ ?_
        · apply Nat.div_lt_of_lt_mul
          rw [← hj_p8s, show z - 1 + 1 = z by omega]
          exact g.2.1
        · intro l hl
          rw [l1 l (by omega) (by omega), dg (l + 1) (by omega), hj_dQ]
      · have K2 : g_objectKind = 2 := by
          rcases hK with y | y | y
          · exact absurd y K0
          · exact absurd y K1
          · exact y
        have i0 : i = z - 1 := by rw [ei]; unfold hj_ai; rw [if_pos K2]
        refine k (z - 1) (V % 8 ^ (z - 1)) ls (by rw [eN]; exact hj_rv_pk2 g K1 hz) ⟨by omega, Nat.mod_lt _ (hj_p8p _), fun z => absurd z K0⟩ ?_
        intro l hl
        rw [l2 l (by omega), dg l (by omega), hj_dC (by omega)]
  · have k2 : kd o = 2 := by
      rcases hk with y | y | y
      · exact absurd y k0
      · exact absurd y k1
      · exact y
    rw [ea]
    refine ⟨hin, br_c (fun e => ?_) (fun e => ?_)⟩
    · rw [ei] at e
      obtain ⟨eR, eN⟩ := hj_s8 (Q := g_capacity) ea eb hb g k2 hz e
      rw [eR] at k
      refine ⟨hin, hin8, nm_e (k z _ _ eN ⟨h8, hj_rep_lt hb (hj_ai_lt hz) g.2.1, g.2.2⟩ ?_)⟩
      intro l hl
      rw [hj_dR hb, ← ei]
      by_cases y : l = i
      · rw [y, pk_us, if_pos rfl, eb]
      · rw [pk_un y, if_neg y]
        exact dg l hl
    · rw [ei] at e
      obtain ⟨eR, eN⟩ := hj_s9 (Q := g_capacity) (ob := ob) ea g k2 hz e
      rw [eR] at k
      exact k z V _ eN g dg
theorem hy_apply {o z V : Nat} (h : hj_H c pr E b_evCode b_evProcess b_evKind b_evA b_evB b_evResult kd oa ob rs bf) (ho : o < hj_cn c E) (hQ : ∃ q : Nat, q ≤ 8 ∧ g_capacity = nI q) (hK : g_objectKind = 0 ∨ g_objectKind = 1 ∨ g_objectKind = 2)
    (g : hj_G g_objectKind z V) (dg : ∀ i, i < z → b_list i = nI (V / 8 ^ i % 8)) {post : Int32 → SY → Prop}
    (k : ∀ z' V' ls, (hj_N g_objectKind g_capacity kd oa ob) (hj_pk z V) o = hj_pk z' V' → hj_G g_objectKind z' V' → (∀ i, i < z' → ls i = nI (V' / 8 ^ i % 8)) → post (hj_R g_objectKind g_capacity kd oa (hj_pk z V) o) (g_objectKind, g_processes, g_operations, g_capacity, nI E, g_judged, g_good, g_witnessSize, g_trialSize, nI z', b_evCode, b_evProcess, b_evKind, b_evA, b_evB, b_evResult, b_witness, b_trial, ls)) :
    wpY_apply post (g_objectKind, g_processes, g_operations, g_capacity, nI E, g_judged, g_good, g_witnessSize, g_trialSize, nI z, b_evCode, b_evProcess, b_evKind, b_evA, b_evB, b_evResult, b_witness, b_trial, b_list) (nI o) := by
  have hE := hj_H_E h
  have hc8 := h.2.1
  have h8 := g.1
  obtain ⟨q, hq, eq⟩ := hQ
  obtain ⟨hk, ⟨a, ha, ea⟩, ⟨b, hb, eb⟩⟩ := hj_H_op h ho
  unfold wpY_apply
  dsimp only
  rw [hj_m2]
  refine hy_find h (by omega) (fun n => ?_) (fun j hj ej _ => ?_)
  · obtain ⟨j, j1, j2⟩ := hj_call_ex h.1 E (Nat.le_refl _) ho
    exact absurd j2 (n j j1)
  obtain ⟨eK, eA, eB, -, -⟩ := h.2.2.2.1 j o hj ej
  have hin : vp_in (nI j) 16 := vp_in_nI (by omega) (by omega)
  have cj : (nI j).toNatClampNeg = j := nI_clamp (by omega)
  have cz : (nI z).toNatClampNeg = z := nI_clamp (by omega)
  refine br_t (nI_pos' (by omega)) ⟨hin, ?_⟩
  rw [cj, eK, eA, cz]
  refine br_c (fun k0 => ?_) (fun k0 => ?_)
  · refine br_c (fun K0 => ⟨hin, nm_e ?_⟩) (fun K0 => ?_)
    · obtain ⟨eR, eN⟩ := hj_s1 (Q := g_capacity) (ob := ob) (s := hj_pk z V) ea ha k0 K0
      have z1 := g.2.2 K0
      rw [eR] at k
      have := k 1 a (upd b_list 0 (oa o)) eN ⟨by omega, by omega, fun _ => rfl⟩ (fun i hi => by
        have : i = 0 := by omega
        subst this
        rw [pk_us, ea, show a / 8 ^ 0 % 8 = a by rw [Nat.pow_zero, Nat.div_one]; omega])
      rw [z1]
      exact this
    · refine br_c (fun y => ?_) (fun y => ?_)
      · rw [eq, nI_ltI (by omega) (by omega)] at y
        obtain ⟨eR, eN⟩ := hj_s2 (ob := ob) eq hq ea ha g k0 K0 y
        rw [eR] at k
        refine ⟨hin, vp_in_nI (by omega) (by omega), nm_e (nm_r (nI_1 z) (k (z + 1) _ _ eN ⟨by omega, hj_lo ha g.2.1, fun z => absurd z K0⟩ ?_))⟩
        intro i hi
        rcases Nat.lt_or_ge i z with y | y
        · rw [pk_un (by omega), hj_dA y]
          exact dg i y
        · have : i = z := by omega
          subst this
          rw [pk_us, hj_dB g.2.1 ha]
          exact ea
      · rw [eq, nI_ltI (by omega) (by omega)] at y
        obtain ⟨eR, eN⟩ := hj_s3 (oa := oa) (ob := ob) eq hq g k0 K0 (by omega)
        rw [eR] at k
        exact k z V _ eN g dg
  · refine br_c (fun z0 => ?_) (fun z0 => ?_)
    · have z0' : z = 0 := by
        rcases Nat.eq_zero_or_pos z with y | y
        · exact y
        · exact absurd z0 (nI_ne0 y (by omega))
      refine ⟨hin, br_c (fun k1 => ?_) (fun k1 => ?_)⟩
      · obtain ⟨eR, eN⟩ := hj_s4 (Q := g_capacity) (oa := oa) (ob := ob) g k1 z0'
        rw [eR] at k
        exact k z V _ eN g dg
      · have k2 : kd o = 2 := by
          rcases hk with y | y | y
          · exact absurd y k0
          · exact absurd y k1
          · exact y
        obtain ⟨eR, eN⟩ := hj_s5 (Q := g_capacity) (oa := oa) (ob := ob) g k2 z0'
        rw [eR] at k
        exact k z V _ eN g dg
    · have hz : 0 < z := by
        rcases Nat.eq_zero_or_pos z with y | y
        · rw [y] at z0
          exact absurd nI_0 z0
        · exact y
      refine br_c (fun K2 => ?_) (fun K2 => ?_)
      · have e : nI z - 1 = nI (z - 1) := pk_sub (b := 1) hz
        rw [e]
        exact hy_ap127 (g_events := nI E) h hj ej hK g dg hz (by unfold hj_ai; rw [if_pos K2]) k0 k
      · exact hy_ap127 (g_events := nI E) (i := 0) h hj ej hK g dg hz (by unfold hj_ai; rw [if_neg K2]) k0 k
end YA
end
section
/-! Y: allowed, complete, search -/
theorem hj_m9 : ∀ r, r < 9 → ¬ nI r = -9 := by decide +kernel
section EX
variable {c pr : Nat → Nat} {E lim : Nat} {rs : Nat → Int32} {o : Nat}
theorem hj_ex_none (hl : lim ≤ E) (h : ∀ i, i < E → c i ≠ 2 * o + 1) : hj_ex c lim rs o = -9 := by
  unfold hj_ex
  rw [if_neg]
  intro z
  obtain ⟨j, j1, j2⟩ := (hj_rm_iff lim).mp z
  exact h j (by omega) j2
theorem hj_ex_late (w : hj_WF c pr E) (hl : lim ≤ E) {r : Nat} (hr : r < E) (e : c r = 2 * o + 1) (h : lim ≤ r) : hj_ex c lim rs o = -9 := by
  unfold hj_ex
  rw [if_neg]
  intro z
  obtain ⟨j, j1, j2⟩ := (hj_rm_iff lim).mp z
  have := hj_ret_u w hr (by omega) e j2
  omega
theorem hj_ex_in {r : Nat} (hr : r < lim) (e : c r = 2 * o + 1) : hj_ex c lim rs o = rs o := by
  unfold hj_ex
  rw [if_pos ((hj_rm_iff lim).mpr ⟨r, hr, e⟩)]
end EX
section YS
variable {g_objectKind g_processes g_operations g_capacity g_events g_judged g_good g_witnessSize g_trialSize g_size : Int32} {b_evCode b_evProcess b_evKind b_evA b_evB b_evResult b_witness b_trial b_list : Nat → Int32}
variable {c pr bf p : Nat → Nat} {E lim n : Nat} {kd oa ob rs : Nat → Int32}
theorem hy_al87 (h : hj_H c pr E b_evCode b_evProcess b_evKind b_evA b_evB b_evResult kd oa ob rs bf) (hl : lim ≤ E) (hQ : ∃ q : Nat, q ≤ 8 ∧ g_capacity = nI q) (hK : g_objectKind = 0 ∨ g_objectKind = 1 ∨ g_objectKind = 2) (hn : n < 8) (ht : ∀ i, i ≤ n → b_trial i = nI (p i) ∧ p i < hj_cn c lim)
    (hpre : ∀ i, i < n → hj_ex c lim rs (p i) = -9 ∨ hj_ex c lim rs (p i) = hj_R g_objectKind g_capacity kd oa (hj_S (hj_N g_objectKind g_capacity kd oa ob) (hj_s0 g_objectKind) p i) (p i)) {post : Int32 → SY → Prop}
    (h1 : (hj_ex c lim rs (p n) = -9 ∨ hj_ex c lim rs (p n) = hj_R g_objectKind g_capacity kd oa (hj_S (hj_N g_objectKind g_capacity kd oa ob) (hj_s0 g_objectKind) p n) (p n)) → ∀ sz ls, post 1 (g_objectKind, g_processes, g_operations, g_capacity, nI E, g_judged, g_good, g_witnessSize, nI (n + 1), sz, b_evCode, b_evProcess, b_evKind, b_evA, b_evB, b_evResult, b_witness, b_trial, ls))
    (h0 : ¬ (hj_ex c lim rs (p n) = -9 ∨ hj_ex c lim rs (p n) = hj_R g_objectKind g_capacity kd oa (hj_S (hj_N g_objectKind g_capacity kd oa ob) (hj_s0 g_objectKind) p n) (p n)) → ∀ sz ls, post 0 (g_objectKind, g_processes, g_operations, g_capacity, nI E, g_judged, g_good, g_witnessSize, nI (n + 1), sz, b_evCode, b_evProcess, b_evKind, b_evA, b_evB, b_evResult, b_witness, b_trial, ls)) :
    ∀ k i z V ls, i + k = n + 1 → (i = n + 1 → (hj_ex c lim rs (p n) = -9 ∨ hj_ex c lim rs (p n) = hj_R g_objectKind g_capacity kd oa (hj_S (hj_N g_objectKind g_capacity kd oa ob) (hj_s0 g_objectKind) p n) (p n))) → hj_S (hj_N g_objectKind g_capacity kd oa ob) (hj_s0 g_objectKind) p i = hj_pk z V → hj_G g_objectKind z V → (∀ l, l < z → ls l = nI (V / 8 ^ l % 8)) →
      wY_allowed_87 post (nI lim) (k + 1) (nI i) g_objectKind g_processes g_operations g_capacity (nI E) g_judged g_good g_witnessSize (nI (n + 1)) (nI z) b_evCode b_evProcess b_evKind b_evA b_evB b_evResult b_witness b_trial ls := by
  have hE := hj_H_E h
  have hc8 := h.2.1
  have hcl := hj_cn_l (c := c) hl
  intro k
  induction k with
  | zero =>
    intro i z V ls hi hc eS g dg
    have : i = n + 1 := by omega
    subst this
    exact br_t (nI_le (Nat.le_refl _) (by omega)) (h1 (hc rfl) _ _)
  | succ k ih =>
    intro i z V ls hi hc eS g dg
    obtain ⟨et, hp⟩ := ht i (by omega)
    have hin : vp_in (nI i) 8 := vp_in_nI (by omega) (by omega)
    have ci : (nI i).toNatClampNeg = i := nI_clamp (by omega)
    refine br_f (nI_ge (by omega) (by omega)) ⟨hin, ?_⟩
    rw [ci, et]
    refine hy_apply (b_list := ls) h (by omega) hQ hK g dg ?_
    intro z' V' ls' eN g' dg'
    refine ⟨hin, ?_⟩
    rw [et, hj_m2, nI_1 (2 * p i)]
    have cont : (hj_ex c lim rs (p i) = -9 ∨ hj_ex c lim rs (p i) = hj_R g_objectKind g_capacity kd oa (hj_pk z V) (p i)) → wY_allowed_87 post (nI lim) (k + 1) (nI (i + 1)) g_objectKind g_processes g_operations g_capacity (nI E) g_judged g_good g_witnessSize (nI (n + 1)) (nI z') b_evCode b_evProcess b_evKind b_evA b_evB b_evResult b_witness b_trial ls' := by
      intro cc
      refine ih (i + 1) z' V' ls' (by omega) (fun e => ?_) ?_ g' dg'
      · have : i = n := by omega
        subst this
        rw [eS]
        exact cc
      · show (hj_N g_objectKind g_capacity kd oa ob) (hj_S (hj_N g_objectKind g_capacity kd oa ob) (hj_s0 g_objectKind) p i) (p i) = _
        rw [eS]
        exact eN
    refine hy_find h (by omega) (fun nn => ?_) (fun r hr er _ => ?_)
    · exact br_t (by decide) (nm_r (nI_1 i) (cont (Or.inl (hj_ex_none hl nn))))
    · refine br_f (nI_pos (by omega)) (br_c (fun y => ?_) (fun y => ?_))
      · rw [nI_leI (by omega) (by omega)] at y
        exact nm_r (nI_1 i) (cont (Or.inl (hj_ex_late h.1 hl hr er y)))
      · rw [nI_leI (by omega) (by omega)] at y
        have cr : (nI r).toNatClampNeg = r := nI_clamp (by omega)
        obtain ⟨eR, r', hr', er'⟩ := h.2.2.2.2 r (p i) hr er
        have ee : hj_ex c lim rs (p i) = rs (p i) := hj_ex_in (by omega) er
        refine ⟨vp_in_nI (by omega) (by omega), ?_⟩
        rw [cr, eR]
        refine br_c (fun e => nm_r (nI_1 i) (cont (Or.inr (ee.trans e)))) (fun e => ?_)
        have nc : ¬ (hj_ex c lim rs (p i) = -9 ∨ hj_ex c lim rs (p i) = hj_R g_objectKind g_capacity kd oa (hj_pk z V) (p i)) := by
          rintro (x | x)
          · rw [ee, er'] at x
            exact hj_m9 r' (by omega) x
          · exact e (ee.symm.trans x)
        rcases Nat.lt_or_ge i n with x | x
        · have := hpre i x
          rw [eS] at this
          exact absurd this nc
        · have : i = n := by omega
          subst this
          rw [eS] at h0
          exact h0 nc _ _
theorem hy_al40 (h : hj_H c pr E b_evCode b_evProcess b_evKind b_evA b_evB b_evResult kd oa ob rs bf) (hl : lim ≤ E) (hn : n < 8) (ht : ∀ i, i ≤ n → b_trial i = nI (p i) ∧ p i < hj_cn c lim) {post : Int32 → SY → Prop}
    (h1 : hj_Dn (bf (p n)) (hj_D p n) → wpY_reset (fun u => match u with | (g_objectKind, g_processes, g_operations, g_capacity, g_events, g_judged, g_good, g_witnessSize, g_trialSize, g_size, b_evCode, b_evProcess, b_evKind, b_evA, b_evB, b_evResult, b_witness, b_trial, b_list) => (∃ n87 : Nat, wY_allowed_87 post (nI lim) n87 0 g_objectKind g_processes g_operations g_capacity g_events g_judged g_good g_witnessSize g_trialSize g_size b_evCode b_evProcess b_evKind b_evA b_evB b_evResult b_witness b_trial b_list)) (g_objectKind, g_processes, g_operations, g_capacity, nI E, g_judged, g_good, g_witnessSize, nI (n + 1), g_size, b_evCode, b_evProcess, b_evKind, b_evA, b_evB, b_evResult, b_witness, b_trial, b_list))
    (h0 : ¬ hj_Dn (bf (p n)) (hj_D p n) → post 0 (g_objectKind, g_processes, g_operations, g_capacity, nI E, g_judged, g_good, g_witnessSize, nI (n + 1), g_size, b_evCode, b_evProcess, b_evKind, b_evA, b_evB, b_evResult, b_witness, b_trial, b_list)) :
    ∀ k a, a + k = hj_cn c lim → (∀ b, b < a → (bf (p n)).testBit b = true → (hj_D p n).testBit b = true) → wY_allowed_40 post (nI lim) (nI (hj_cn c lim)) (nI (p n)) g_objectKind g_processes g_operations g_capacity (nI E) g_judged g_good g_witnessSize (nI (n + 1)) g_size b_evCode b_evProcess b_evKind b_evA b_evB b_evResult b_witness b_trial b_list (k + 1) (nI a) := by
  have hE := hj_H_E h
  have hc8 := h.2.1
  have hcl := hj_cn_l (c := c) hl
  obtain ⟨et, hp⟩ := ht n (by omega)
  intro k
  induction k with
  | zero =>
    intro a ha hb
    have ea : a = hj_cn c lim := by omega
    refine br_t (nI_le (by omega) (by omega)) (h1 ?_)
    intro b hbit
    obtain ⟨j, j1, j2⟩ := hj_call_ex h.1 lim hl hp
    have ebf := (h.2.2.2.1 j (p n) (by omega) j2).2.2.2.1
    have hbit' := hbit
    rw [ebf] at hbit'
    obtain ⟨i, i1, i2⟩ := (hj_rm_iff j).mp hbit'
    have := hj_ret_lt h.1 (show i < lim by omega) hl i2
    exact hb b (by omega) hbit
  | succ k ih =>
    intro a ha hb
    refine br_f (nI_ge (by omega) (by omega)) ?_
    rw [nI_pred]
    have step : ((bf (p n)).testBit a = true → (hj_D p n).testBit a = true) → wY_allowed_40 post (nI lim) (nI (hj_cn c lim)) (nI (p n)) g_objectKind g_processes g_operations g_capacity (nI E) g_judged g_good g_witnessSize (nI (n + 1)) g_size b_evCode b_evProcess b_evKind b_evA b_evB b_evResult b_witness b_trial b_list (k + 1) (nI (a + 1)) := by
      intro hh
      refine ih (a + 1) (by omega) (fun b hlt => ?_)
      rcases Nat.lt_or_ge b a with y | y
      · exact hb b y
      · have : b = a := by omega
        subst this
        exact hh
    refine hy_precedes h (by omega) (by omega) (fun tb => br_t rfl ?_) (fun tb => br_f (by decide) (nm_r (nI_1 a) (step (fun z => absurd z (by rw [tb]; decide)))))
    refine hy_inTrial (p := p) (by omega) (by omega) (fun i hi => ⟨(ht i (by omega)).1, by have := (ht i (by omega)).2; omega⟩) (fun t1 => br_f (by decide) (nm_r (nI_1 a) (step (fun _ => t1)))) (fun t0 => br_t rfl (h0 (fun z => ?_)))
    have := z a tb
    rw [t0] at this
    exact absurd this (by decide)
theorem hy_allowed (h : hj_H c pr E b_evCode b_evProcess b_evKind b_evA b_evB b_evResult kd oa ob rs bf) (hl : lim ≤ E) (hQ : ∃ q : Nat, q ≤ 8 ∧ g_capacity = nI q) (hK : g_objectKind = 0 ∨ g_objectKind = 1 ∨ g_objectKind = 2) (hn : n < 8) (ht : ∀ i, i ≤ n → b_trial i = nI (p i) ∧ p i < hj_cn c lim)
    (hpre : ∀ i, i < n → (hj_Can (hj_cn c lim) bf (hj_ex c lim rs) (hj_R g_objectKind g_capacity kd oa)) (hj_D p i) (hj_S (hj_N g_objectKind g_capacity kd oa ob) (hj_s0 g_objectKind) p i) (p i)) {post : Int32 → SY → Prop}
    (h1 : (hj_Can (hj_cn c lim) bf (hj_ex c lim rs) (hj_R g_objectKind g_capacity kd oa)) (hj_D p n) (hj_S (hj_N g_objectKind g_capacity kd oa ob) (hj_s0 g_objectKind) p n) (p n) → ∀ sz ls, post 1 (g_objectKind, g_processes, g_operations, g_capacity, nI E, g_judged, g_good, g_witnessSize, nI (n + 1), sz, b_evCode, b_evProcess, b_evKind, b_evA, b_evB, b_evResult, b_witness, b_trial, ls))
    (h0 : ¬ (hj_Can (hj_cn c lim) bf (hj_ex c lim rs) (hj_R g_objectKind g_capacity kd oa)) (hj_D p n) (hj_S (hj_N g_objectKind g_capacity kd oa ob) (hj_s0 g_objectKind) p n) (p n) → ∀ sz ls, post 0 (g_objectKind, g_processes, g_operations, g_capacity, nI E, g_judged, g_good, g_witnessSize, nI (n + 1), sz, b_evCode, b_evProcess, b_evKind, b_evA, b_evB, b_evResult, b_witness, b_trial, ls)) :
    wpY_allowed post (g_objectKind, g_processes, g_operations, g_capacity, nI E, g_judged, g_good, g_witnessSize, nI (n + 1), g_size, b_evCode, b_evProcess, b_evKind, b_evA, b_evB, b_evResult, b_witness, b_trial, b_list) (nI lim) (nI (hj_cn c lim)) := by
  have hc8 := h.2.1
  have hcl := hj_cn_l (c := c) hl
  obtain ⟨et, hp⟩ := ht n (by omega)
  have cn' : (nI n).toNatClampNeg = n := nI_clamp (by omega)
  unfold wpY_allowed
  dsimp only
  rw [nI_pred, cn', et]
  refine br_f (nI_ne0 (by omega) (by omega)) ⟨vp_in_nI (by omega) (by omega), nm_e ?_⟩
  refine hy_inTrial (p := p) (by omega) (by omega) (fun i hi => ⟨(ht i (by omega)).1, by have := (ht i (by omega)).2; omega⟩) (fun t1 => br_f (by decide) (h0 (fun z => ?_) _ _)) (fun t0 => br_t rfl ⟨hj_cn c lim + 1, ?_⟩)
  · have := z.2.1
    rw [t1] at this
    exact absurd this (by decide)
  · refine hy_al40 h hl hn ht (fun dn => ?_) (fun nd => h0 (fun z => nd z.2.2.1) _ _) (hj_cn c lim) 0 (by omega) (fun b hb => by omega)
    refine hy_reset ?_
    intro z ls e g dg
    refine ⟨n + 2, hy_al87 h hl hQ hK hn ht (fun i hi => (hpre i hi).2.2.2) (fun cc => h1 ⟨hp, t0, dn, cc⟩) (fun nc => h0 (fun z => nc z.2.2.2)) (n + 1) 0 z 0 ls (by omega) (fun z => by omega) e g dg⟩
theorem hy_complete {m : Nat} (h : hj_H c pr E b_evCode b_evProcess b_evKind b_evA b_evB b_evResult kd oa ob rs bf) (hl : lim ≤ E) (hm : m ≤ 8) (ht : ∀ i, i < m → b_trial i = nI (p i) ∧ p i < 8) {post : Int32 → Prop} (h1 : hj_Dn (hj_rm c lim) (hj_D p m) → post 1) (h0 : ¬ hj_Dn (hj_rm c lim) (hj_D p m) → post 0) :
    wpY_complete post (g_objectKind, g_processes, g_operations, g_capacity, g_events, g_judged, g_good, g_witnessSize, nI m, g_size, b_evCode, b_evProcess, b_evKind, b_evA, b_evB, b_evResult, b_witness, b_trial, b_list) (nI lim) := by
  have hE := hj_H_E h
  have key : ∀ k i, i + k = lim → (∀ j, j < i → c j % 2 = 1 → (hj_D p m).testBit (c j / 2) = true) → wY_complete_2 post (nI lim) g_objectKind g_processes g_operations g_capacity g_events g_judged g_good g_witnessSize (nI m) g_size b_evCode b_evProcess b_evKind b_evA b_evB b_evResult b_witness b_trial b_list (k + 1) (nI i) := by
    intro k
    induction k with
    | zero =>
      intro i hi hb
      have : i = lim := by omega
      subst this
      refine br_t (nI_le (Nat.le_refl _) (by omega)) (h1 ?_)
      intro a ha
      obtain ⟨j, j1, j2⟩ := (hj_rm_iff i).mp ha
      have := hb j j1 (by omega)
      rw [show c j / 2 = a by omega] at this
      exact this
    | succ k ih =>
      intro i hi hb
      have e := (h.2.2.1 i (by omega)).1
      have h16 := hj_H_c h (show i < E by omega)
      have hin : vp_in (nI i) 16 := vp_in_nI (by omega) (by omega)
      have ci : (nI i).toNatClampNeg = i := nI_clamp (by omega)
      refine br_f (nI_ge (by omega) (by omega)) ⟨hin, hj_20, ?_⟩
      rw [ci, e, hj_rem2 (by omega), hj_div2 (by omega)]
      have step : (c i % 2 = 1 → (hj_D p m).testBit (c i / 2) = true) → wY_complete_2 post (nI lim) g_objectKind g_processes g_operations g_capacity g_events g_judged g_good g_witnessSize (nI m) g_size b_evCode b_evProcess b_evKind b_evA b_evB b_evResult b_witness b_trial b_list (k + 1) (nI (i + 1)) := by
        intro hh
        refine ih (i + 1) (by omega) (fun b hlt => ?_)
        rcases Nat.lt_or_ge b i with y | y
        · exact hb b y
        · have : b = i := by omega
          subst this
          exact hh
      by_cases z : c i % 2 = 1
      · refine br_t (by rw [z]; rfl) ⟨hin, hj_20, ?_⟩
        refine hy_inTrial hm (by omega) ht (fun t1 => br_f (by decide) (nm_r (nI_1 i) (step (fun _ => t1)))) (fun t0 => br_t rfl (h0 (fun dn => ?_)))
        have := dn (c i / 2) ((hj_rm_iff lim).mpr ⟨i, by omega, by omega⟩)
        rw [t0] at this
        exact absurd this (by decide)
      · refine br_f ?_ (nm_r (nI_1 i) (step (fun y => absurd y z)))
        show ¬ nI _ = nI 1
        rw [nI_eq (by omega) (by omega)]
        exact z
  unfold wpY_complete
  dsimp only
  exact ⟨lim + 1, key lim 0 (by omega) (fun j hj => by omega)⟩
theorem hy_pop {C : Nat → Int32 → Nat → Prop} {M P x : Nat} {N : Int32 → Nat → Int32} {s0 : Int32} {x1 : Int32} (hCP : ∀ D s o, C D s o → o < P) (hP : P ≤ 8) (hn : n < P) (ht : ∀ i, i ≤ n → b_trial i = nI (p i) ∧ p i < P) {post : Int32 → SY → Prop} {J : Int32 → Int32 → Int32 → Int32 → Int32 → Int32 → Int32 → Int32 → Int32 → Int32 → Int32 → (Nat → Int32) → (Nat → Int32) → (Nat → Int32) → (Nat → Int32) → (Nat → Int32) → (Nat → Int32) → (Nat → Int32) → (Nat → Int32) → (Nat → Int32) → Prop}
    (hF : hj_Fl C M N 0 s0 → post 0 (g_objectKind, g_processes, g_operations, g_capacity, nI E, g_judged, g_good, g_witnessSize, 0, g_size, b_evCode, b_evProcess, b_evKind, b_evA, b_evB, b_evResult, b_witness, b_trial, b_list))
    (hJ : ∀ m, m ≤ n → hj_Pre C M N s0 p m → ¬ hj_Dn M (hj_D p m) → hj_Lv C M N s0 p m (p m + 1) → p m + 1 < P → J (nI (x + 1)) g_objectKind g_processes g_operations g_capacity (nI E) g_judged g_good g_witnessSize (nI (m + 1)) g_size b_evCode b_evProcess b_evKind b_evA b_evB b_evResult b_witness (upd b_trial m (nI (p m + 1))) b_list) :
    ∀ m x5, m ≤ n → x5 + m + 1 ≤ 8 → hj_Pre C M N s0 p m → ¬ hj_Dn M (hj_D p m) → hj_Lv C M N s0 p m (p m + 1) → wY_search_81 post J x1 (nI P) (nI x) g_objectKind g_processes g_operations g_capacity (nI E) g_judged g_good g_witnessSize g_size b_evCode b_evProcess b_evKind b_evA b_evB b_evResult b_witness b_trial b_list (m + 2) (nI x5) (nI (m + 1)) := by
  intro m
  have eP : nI P - 1 = nI (P - 1) := pk_sub (b := 1) (by omega)
  have one : ∀ m, m ≤ n → hj_Pre C M N s0 p m → ¬ hj_Dn M (hj_D p m) → hj_Lv C M N s0 p m (p m + 1) → p m < P - 1 → wY_search_128 post J x1 (nI P) (nI x) g_objectKind g_processes g_operations g_capacity (nI E) g_judged g_good g_witnessSize (nI (m + 1)) g_size b_evCode b_evProcess b_evKind b_evA b_evB b_evResult b_witness b_trial b_list := by
    intro m hm pre nd lv hlt
    have cm : (nI m).toNatClampNeg = m := nI_clamp (by omega)
    have hin : vp_in (nI m) 8 := vp_in_nI (by omega) (by omega)
    unfold wY_search_128
    rw [nI_pred, cm, (ht m hm).1]
    exact br_f (nI_ne0 (by omega) (by omega)) ⟨hin, hin, nm_r (congrArg (upd b_trial m) (nI_1 _)) (nm_r (nI_1 x) (hJ m hm pre nd lv (by omega)))⟩
  induction m with
  | zero =>
    intro x5 hm hx pre nd lv
    have cm : (nI 0).toNatClampNeg = 0 := nI_clamp (by omega)
    obtain ⟨et, hp⟩ := ht 0 (by omega)
    refine br_f (nI_ge (b := 8) (by omega) (by omega)) (br_f (nI_nle (by omega) (by omega)) ?_)
    rw [nI_pred, cm, et, eP]
    refine ⟨vp_in_nI (by omega) (by omega), br_c (fun y => ?_) (fun y => ?_)⟩
    · rw [nI_ltI (by omega) (by omega)] at y
      exact one 0 hm pre nd lv y
    · rw [nI_ltI (by omega) (by omega)] at y
      have fl : hj_Fl C M N 0 s0 := hj_Fl_of nd (fun o co => lv o (by have := hCP _ _ _ co; omega) co)
      have z128 : wY_search_128 post J x1 (nI P) (nI x) g_objectKind g_processes g_operations g_capacity (nI E) g_judged g_good g_witnessSize (nI 0) g_size b_evCode b_evProcess b_evKind b_evA b_evB b_evResult b_witness b_trial b_list := br_t nI_0 (hF fl)
      exact nm_e (nm_e (br_c (fun _ => z128) (fun _ => br_t (by decide) z128)))
  | succ m ih =>
    intro x5 hm hx pre nd lv
    have cm : (nI (m + 1)).toNatClampNeg = m + 1 := nI_clamp (by omega)
    obtain ⟨et, hp⟩ := ht (m + 1) (by omega)
    refine br_f (nI_ge (b := 8) (by omega) (by omega)) (br_f (nI_nle (by omega) (by omega)) ?_)
    rw [nI_pred, cm, et, eP]
    refine ⟨vp_in_nI (by omega) (by omega), br_c (fun y => ?_) (fun y => ?_)⟩
    · rw [nI_ltI (by omega) (by omega)] at y
      exact one (m + 1) hm pre nd lv y
    · rw [nI_ltI (by omega) (by omega)] at y
      have fl : hj_Fl C M N (hj_D p (m + 1)) (hj_S N s0 p (m + 1)) := hj_Fl_of nd (fun o co => lv o (by have := hCP _ _ _ co; omega) co)
      refine nm_e (nm_r (nI_1 x5) (ih (x5 + 1) (by omega) (by omega) (fun i hi => pre i (by omega)) (pre m (by omega)).1 ?_))
      intro q hq cq
      rcases Nat.lt_or_ge q (p m) with w | w
      · exact (pre m (by omega)).2.1 q w cq
      · have : q = p m := by omega
        subst this
        exact fl
theorem hy_search_loop (h : hj_H c pr E b_evCode b_evProcess b_evKind b_evA b_evB b_evResult kd oa ob rs bf) (hl : lim ≤ E) (hQ : ∃ q : Nat, q ≤ 8 ∧ g_capacity = nI q) (hK : g_objectKind = 0 ∨ g_objectKind = 1 ∨ g_objectKind = 2) {post : Int32 → SY → Prop}
    (hF : hj_Fl (hj_Can (hj_cn c lim) bf (hj_ex c lim rs) (hj_R g_objectKind g_capacity kd oa)) (hj_rm c lim) (hj_N g_objectKind g_capacity kd oa ob) 0 (hj_s0 g_objectKind) → ∀ ts tr sz ls, post 0 (g_objectKind, g_processes, g_operations, g_capacity, nI E, g_judged, g_good, g_witnessSize, ts, sz, b_evCode, b_evProcess, b_evKind, b_evA, b_evB, b_evResult, b_witness, tr, ls))
    (hT : ∀ p d tr sz ls, hj_Ls (hj_Can (hj_cn c lim) bf (hj_ex c lim rs) (hj_R g_objectKind g_capacity kd oa)) (hj_rm c lim) (hj_N g_objectKind g_capacity kd oa ob) (hj_s0 g_objectKind) p d → d ≤ 8 → (∀ i, i < d → tr i = nI (p i) ∧ p i < hj_cn c lim) → post 1 (g_objectKind, g_processes, g_operations, g_capacity, nI E, g_judged, g_good, g_witnessSize, nI d, sz, b_evCode, b_evProcess, b_evKind, b_evA, b_evB, b_evResult, b_witness, tr, ls)) :
    ∀ N' n p x tr sz ls, hj_pY (hj_cn c lim) p n < N' → x + hj_pY (hj_cn c lim) p n ≤ 600000 → n < hj_cn c lim → hj_Pre (hj_Can (hj_cn c lim) bf (hj_ex c lim rs) (hj_R g_objectKind g_capacity kd oa)) (hj_rm c lim) (hj_N g_objectKind g_capacity kd oa ob) (hj_s0 g_objectKind) p n → ¬ hj_Dn (hj_rm c lim) (hj_D p n) → hj_Lv (hj_Can (hj_cn c lim) bf (hj_ex c lim rs) (hj_R g_objectKind g_capacity kd oa)) (hj_rm c lim) (hj_N g_objectKind g_capacity kd oa ob) (hj_s0 g_objectKind) p n (p n) → (∀ i, i ≤ n → tr i = nI (p i) ∧ p i < hj_cn c lim) →
      wY_search_13 post (nI lim) (nI (hj_cn c lim)) N' (nI x) g_objectKind g_processes g_operations g_capacity (nI E) g_judged g_good g_witnessSize (nI (n + 1)) sz b_evCode b_evProcess b_evKind b_evA b_evB b_evResult b_witness tr ls := by
  have hc8 := h.2.1
  have hcl := hj_cn_l (c := c) hl
  intro N'
  induction N' with
  | zero => intro n p x tr sz ls hz; omega
  | succ N' ih =>
    intro n p x tr sz ls hz hx hn pre nd lv ht
    have hpn := (ht n (by omega)).2
    have pop : ∀ sz ls, hj_Lv (hj_Can (hj_cn c lim) bf (hj_ex c lim rs) (hj_R g_objectKind g_capacity kd oa)) (hj_rm c lim) (hj_N g_objectKind g_capacity kd oa ob) (hj_s0 g_objectKind) p n (p n + 1) → ∃ n81 : Nat, wY_search_81 post (wY_search_13 post (nI lim) (nI (hj_cn c lim)) N') (nI lim) (nI (hj_cn c lim)) (nI x) g_objectKind g_processes g_operations g_capacity (nI E) g_judged g_good g_witnessSize sz b_evCode b_evProcess b_evKind b_evA b_evB b_evResult b_witness tr ls n81 0 (nI (n + 1)) := by
      intro sz ls lv'
      refine ⟨n + 2, hy_pop (C := (hj_Can (hj_cn c lim) bf (hj_ex c lim rs) (hj_R g_objectKind g_capacity kd oa))) (M := hj_rm c lim) (N := (hj_N g_objectKind g_capacity kd oa ob)) (s0 := hj_s0 g_objectKind) (p := p) (n := n) (b_trial := tr) (fun D s o co => co.1) (by omega) hn ht (fun fl => hF fl _ _ _ _) ?_ n 0 (Nat.le_refl _) (by omega) pre nd lv'⟩
      intro m hm pre' nd' lv'' hlt
      have agp : ∀ i, i < m → p i = hj_ap p m (p m + 1) i := hj_ap_l
      have epm : hj_ap p m (p m + 1) m = p m + 1 := hj_ap_e
      have nx := hj_pY_next (P := hj_cn c lim) hm agp epm hlt hpn
      refine ih m (hj_ap p m (p m + 1)) (x + 1) _ sz ls (by omega) (by omega) (by omega) (hj_Pre_c agp pre') (by rw [← hj_D_c agp]; exact nd') (by rw [epm]; exact hj_Lv_c agp lv'') ?_
      intro i hi
      by_cases y : i = m
      · subst y
        rw [pk_us, epm]
        exact ⟨rfl, hlt⟩
      · rw [pk_un y, ← agp i (by omega)]
        exact ht i (by omega)
    refine br_f (nI_ge (b := 1000000) (by omega) (by omega)) ?_
    refine hy_allowed (p := p) (n := n) (b_trial := tr) h hl hQ hK (by omega) ht (fun i hi => (pre i hi).2.2) (fun can sz ls => ?_) (fun nc sz ls => ?_)
    · have pre1 : hj_Pre (hj_Can (hj_cn c lim) bf (hj_ex c lim rs) (hj_R g_objectKind g_capacity kd oa)) (hj_rm c lim) (hj_N g_objectKind g_capacity kd oa ob) (hj_s0 g_objectKind) p (n + 1) := by
        intro i hi
        rcases Nat.lt_or_ge i n with y | y
        · exact pre i y
        · have : i = n := by omega
          subst this
          exact ⟨nd, lv, can⟩
      have hp' : ∀ i, i < n + 1 → p i < hj_cn c lim ∧ (hj_D p i).testBit (p i) = false := fun i hi => ⟨(pre1 i hi).2.2.1, (pre1 i hi).2.2.2.1⟩
      have cnt := hj_cnt (n + 1) hp'
      refine br_f (by decide) ?_
      refine hy_complete (p := p) (m := n + 1) (b_trial := tr) h hl (by omega) (fun i hi => ⟨(ht i (by omega)).1, by have := (ht i (by omega)).2; omega⟩) (fun dn => br_f (by decide) (hT p (n + 1) tr sz ls ⟨pre1, dn⟩ (by omega) (fun i hi => ht i (by omega)))) (fun ndn => br_t rfl ?_)
      refine br_f (by decide) (br_c (fun y => ?_) (fun y => ?_))
      · rw [nI_leI (by omega) (by omega)] at y
        refine pop sz ls (fun q hq cq => ?_)
        rcases Nat.lt_or_ge q (p n) with w | w
        · exact lv q w cq
        · have : q = p n := by omega
          subst this
          refine hj_Fl_of ndn (fun o co => ?_)
          have := hj_c_skip co.1 co.2.1 o 0 (by omega)
          have e : hj_D p (n + 1) = hj_D p n ||| 2 ^ p n := rfl
          rw [e] at cnt
          omega
      · rw [nI_leI (by omega) (by omega)] at y
        have cn1 : (nI (n + 1)).toNatClampNeg = n + 1 := nI_clamp (by omega)
        rw [cn1]
        refine ⟨vp_in_nI (by omega) (by omega), nm_e (nm_r (nI_1 _) (nm_r (nI_1 x) ?_))⟩
        have agp : ∀ i, i < n + 1 → p i = hj_ap p (n + 1) 0 i := hj_ap_l
        have ep : hj_ap p (n + 1) 0 (n + 1) = 0 := hj_ap_e
        have eD : hj_D p (n + 1) = hj_D (hj_ap p (n + 1) 0) (n + 1) := hj_D_c agp
        have push := hj_pY_push (P := hj_cn c lim) (by omega) agp ep (by omega) hpn can.2.1 (by rw [← eD]; exact cnt)
        refine ih (n + 1) (hj_ap p (n + 1) 0) (x + 1) (upd tr (n + 1) 0) sz ls (by omega) (by omega) (by omega) (hj_Pre_c agp pre1) (by rw [← eD]; exact ndn) (fun q hq => by rw [ep] at hq; omega) ?_
        intro i hi
        by_cases w : i = n + 1
        · subst w
          rw [pk_us, ep]
          exact ⟨rfl, by omega⟩
        · rw [pk_un w, ← agp i (by omega)]
          exact ht i (by omega)
    · refine br_t rfl (br_t rfl (pop sz ls (fun q hq cq => ?_)))
      rcases Nat.lt_or_ge q (p n) with w | w
      · exact lv q w cq
      · have : q = p n := by omega
        subst this
        exact absurd cq nc
theorem hy_search (h : hj_H c pr E b_evCode b_evProcess b_evKind b_evA b_evB b_evResult kd oa ob rs bf) (hl : lim ≤ E) (hQ : ∃ q : Nat, q ≤ 8 ∧ g_capacity = nI q) (hK : g_objectKind = 0 ∨ g_objectKind = 1 ∨ g_objectKind = 2) {post : Int32 → SY → Prop}
    (hF : hj_Fl (hj_Can (hj_cn c lim) bf (hj_ex c lim rs) (hj_R g_objectKind g_capacity kd oa)) (hj_rm c lim) (hj_N g_objectKind g_capacity kd oa ob) 0 (hj_s0 g_objectKind) → ∀ ts tr sz ls, post 0 (g_objectKind, g_processes, g_operations, g_capacity, nI E, g_judged, g_good, g_witnessSize, ts, sz, b_evCode, b_evProcess, b_evKind, b_evA, b_evB, b_evResult, b_witness, tr, ls))
    (hT : ∀ p d tr sz ls, hj_Ls (hj_Can (hj_cn c lim) bf (hj_ex c lim rs) (hj_R g_objectKind g_capacity kd oa)) (hj_rm c lim) (hj_N g_objectKind g_capacity kd oa ob) (hj_s0 g_objectKind) p d → d ≤ 8 → (∀ i, i < d → tr i = nI (p i) ∧ p i < hj_cn c lim) → post 1 (g_objectKind, g_processes, g_operations, g_capacity, nI E, g_judged, g_good, g_witnessSize, nI d, sz, b_evCode, b_evProcess, b_evKind, b_evA, b_evB, b_evResult, b_witness, tr, ls)) :
    wpY_search post (g_objectKind, g_processes, g_operations, g_capacity, nI E, g_judged, g_good, g_witnessSize, g_trialSize, g_size, b_evCode, b_evProcess, b_evKind, b_evA, b_evB, b_evResult, b_witness, b_trial, b_list) (nI lim) := by
  have hc8 := h.2.1
  have hcl := hj_cn_l (c := c) hl
  unfold wpY_search
  dsimp only
  refine hy_callsIn h hl ⟨600000, ?_⟩
  refine br_f (by decide) ?_
  refine br_t rfl (br_f (by decide) ?_)
  refine hy_complete (p := fun _ => 0) (m := 0) h hl (by omega) (fun i hi => by omega) (fun dn => br_f (by decide) (hT (fun _ => 0) 0 _ _ _ ⟨fun i hi => by omega, dn⟩ (by omega) (fun i hi => by omega))) (fun nd => br_t rfl ?_)
  refine br_f (by decide) (br_c (fun y => ?_) (fun y => ?_))
  · have y' : hj_cn c lim ≤ 0 := by
      rcases Nat.eq_zero_or_pos (hj_cn c lim) with w | w
      · omega
      · exact absurd y (nI_nle w (by omega))
    have fl : hj_Fl (hj_Can (hj_cn c lim) bf (hj_ex c lim rs) (hj_R g_objectKind g_capacity kd oa)) (hj_rm c lim) (hj_N g_objectKind g_capacity kd oa ob) 0 (hj_s0 g_objectKind) := hj_Fl_of nd (fun o co => by have := co.1; omega)
    refine ⟨1, ?_⟩
    have z128 : wY_search_128 post (wY_search_13 post (nI lim) (nI (hj_cn c lim)) 599999) (nI lim) (nI (hj_cn c lim)) 0 g_objectKind g_processes g_operations g_capacity (nI E) g_judged g_good g_witnessSize 0 g_size b_evCode b_evProcess b_evKind b_evA b_evB b_evResult b_witness b_trial b_list := br_t rfl (hF fl _ _ _ _)
    exact br_f (by decide) (br_t (by decide) z128)
  · have y' : 0 < hj_cn c lim := by
      rcases Nat.eq_zero_or_pos (hj_cn c lim) with w | w
      · rw [w] at y
        exact absurd (by decide) y
      · exact w
    refine ⟨by rw [vp_in_iff]; decide, nm_e (nm_r (nI_1 0) (nm_r (nI_1 0) ?_))⟩
    have h0 := hj_pY_0 (P := hj_cn c lim) (p := fun _ => 0) (by omega) rfl
    refine hy_search_loop h hl hQ hK hF hT 599999 0 (fun _ => 0) 1 (upd b_trial 0 0) _ _ (by omega) (by omega) y' (fun i hi => by omega) nd (fun q hq => by omega) ?_
    intro i hi
    have : i = 0 := by omega
    subst this
    exact ⟨pk_us, y'⟩
end YS
end
section
/-! the history under a new event and under a dropped one -/
def hj_HX (c pr : Nat → Nat) (E : Nat) (xE xP rs xB xO : Nat → Int32) (bf : Nat → Nat) : Prop :=
  (∀ i, i < E → xE i = nI (c i)) ∧ (∀ i o, i < E → c i = 2 * o → xP o = nI (pr i)) ∧ (∀ o, o < hj_cn c E → xB o = nI (bf o)) ∧
  (∀ o, o < hj_cn c E → (∀ i, i < E → c i ≠ 2 * o + 1) → rs o = -9) ∧ (∀ p, p < 4 → xO p = hj_oI (hj_op c pr E p))
section HC
variable {c pr bf : Nat → Nat} {E : Nat} {vC vP vK vA vB vR kd oa ob rs xE xP xB xO : Nat → Int32}
theorem hj_Op_n {kk aa bb : Int32} {m o : Nat} (h : o ≠ m) (k : hj_Op kd oa ob o) : hj_Op (upd kd m kk) (upd oa m aa) (upd ob m bb) o := by
  unfold hj_Op
  rw [pk_un h, pk_un h, pk_un h]
  exact k
theorem hj_cn_call : hj_cn (hj_ap c E (2 * hj_cn c E)) (E + 1) = hj_cn c E + 1 := by
  rw [hj_cn_e (by rw [hj_ap_e]; omega), ← hj_cn_c hj_ap_l]
theorem hj_rm_call {v : Nat} : hj_rm (hj_ap c E (2 * v)) (E + 1) = hj_rm c E := by
  rw [hj_rm_e (by rw [hj_ap_e]; omega), ← hj_rm_c hj_ap_l]
theorem hj_cn_ret {o : Nat} : hj_cn (hj_ap c E (2 * o + 1)) (E + 1) = hj_cn c E := by
  rw [hj_cn_o (by rw [hj_ap_e]; omega), ← hj_cn_c hj_ap_l]
theorem hj_rm_ret {o : Nat} : hj_rm (hj_ap c E (2 * o + 1)) (E + 1) = hj_rm c E ||| 2 ^ o := by
  rw [hj_rm_o (by rw [hj_ap_e]; omega), ← hj_rm_c hj_ap_l, hj_ap_e, show (2 * o + 1) / 2 = o by omega]
theorem hj_H_call {q : Nat} {kk aa bb : Int32} (h : hj_H c pr E vC vP vK vA vB vR kd oa ob rs bf) (hq : q < 4) (ho : hj_op c pr E q = 0) (h8 : hj_cn c E < 8) (hk : kk = 0 ∨ kk = 1 ∨ kk = 2) (haa : ∃ a : Nat, a < 8 ∧ aa = nI a) (hbb : ∃ a : Nat, a < 8 ∧ bb = nI a) :
    hj_H (hj_ap c E (2 * hj_cn c E)) (hj_ap pr E q) (E + 1) (upd vC E (nI (2 * hj_cn c E))) (upd vP E (nI q)) (upd vK E kk) (upd vA E aa) (upd vB E bb) (upd vR E (-9)) (upd kd (hj_cn c E) kk) (upd oa (hj_cn c E) aa) (upd ob (hj_cn c E) bb) (upd rs (hj_cn c E) (-9)) (hj_ap bf (hj_cn c E) (hj_rm c E)) := by
  obtain ⟨w, -, h3, h4, h5⟩ := h
  refine ⟨hj_WF_call w hq ho, by rw [hj_cn_call]; omega, fun i hi => ?_, fun i o hi e => ?_, fun i o hi e => ?_⟩
  · by_cases z : i = E
    · subst z
      rw [pk_us, pk_us, hj_ap_e, hj_ap_e]
      exact ⟨rfl, rfl⟩
    · rw [pk_un z, pk_un z, ← hj_ap_l i (by omega), ← hj_ap_l i (by omega)]
      exact h3 i (by omega)
  · by_cases z : i = E
    · subst z
      rw [hj_ap_e] at e
      have : o = hj_cn c i := by omega
      subst this
      rw [hj_ap_e, ← hj_rm_c hj_ap_l]
      refine ⟨by rw [pk_us, pk_us], by rw [pk_us, pk_us], by rw [pk_us, pk_us], rfl, ?_⟩
      unfold hj_Op
      rw [pk_us, pk_us, pk_us]
      exact ⟨hk, haa, hbb⟩
    · rw [← hj_ap_l i (by omega)] at e
      have lt := hj_call_lt w (show i < E by omega) (Nat.le_refl _) e
      obtain ⟨a1, a2, a3, a4, a5⟩ := h4 i o (by omega) e
      have ne : o ≠ hj_cn c E := by omega
      refine ⟨by rw [pk_un z, pk_un ne]; exact a1, by rw [pk_un z, pk_un ne]; exact a2, by rw [pk_un z, pk_un ne]; exact a3, ?_, hj_Op_n ne a5⟩
      rw [← hj_ap_l o lt, a4]
      exact hj_rm_c (fun j hj => hj_ap_l j (by omega))
  · by_cases z : i = E
    · subst z
      rw [hj_ap_e] at e
      omega
    · rw [← hj_ap_l i (by omega)] at e
      have lt := hj_ret_lt w (show i < E by omega) (Nat.le_refl _) e
      rw [pk_un z, pk_un (show o ≠ hj_cn c E by omega)]
      exact h5 i o (by omega) e
theorem hj_HX_call {q : Nat} (w : hj_WF c pr E) (h : hj_HX c pr E xE xP rs xB xO bf) :
    hj_HX (hj_ap c E (2 * hj_cn c E)) (hj_ap pr E q) (E + 1) (upd xE E (nI (2 * hj_cn c E))) (upd xP (hj_cn c E) (nI q)) (upd rs (hj_cn c E) (-9)) (upd xB (hj_cn c E) (nI (hj_rm c E))) (upd xO q (nI (hj_cn c E))) (hj_ap bf (hj_cn c E) (hj_rm c E)) := by
  obtain ⟨h1, h2, h3, h4, h5⟩ := h
  refine ⟨fun i hi => ?_, fun i o hi e => ?_, fun o ho => ?_, fun o ho n => ?_, fun p hp => ?_⟩
  · by_cases z : i = E
    · subst z
      rw [pk_us, hj_ap_e]
    · rw [pk_un z, ← hj_ap_l i (by omega)]
      exact h1 i (by omega)
  · by_cases z : i = E
    · subst z
      rw [hj_ap_e] at e
      have : o = hj_cn c i := by omega
      subst this
      rw [pk_us, hj_ap_e]
    · rw [← hj_ap_l i (by omega)] at e
      have lt := hj_call_lt w (show i < E by omega) (Nat.le_refl _) e
      rw [pk_un (by omega), ← hj_ap_l i (by omega)]
      exact h2 i o (by omega) e
  · rw [hj_cn_call] at ho
    by_cases z : o = hj_cn c E
    · subst z
      rw [pk_us, hj_ap_e]
    · rw [pk_un z, ← hj_ap_l o (by omega)]
      exact h3 o (by omega)
  · rw [hj_cn_call] at ho
    by_cases z : o = hj_cn c E
    · subst z
      rw [pk_us]
    · rw [pk_un z]
      refine h4 o (by omega) (fun i hi e => ?_)
      have := n i (by omega)
      rw [← hj_ap_l i hi] at this
      exact this e
  · rw [hj_op_s, hj_ap_e, hj_ap_e]
    by_cases z : q = p
    · subst z
      rw [pk_us, if_pos rfl, if_pos (by omega), show 2 * hj_cn c E / 2 = hj_cn c E by omega]
      rfl
    · rw [pk_un (fun y => z y.symm), if_neg z, ← hj_op_c hj_ap_l hj_ap_l]
      exact h5 p hp
theorem hj_H_ret {q o r : Nat} (h : hj_H c pr E vC vP vK vA vB vR kd oa ob rs bf) (hq : q < 4) (ho : hj_op c pr E q = o + 1) (hr : r ≤ 8) :
    hj_H (hj_ap c E (2 * o + 1)) (hj_ap pr E q) (E + 1) (upd vC E (nI (2 * o + 1))) (upd vP E (nI q)) vK vA vB (upd vR E (nI r)) kd oa ob (upd rs o (nI r)) bf := by
  obtain ⟨w, h8, h3, h4, h5⟩ := h
  refine ⟨hj_WF_ret w hq ho, by rw [hj_cn_ret]; omega, fun i hi => ?_, fun i o' hi e => ?_, fun i o' hi e => ?_⟩
  · by_cases z : i = E
    · subst z
      rw [pk_us, pk_us, hj_ap_e, hj_ap_e]
      exact ⟨rfl, rfl⟩
    · rw [pk_un z, pk_un z, ← hj_ap_l i (by omega), ← hj_ap_l i (by omega)]
      exact h3 i (by omega)
  · by_cases z : i = E
    · subst z
      rw [hj_ap_e] at e
      omega
    · rw [← hj_ap_l i (by omega)] at e
      obtain ⟨a1, a2, a3, a4, a5⟩ := h4 i o' (by omega) e
      exact ⟨a1, a2, a3, a4.trans (hj_rm_c (fun j hj => hj_ap_l j (by omega))), a5⟩
  · by_cases z : i = E
    · subst z
      rw [hj_ap_e] at e
      have : o' = o := by omega
      subst this
      rw [pk_us, pk_us]
      exact ⟨rfl, r, hr, rfl⟩
    · rw [← hj_ap_l i (by omega)] at e
      have ne : o' ≠ o := fun y => by
        subst y
        exact hj_op_nr w ho i (by omega) e
      rw [pk_un z, pk_un ne]
      exact h5 i o' (by omega) e
theorem hj_HX_ret {q o r : Nat} (w : hj_WF c pr E) (h : hj_HX c pr E xE xP rs xB xO bf) :
    hj_HX (hj_ap c E (2 * o + 1)) (hj_ap pr E q) (E + 1) (upd xE E (nI (2 * o + 1))) xP (upd rs o (nI r)) xB (upd xO q (-1)) bf := by
  obtain ⟨h1, h2, h3, h4, h5⟩ := h
  refine ⟨fun i hi => ?_, fun i o' hi e => ?_, fun o' ho' => ?_, fun o' ho' n => ?_, fun p hp => ?_⟩
  · by_cases z : i = E
    · subst z
      rw [pk_us, hj_ap_e]
    · rw [pk_un z, ← hj_ap_l i (by omega)]
      exact h1 i (by omega)
  · by_cases z : i = E
    · subst z
      rw [hj_ap_e] at e
      omega
    · rw [← hj_ap_l i (by omega)] at e
      rw [← hj_ap_l i (by omega)]
      exact h2 i o' (by omega) e
  · rw [hj_cn_ret] at ho'
    exact h3 o' ho'
  · rw [hj_cn_ret] at ho'
    have ne : o' ≠ o := fun y => by
      subst y
      exact n E (by omega) hj_ap_e
    rw [pk_un ne]
    refine h4 o' ho' (fun i hi e => ?_)
    have := n i (by omega)
    rw [← hj_ap_l i hi] at this
    exact this e
  · rw [hj_op_s, hj_ap_e, hj_ap_e]
    by_cases z : q = p
    · subst z
      rw [pk_us, if_pos rfl, if_neg (by omega)]
      rfl
    · rw [pk_un (fun y => z y.symm), if_neg z, ← hj_op_c hj_ap_l hj_ap_l]
      exact h5 p hp
theorem hj_H_drop (h : hj_H c pr (E + 1) vC vP vK vA vB vR kd oa ob rs bf) : hj_H c pr E vC vP vK vA vB vR kd oa ob rs bf := by
  obtain ⟨w, h8, h3, h4, h5⟩ := h
  have := hj_cn_l (c := c) (show E ≤ E + 1 by omega)
  exact ⟨hj_WF_le w (by omega), by omega, fun i hi => h3 i (by omega), fun i o hi e => h4 i o (by omega) e, fun i o hi e => h5 i o (by omega) e⟩
theorem hj_H_rs {o : Nat} {x : Int32} (h : hj_H c pr E vC vP vK vA vB vR kd oa ob rs bf) (n : ∀ i, i < E → c i ≠ 2 * o + 1) : hj_H c pr E vC vP vK vA vB vR kd oa ob (upd rs o x) bf := by
  obtain ⟨w, h8, h3, h4, h5⟩ := h
  refine ⟨w, h8, h3, h4, fun i o' hi e => ?_⟩
  have ne : o' ≠ o := fun y => by
    subst y
    exact n i hi e
  rw [pk_un ne]
  exact h5 i o' hi e
theorem hj_HX_dropc (w : hj_WF c pr (E + 1)) (h : hj_HX c pr (E + 1) xE xP rs xB xO bf) (e : c E % 2 = 0) : hj_HX c pr E xE xP rs xB (upd xO (pr E) (-1)) bf := by
  obtain ⟨h1, h2, h3, h4, h5⟩ := h
  have m := hj_cn_e e
  refine ⟨fun i hi => h1 i (by omega), fun i o hi e => h2 i o (by omega) e, fun o ho => h3 o (by omega), fun o ho n => h4 o (by omega) (fun i hi => ?_), fun p hp => ?_⟩
  · rcases Nat.lt_or_ge i E with y | y
    · exact n i y
    · have : i = E := by omega
      subst this
      omega
  · by_cases z : p = pr E
    · subst z
      rw [pk_us, ((w E (by omega)).2.1 e).2]
      rfl
    · rw [pk_un z]
      have := h5 p hp
      rw [hj_op_s, if_neg (fun y => z y.symm)] at this
      exact this
theorem hj_HX_dropr {o : Nat} (w : hj_WF c pr (E + 1)) (h : hj_HX c pr (E + 1) xE xP rs xB xO bf) (e : c E = 2 * o + 1) : hj_HX c pr E xE xP (upd rs o (-9)) xB (upd xO (pr E) (nI o)) bf := by
  obtain ⟨h1, h2, h3, h4, h5⟩ := h
  have m := hj_cn_o (c := c) (i := E) (by omega)
  refine ⟨fun i hi => h1 i (by omega), fun i o hi e => h2 i o (by omega) e, fun o ho => h3 o (by omega), fun o' ho n => ?_, fun p hp => ?_⟩
  · by_cases z : o' = o
    · subst z
      rw [pk_us]
    · rw [pk_un z]
      refine h4 o' (by omega) (fun i hi => ?_)
      rcases Nat.lt_or_ge i E with y | y
      · exact n i y
      · have : i = E := by omega
        subst this
        omega
  · by_cases z : p = pr E
    · subst z
      have := (w E (by omega)).2.2 (by omega)
      rw [pk_us, this, e, show (2 * o + 1) / 2 = o by omega]
      rfl
    · rw [pk_un z]
      have := h5 p hp
      rw [hj_op_s, if_neg (fun y => z y.symm)] at this
      exact this
theorem hj_H_0 : hj_H c pr 0 vC vP vK vA vB vR kd oa ob rs bf :=
  ⟨fun i hi => by omega, by show 0 ≤ 8; omega, fun i hi => by omega, fun i o hi => by omega, fun i o hi => by omega⟩
theorem hj_HX_0 (h : ∀ p, p < 4 → xO p = -1) : hj_HX c pr 0 xE xP rs xB xO bf :=
  ⟨fun i hi => by omega, fun i o hi => by omega, fun o ho => absurd ho (by show ¬ o < 0; omega), fun o ho => absurd ho (by show ¬ o < 0; omega), h⟩
end HC
/-! the relation -/
def hj_JJ (K Q : Int32) (kd oa ob : Nat → Int32) (T : Nat) (jd gd ws fs : Int32) (xW xR : Nat → Int32) (ygd yws : Int32) (yW : Nat → Int32) : Prop :=
  jd = 0 ∨ (jd = 1 ∧ ygd = gd ∧ yws = ws ∧ ∃ (w : Nat) (W : Nat → Nat), ws = nI w ∧ w ≤ 8 ∧
    (∀ i, i < w → W i < T ∧ xW i = nI (W i) ∧ yW i = nI (W i) ∧ xR i = hj_R K Q kd oa (hj_S (hj_N K Q kd oa ob) (hj_s0 K) W i) (W i)) ∧ fs = hj_S (hj_N K Q kd oa ob) (hj_s0 K) W w)
def hj_RR (k : Nat) (c pr bf : Nat → Nat) (E np no nq g : Nat) (f_objectKind f_judged f_goodEvents f_witnessSize f_finalState : Int32) (a_events a_opProcess a_opKind a_opA a_opB a_opResult a_opBefore a_openOp a_witness a_witnessResults : Nat → Int32) (a_memoKey a_memoStamp : Nat → Int64) (g_good g_witnessSize : Int32) (b_evCode b_evProcess b_evKind b_evA b_evB b_evResult b_witness : Nat → Int32) : Prop :=
  (np ≤ 4 ∧ no ≤ 8 ∧ nq ≤ 8 ∧ hj_cn c E ≤ no) ∧ (f_objectKind = 0 ∨ f_objectKind = 1 ∨ f_objectKind = 2) ∧
  hj_H c pr E b_evCode b_evProcess b_evKind b_evA b_evB b_evResult a_opKind a_opA a_opB a_opResult bf ∧ hj_HX c pr E a_events a_opProcess a_opResult a_opBefore a_openOp bf ∧
  (g ≤ 4 * k ∧ hj_Me (fun _ _ => True) g a_memoKey a_memoStamp) ∧
  hj_JJ f_objectKind (nI nq) a_opKind a_opA a_opB (hj_cn c E) f_judged f_goodEvents f_witnessSize f_finalState a_witness a_witnessResults g_good g_witnessSize b_witness
/-- the relation at the head of a turn whose first cell is k -/
def i_Rel (k : Nat) (u : SX) (v : SY) : Prop := match u with
  | (f_processes, f_operations, f_capacity, f_objectKind, f_eventTotal, f_opTotal, f_returnedMask, f_judged, f_goodEvents, f_witnessSize, f_finalState, f_present, f_must, f_pathLength, f_generation, a_events, a_opProcess, a_opKind, a_opA, a_opB, a_opResult, a_opBefore, a_openOp, a_witness, a_witnessResults, a_expected, a_doneAt, a_stateAt, a_tryAt, a_path, a_memoKey, a_memoStamp) => match v with
    | (g_objectKind, g_processes, g_operations, g_capacity, g_events, g_judged, g_good, g_witnessSize, g_trialSize, g_size, b_evCode, b_evProcess, b_evKind, b_evA, b_evB, b_evResult, b_witness, b_trial, b_list) => ∃ (c pr bf : Nat → Nat) (E np no nq g : Nat), (f_processes = nI np ∧ f_operations = nI no ∧ f_capacity = nI nq ∧ f_eventTotal = nI E ∧ f_opTotal = nI (hj_cn c E) ∧ f_returnedMask = nI (hj_rm c E) ∧ f_generation = lN g) ∧
      (g_objectKind = f_objectKind ∧ g_processes = nI np ∧ g_operations = nI no ∧ g_capacity = nI nq ∧ g_events = nI E ∧ g_judged = f_judged) ∧ hj_RR k c pr bf E np no nq g f_objectKind f_judged f_goodEvents f_witnessSize f_finalState a_events a_opProcess a_opKind a_opA a_opB a_opResult a_opBefore a_openOp a_witness a_witnessResults a_memoKey a_memoStamp g_good g_witnessSize b_evCode b_evProcess b_evKind b_evA b_evB b_evResult b_witness
section RL
variable {f_processes f_operations f_capacity f_objectKind f_eventTotal f_opTotal f_returnedMask f_judged f_goodEvents f_witnessSize f_finalState f_present f_must f_pathLength : Int32} {f_generation : Int64} {a_events a_opProcess a_opKind a_opA a_opB a_opResult a_opBefore a_openOp a_witness a_witnessResults a_expected a_doneAt a_stateAt a_tryAt a_path : Nat → Int32} {a_memoKey a_memoStamp : Nat → Int64}
variable {g_objectKind g_processes g_operations g_capacity g_events g_judged g_good g_witnessSize g_trialSize g_size : Int32} {b_evCode b_evProcess b_evKind b_evA b_evB b_evResult b_witness b_trial b_list : Nat → Int32}
variable {k : Nat} {c pr bf : Nat → Nat} {E np no nq g : Nat}
theorem hj_mk (h : hj_RR k c pr bf E np no nq g f_objectKind f_judged f_goodEvents f_witnessSize f_finalState a_events a_opProcess a_opKind a_opA a_opB a_opResult a_opBefore a_openOp a_witness a_witnessResults a_memoKey a_memoStamp g_good g_witnessSize b_evCode b_evProcess b_evKind b_evA b_evB b_evResult b_witness) : i_Rel k (nI np, nI no, nI nq, f_objectKind, nI E, nI (hj_cn c E), nI (hj_rm c E), f_judged, f_goodEvents, f_witnessSize, f_finalState, f_present, f_must, f_pathLength, lN g, a_events, a_opProcess, a_opKind, a_opA, a_opB, a_opResult, a_opBefore, a_openOp, a_witness, a_witnessResults, a_expected, a_doneAt, a_stateAt, a_tryAt, a_path, a_memoKey, a_memoStamp) (f_objectKind, nI np, nI no, nI nq, nI E, f_judged, g_good, g_witnessSize, g_trialSize, g_size, b_evCode, b_evProcess, b_evKind, b_evA, b_evB, b_evResult, b_witness, b_trial, b_list) := ⟨c, pr, bf, E, np, no, nq, g, ⟨rfl, rfl, rfl, rfl, rfl, rfl, rfl⟩, ⟨rfl, rfl, rfl, rfl, rfl, rfl⟩, h⟩
theorem hj_RR_up (h : hj_RR k c pr bf E np no nq g f_objectKind f_judged f_goodEvents f_witnessSize f_finalState a_events a_opProcess a_opKind a_opA a_opB a_opResult a_opBefore a_openOp a_witness a_witnessResults a_memoKey a_memoStamp g_good g_witnessSize b_evCode b_evProcess b_evKind b_evA b_evB b_evResult b_witness) : hj_RR (k + 5) c pr bf E np no nq g f_objectKind f_judged f_goodEvents f_witnessSize f_finalState a_events a_opProcess a_opKind a_opA a_opB a_opResult a_opBefore a_openOp a_witness a_witnessResults a_memoKey a_memoStamp g_good g_witnessSize b_evCode b_evProcess b_evKind b_evA b_evB b_evResult b_witness := by
  obtain ⟨h1, h2, h3, h4, ⟨h5, h6⟩, h7⟩ := h
  exact ⟨h1, h2, h3, h4, ⟨by omega, h6⟩, h7⟩
end RL
theorem hj_el {k : Nat} {u : SX} {v : SY} {Z : SX → SY → Prop} (h : ∀ (f_objectKind f_judged f_goodEvents f_witnessSize f_finalState f_present f_must f_pathLength : Int32) (a_events a_opProcess a_opKind a_opA a_opB a_opResult a_opBefore a_openOp a_witness a_witnessResults a_expected a_doneAt a_stateAt a_tryAt a_path : Nat → Int32) (a_memoKey a_memoStamp : Nat → Int64) (g_good g_witnessSize g_trialSize g_size : Int32) (b_evCode b_evProcess b_evKind b_evA b_evB b_evResult b_witness b_trial b_list : Nat → Int32) (c pr bf : Nat → Nat) (E np no nq g : Nat), hj_RR k c pr bf E np no nq g f_objectKind f_judged f_goodEvents f_witnessSize f_finalState a_events a_opProcess a_opKind a_opA a_opB a_opResult a_opBefore a_openOp a_witness a_witnessResults a_memoKey a_memoStamp g_good g_witnessSize b_evCode b_evProcess b_evKind b_evA b_evB b_evResult b_witness → Z (nI np, nI no, nI nq, f_objectKind, nI E, nI (hj_cn c E), nI (hj_rm c E), f_judged, f_goodEvents, f_witnessSize, f_finalState, f_present, f_must, f_pathLength, lN g, a_events, a_opProcess, a_opKind, a_opA, a_opB, a_opResult, a_opBefore, a_openOp, a_witness, a_witnessResults, a_expected, a_doneAt, a_stateAt, a_tryAt, a_path, a_memoKey, a_memoStamp) (f_objectKind, nI np, nI no, nI nq, nI E, f_judged, g_good, g_witnessSize, g_trialSize, g_size, b_evCode, b_evProcess, b_evKind, b_evA, b_evB, b_evResult, b_witness, b_trial, b_list)) (I : i_Rel k u v) : Z u v := by
  obtain ⟨f_processes, f_operations, f_capacity, f_objectKind, f_eventTotal, f_opTotal, f_returnedMask, f_judged, f_goodEvents, f_witnessSize, f_finalState, f_present, f_must, f_pathLength, f_generation, a_events, a_opProcess, a_opKind, a_opA, a_opB, a_opResult, a_opBefore, a_openOp, a_witness, a_witnessResults, a_expected, a_doneAt, a_stateAt, a_tryAt, a_path, a_memoKey, a_memoStamp⟩ := u
  obtain ⟨g_objectKind, g_processes, g_operations, g_capacity, g_events, g_judged, g_good, g_witnessSize, g_trialSize, g_size, b_evCode, b_evProcess, b_evKind, b_evA, b_evB, b_evResult, b_witness, b_trial, b_list⟩ := v
  obtain ⟨c, pr, bf, E, np, no, nq, g, ⟨e1, e2, e3, e4, e5, e6, e7⟩, ⟨d1, d2, d3, d4, d5, d6⟩, hr⟩ := I
  rw [e1, e2, e3, e4, e5, e6, e7, d1, d2, d3, d4, d5, d6]
  exact h f_objectKind f_judged f_goodEvents f_witnessSize f_finalState f_present f_must f_pathLength a_events a_opProcess a_opKind a_opA a_opB a_opResult a_opBefore a_openOp a_witness a_witnessResults a_expected a_doneAt a_stateAt a_tryAt a_path a_memoKey a_memoStamp g_good g_witnessSize g_trialSize g_size b_evCode b_evProcess b_evKind b_evA b_evB b_evResult b_witness b_trial b_list c pr bf E np no nq g hr
theorem i_up {k : Nat} {u : SX} {v : SY} (h : i_Rel k u v) : i_Rel (k + 5) u v := by
  refine hj_el (Z := i_Rel (k + 5)) ?_ h
  intro f_objectKind f_judged f_goodEvents f_witnessSize f_finalState f_present f_must f_pathLength a_events a_opProcess a_opKind a_opA a_opB a_opResult a_opBefore a_openOp a_witness a_witnessResults a_expected a_doneAt a_stateAt a_tryAt a_path a_memoKey a_memoStamp g_good g_witnessSize g_trialSize g_size b_evCode b_evProcess b_evKind b_evA b_evB b_evResult b_witness b_trial b_list c pr bf E np no nq g hr
  exact hj_mk (hj_RR_up hr)
end
section
/-! constructors, begin, and the calls that only read -/
def hj_cl (x a b : Int32) : Int32 := if a ≤ x then (if x ≤ b then x else b) else a
theorem hj_cl_n {x : Int32} {a b : Nat} (h : a ≤ b) (hb : b < 2 ^ 31) : ∃ n : Nat, a ≤ n ∧ n ≤ b ∧ hj_cl x (nI a) (nI b) = nI n := by
  unfold hj_cl
  by_cases h1 : nI a ≤ x
  · rw [if_pos h1]
    by_cases h2 : x ≤ nI b
    · rw [if_pos h2]
      obtain ⟨j, hj, rfl⟩ := nI_of (x := x) (Int32.not_lt.mpr (Int32.le_trans (nI_pos' (by omega)) h1))
      rw [nI_leI (by omega) (by omega)] at h1 h2
      exact ⟨j, h1, h2, rfl⟩
    · rw [if_neg h2]
      exact ⟨b, h, Nat.le_refl _, rfl⟩
  · rw [if_neg h1]
    exact ⟨a, Nat.le_refl _, h, rfl⟩
theorem hj_k3 : ∀ n, n < 3 → nI n = 0 ∨ nI n = 1 ∨ nI n = 2 := by decide +kernel
theorem hj_JJ_1 {K Q : Int32} {kd oa ob : Nat → Int32} {T : Nat} {jd gd ws fs : Int32} {xW xR : Nat → Int32} {ygd yws : Int32} {yW : Nat → Int32} (h : hj_JJ K Q kd oa ob T jd gd ws fs xW xR ygd yws yW) (n : ¬ jd = 0) :
    ygd = gd ∧ yws = ws ∧ ∃ (w : Nat) (W : Nat → Nat), ws = nI w ∧ w ≤ 8 ∧ (∀ i, i < w → W i < T ∧ xW i = nI (W i) ∧ yW i = nI (W i) ∧ xR i = hj_R K Q kd oa (hj_S (hj_N K Q kd oa ob) (hj_s0 K) W i) (W i)) ∧ fs = hj_S (hj_N K Q kd oa ob) (hj_s0 K) W w := by
  rcases h with h | h
  · exact absurd h n
  · exact h.2
section SI
variable {f_processes f_operations f_capacity f_objectKind f_eventTotal f_opTotal f_returnedMask f_judged f_goodEvents f_witnessSize f_finalState f_present f_must f_pathLength : Int32} {f_generation : Int64} {a_events a_opProcess a_opKind a_opA a_opB a_opResult a_opBefore a_openOp a_witness a_witnessResults a_expected a_doneAt a_stateAt a_tryAt a_path : Nat → Int32} {a_memoKey a_memoStamp : Nat → Int64}
variable {g_objectKind g_processes g_operations g_capacity g_events g_judged g_good g_witnessSize g_trialSize g_size : Int32} {b_evCode b_evProcess b_evKind b_evA b_evB b_evResult b_witness b_trial b_list : Nat → Int32}
theorem hx_clamp {post : Int32 → Prop} {x a b : Int32} (h : post (hj_cl x a b)) : wpX_clamp post (f_processes, f_operations, f_capacity, f_objectKind, f_eventTotal, f_opTotal, f_returnedMask, f_judged, f_goodEvents, f_witnessSize, f_finalState, f_present, f_must, f_pathLength, f_generation, a_events, a_opProcess, a_opKind, a_opA, a_opB, a_opResult, a_opBefore, a_openOp, a_witness, a_witnessResults, a_expected, a_doneAt, a_stateAt, a_tryAt, a_path, a_memoKey, a_memoStamp) x a b := by
  unfold hj_cl at h
  exact hj_bi h (fun _ h => hj_bi h (fun _ x => x) (fun _ x => x)) (fun _ x => x)
theorem hy_clamp {post : Int32 → Prop} {x a b : Int32} (h : post (hj_cl x a b)) : wpY_clamp post (g_objectKind, g_processes, g_operations, g_capacity, g_events, g_judged, g_good, g_witnessSize, g_trialSize, g_size, b_evCode, b_evProcess, b_evKind, b_evA, b_evB, b_evResult, b_witness, b_trial, b_list) x a b := by
  unfold hj_cl at h
  exact hj_bi h (fun _ h => hj_bi h (fun _ x => x) (fun _ x => x)) (fun _ x => x)
theorem hx_clear {post : SX → Prop} (h : ∀ xO, (∀ p, p < 4 → xO p = -1) → post (f_processes, f_operations, f_capacity, f_objectKind, 0, 0, 0, 0, f_goodEvents, f_witnessSize, f_finalState, f_present, f_must, f_pathLength, f_generation, a_events, a_opProcess, a_opKind, a_opA, a_opB, a_opResult, a_opBefore, xO, a_witness, a_witnessResults, a_expected, a_doneAt, a_stateAt, a_tryAt, a_path, a_memoKey, a_memoStamp)) : wpX_clearHistory post (f_processes, f_operations, f_capacity, f_objectKind, f_eventTotal, f_opTotal, f_returnedMask, f_judged, f_goodEvents, f_witnessSize, f_finalState, f_present, f_must, f_pathLength, f_generation, a_events, a_opProcess, a_opKind, a_opA, a_opB, a_opResult, a_opBefore, a_openOp, a_witness, a_witnessResults, a_expected, a_doneAt, a_stateAt, a_tryAt, a_path, a_memoKey, a_memoStamp) := by
  have key : ∀ n i xO, i + n = 4 → (∀ p, p < i → xO p = -1) → wX_clearHistory_17 post f_processes f_operations f_capacity f_objectKind 0 0 0 f_judged f_goodEvents f_witnessSize f_finalState f_present f_must f_pathLength f_generation (n + 1) (nI i) a_events a_opProcess a_opKind a_opA a_opB a_opResult a_opBefore xO a_witness a_witnessResults a_expected a_doneAt a_stateAt a_tryAt a_path a_memoKey a_memoStamp := by
    intro n
    induction n with
    | zero =>
      intro i xO hi hO
      have : i = 4 := by omega
      subst this
      exact br_t (by decide) (h xO hO)
    | succ n ih =>
      intro i xO hi hO
      have ci : (nI i).toNatClampNeg = i := nI_clamp (by omega)
      refine br_f (nI_ge (b := 4) (by omega) (by omega)) ?_
      rw [ci]
      refine ⟨vp_in_nI (by omega) (by omega), nm_e (nm_r (nI_1 i) (ih (i + 1) _ (by omega) ?_))⟩
      intro p hp
      by_cases z : p = i
      · rw [z, pk_us]
      · rw [pk_un z]
        exact hO p (by omega)
  unfold wpX_clearHistory
  dsimp only
  exact ⟨5, key 4 0 _ (by omega) (fun p hp => by omega)⟩
end SI
theorem i_vc0 (k0 : Int32) (k1 : Int32) (k2 : Int32) (k3 : Int32) : wpX_init (fun u => wpY_init (fun v => i_Rel 4 u v) k0 k1 k2 k3) k0 k1 k2 k3 := by
  obtain ⟨n0, -, h0, e0⟩ : ∃ n : Nat, 0 ≤ n ∧ n ≤ 2 ∧ hj_cl k0 0 2 = nI n := hj_cl_n (a := 0) (b := 2) (by omega) (by omega)
  obtain ⟨n1, -, h1, e1⟩ : ∃ n : Nat, 1 ≤ n ∧ n ≤ 4 ∧ hj_cl k1 1 4 = nI n := hj_cl_n (a := 1) (b := 4) (by omega) (by omega)
  obtain ⟨n2, -, h2, e2⟩ : ∃ n : Nat, 1 ≤ n ∧ n ≤ 8 ∧ hj_cl k2 1 8 = nI n := hj_cl_n (a := 1) (b := 8) (by omega) (by omega)
  obtain ⟨n3, -, h3, e3⟩ : ∃ n : Nat, 1 ≤ n ∧ n ≤ 8 ∧ hj_cl k3 1 8 = nI n := hj_cl_n (a := 1) (b := 8) (by omega) (by omega)
  unfold wpX_init
  refine hx_clamp (hx_clamp (hx_clamp (hx_clamp (hx_clear ?_))))
  intro xO hO
  unfold wpY_init
  refine hy_clamp (hy_clamp (hy_clamp (hy_clamp ?_)))
  rw [e0, e1, e2, e3]
  refine hj_mk (k := 4) (c := fun _ => 0) (pr := fun _ => 0) (bf := fun _ => 0) (E := 0) (np := n1) (no := n2) (nq := n3) (g := 0) ⟨⟨h1, h2, h3, Nat.zero_le _⟩, hj_k3 n0 (by omega), hj_H_0, hj_HX_0 hO, ⟨by omega, ?_⟩, Or.inl rfl⟩
  intro j hj
  exact ⟨⟨0, by omega, rfl⟩, fun _ => ⟨0, 0, by omega, by omega, rfl, True.intro⟩⟩
theorem i_vc_begin {k : Nat} {u : SX} {v : SY} (I : i_Rel k u v) (hk : k + 5 ≤ 2564) (v1 : Int32) : wpX_begin (fun r u' => wpY_begin (fun r' v' => r' = r ∧ i_Rel (k + 5) u' v') v v1) u v1 := by
  refine hj_el (Z := fun u v => wpX_begin (fun r u' => wpY_begin (fun r' v' => r' = r ∧ i_Rel (k + 5) u' v') v v1) u v1) ?_ I
  intro f_objectKind f_judged f_goodEvents f_witnessSize f_finalState f_present f_must f_pathLength a_events a_opProcess a_opKind a_opA a_opB a_opResult a_opBefore a_openOp a_witness a_witnessResults a_expected a_doneAt a_stateAt a_tryAt a_path a_memoKey a_memoStamp g_good g_witnessSize g_trialSize g_size b_evCode b_evProcess b_evKind b_evA b_evB b_evResult b_witness b_trial b_list c pr bf E np no nq g hr
  have J := hj_mk (f_present := f_present) (f_must := f_must) (f_pathLength := f_pathLength) (a_expected := a_expected) (a_doneAt := a_doneAt) (a_stateAt := a_stateAt) (a_tryAt := a_tryAt) (a_path := a_path) (g_trialSize := g_trialSize) (g_size := g_size) (b_trial := b_trial) (b_list := b_list) (hj_RR_up hr)
  obtain ⟨⟨h1, h2, h3, h4⟩, h5, h6, h7, ⟨h8, h9⟩, h10⟩ := hr
  unfold wpX_begin
  dsimp only
  refine br_c (fun a => br_t a ⟨rfl, J⟩) (fun a => br_c (fun b => ?_) (fun b => br_f a (br_f b ⟨rfl, J⟩)))
  refine hx_clear ?_
  intro xO hO
  refine br_f a (br_t b ⟨rfl, ?_⟩)
  obtain ⟨j, hj, rfl⟩ := nI_of2 (M := 2) (n := 2) (by decide) a b
  exact hj_mk (k := k + 5) (c := fun _ => 0) (pr := fun _ => 0) (bf := fun _ => 0) (E := 0) ⟨⟨h1, h2, h3, Nat.zero_le _⟩, hj_k3 j (by omega), hj_H_0, hj_HX_0 hO, ⟨by omega, h9⟩, Or.inl rfl⟩
theorem i_vc_goodLength {k : Nat} {u : SX} {v : SY} (I : i_Rel k u v) (hk : k + 5 ≤ 2564) : wpX_goodLength (fun r => wpY_goodLength (fun r' => r' = r ∧ i_Rel (k + 5) u v) v) u := by
  refine hj_el (Z := fun u v => wpX_goodLength (fun r => wpY_goodLength (fun r' => r' = r ∧ i_Rel (k + 5) u v) v) u) ?_ I
  intro f_objectKind f_judged f_goodEvents f_witnessSize f_finalState f_present f_must f_pathLength a_events a_opProcess a_opKind a_opA a_opB a_opResult a_opBefore a_openOp a_witness a_witnessResults a_expected a_doneAt a_stateAt a_tryAt a_path a_memoKey a_memoStamp g_good g_witnessSize g_trialSize g_size b_evCode b_evProcess b_evKind b_evA b_evB b_evResult b_witness b_trial b_list c pr bf E np no nq g hr
  have J := hj_mk (f_present := f_present) (f_must := f_must) (f_pathLength := f_pathLength) (a_expected := a_expected) (a_doneAt := a_doneAt) (a_stateAt := a_stateAt) (a_tryAt := a_tryAt) (a_path := a_path) (g_trialSize := g_trialSize) (g_size := g_size) (b_trial := b_trial) (b_list := b_list) (hj_RR_up hr)
  obtain ⟨⟨h1, h2, h3, h4⟩, h5, h6, h7, ⟨h8, h9⟩, h10⟩ := hr
  have hE := hj_H_E h6
  refine br_c (fun e => br_t e ⟨rfl, J⟩) (fun e => br_f e ⟨(hj_JJ_1 h10 e).1, J⟩)
theorem i_vc_witnessLength {k : Nat} {u : SX} {v : SY} (I : i_Rel k u v) (hk : k + 5 ≤ 2564) : wpX_witnessLength (fun r => wpY_witnessLength (fun r' => r' = r ∧ i_Rel (k + 5) u v) v) u := by
  refine hj_el (Z := fun u v => wpX_witnessLength (fun r => wpY_witnessLength (fun r' => r' = r ∧ i_Rel (k + 5) u v) v) u) ?_ I
  intro f_objectKind f_judged f_goodEvents f_witnessSize f_finalState f_present f_must f_pathLength a_events a_opProcess a_opKind a_opA a_opB a_opResult a_opBefore a_openOp a_witness a_witnessResults a_expected a_doneAt a_stateAt a_tryAt a_path a_memoKey a_memoStamp g_good g_witnessSize g_trialSize g_size b_evCode b_evProcess b_evKind b_evA b_evB b_evResult b_witness b_trial b_list c pr bf E np no nq g hr
  have J := hj_mk (f_present := f_present) (f_must := f_must) (f_pathLength := f_pathLength) (a_expected := a_expected) (a_doneAt := a_doneAt) (a_stateAt := a_stateAt) (a_tryAt := a_tryAt) (a_path := a_path) (g_trialSize := g_trialSize) (g_size := g_size) (b_trial := b_trial) (b_list := b_list) (hj_RR_up hr)
  obtain ⟨⟨h1, h2, h3, h4⟩, h5, h6, h7, ⟨h8, h9⟩, h10⟩ := hr
  have hE := hj_H_E h6
  refine br_c (fun e => br_t e ⟨rfl, J⟩) (fun e => br_f e ⟨(hj_JJ_1 h10 e).2.1, J⟩)
theorem i_vc_witnessAt {k : Nat} {u : SX} {v : SY} (I : i_Rel k u v) (hk : k + 5 ≤ 2564) (v1 : Int32) : wpX_witnessAt (fun r => wpY_witnessAt (fun r' => r' = r ∧ i_Rel (k + 5) u v) v v1) u v1 := by
  refine hj_el (Z := fun u v => wpX_witnessAt (fun r => wpY_witnessAt (fun r' => r' = r ∧ i_Rel (k + 5) u v) v v1) u v1) ?_ I
  intro f_objectKind f_judged f_goodEvents f_witnessSize f_finalState f_present f_must f_pathLength a_events a_opProcess a_opKind a_opA a_opB a_opResult a_opBefore a_openOp a_witness a_witnessResults a_expected a_doneAt a_stateAt a_tryAt a_path a_memoKey a_memoStamp g_good g_witnessSize g_trialSize g_size b_evCode b_evProcess b_evKind b_evA b_evB b_evResult b_witness b_trial b_list c pr bf E np no nq g hr
  have J := hj_mk (f_present := f_present) (f_must := f_must) (f_pathLength := f_pathLength) (a_expected := a_expected) (a_doneAt := a_doneAt) (a_stateAt := a_stateAt) (a_tryAt := a_tryAt) (a_path := a_path) (g_trialSize := g_trialSize) (g_size := g_size) (b_trial := b_trial) (b_list := b_list) (hj_RR_up hr)
  obtain ⟨⟨h1, h2, h3, h4⟩, h5, h6, h7, ⟨h8, h9⟩, h10⟩ := hr
  have hE := hj_H_E h6
  refine br_c (fun e => br_t e ⟨rfl, J⟩) (fun e => ?_)
  obtain ⟨-, ew, w, W, ews, hw, hW, -⟩ := hj_JJ_1 h10 e
  refine br_c (fun a => br_f e (br_t a ⟨rfl, J⟩)) (fun a => br_c (fun b => ?_) (fun b => br_f e (br_f a (br_f (by rw [ew]; exact b) ⟨rfl, J⟩))))
  obtain ⟨j, hj, rfl⟩ := nI_of a
  have b' := b
  rw [ews, nI_ltI hj (by omega)] at b'
  have hin : vp_in (nI j) 8 := vp_in_nI (by omega) (by omega)
  have cj : (nI j).toNatClampNeg = j := nI_clamp (by omega)
  refine ⟨hin, br_f e (br_f a (br_t (by rw [ew]; exact b) ⟨hin, ?_, J⟩))⟩
  rw [cj, (hW j b').2.1, (hW j b').2.2.1]
theorem i_vc_eventCount {k : Nat} {u : SX} {v : SY} (I : i_Rel k u v) (hk : k + 5 ≤ 2564) : wpX_eventCount (fun r => wpY_eventCount (fun r' => r' = r ∧ i_Rel (k + 5) u v) v) u := by
  refine hj_el (Z := fun u v => wpX_eventCount (fun r => wpY_eventCount (fun r' => r' = r ∧ i_Rel (k + 5) u v) v) u) ?_ I
  intro f_objectKind f_judged f_goodEvents f_witnessSize f_finalState f_present f_must f_pathLength a_events a_opProcess a_opKind a_opA a_opB a_opResult a_opBefore a_openOp a_witness a_witnessResults a_expected a_doneAt a_stateAt a_tryAt a_path a_memoKey a_memoStamp g_good g_witnessSize g_trialSize g_size b_evCode b_evProcess b_evKind b_evA b_evB b_evResult b_witness b_trial b_list c pr bf E np no nq g hr
  have J := hj_mk (f_present := f_present) (f_must := f_must) (f_pathLength := f_pathLength) (a_expected := a_expected) (a_doneAt := a_doneAt) (a_stateAt := a_stateAt) (a_tryAt := a_tryAt) (a_path := a_path) (g_trialSize := g_trialSize) (g_size := g_size) (b_trial := b_trial) (b_list := b_list) (hj_RR_up hr)
  obtain ⟨⟨h1, h2, h3, h4⟩, h5, h6, h7, ⟨h8, h9⟩, h10⟩ := hr
  have hE := hj_H_E h6
  exact ⟨rfl, J⟩
theorem i_vc_eventAt {k : Nat} {u : SX} {v : SY} (I : i_Rel k u v) (hk : k + 5 ≤ 2564) (v1 : Int32) : wpX_eventAt (fun r => wpY_eventAt (fun r' => r' = r ∧ i_Rel (k + 5) u v) v v1) u v1 := by
  refine hj_el (Z := fun u v => wpX_eventAt (fun r => wpY_eventAt (fun r' => r' = r ∧ i_Rel (k + 5) u v) v v1) u v1) ?_ I
  intro f_objectKind f_judged f_goodEvents f_witnessSize f_finalState f_present f_must f_pathLength a_events a_opProcess a_opKind a_opA a_opB a_opResult a_opBefore a_openOp a_witness a_witnessResults a_expected a_doneAt a_stateAt a_tryAt a_path a_memoKey a_memoStamp g_good g_witnessSize g_trialSize g_size b_evCode b_evProcess b_evKind b_evA b_evB b_evResult b_witness b_trial b_list c pr bf E np no nq g hr
  have J := hj_mk (f_present := f_present) (f_must := f_must) (f_pathLength := f_pathLength) (a_expected := a_expected) (a_doneAt := a_doneAt) (a_stateAt := a_stateAt) (a_tryAt := a_tryAt) (a_path := a_path) (g_trialSize := g_trialSize) (g_size := g_size) (b_trial := b_trial) (b_list := b_list) (hj_RR_up hr)
  obtain ⟨⟨h1, h2, h3, h4⟩, h5, h6, h7, ⟨h8, h9⟩, h10⟩ := hr
  have hE := hj_H_E h6
  refine br_c (fun a => br_t a ⟨rfl, J⟩) (fun a => br_c (fun b => ?_) (fun b => br_f a (br_f b ⟨rfl, J⟩)))
  obtain ⟨j, hj, rfl⟩ := nI_of a
  have b' := b
  rw [nI_ltI hj (by omega)] at b'
  have hin : vp_in (nI j) 16 := vp_in_nI (by omega) (by omega)
  have cj : (nI j).toNatClampNeg = j := nI_clamp (by omega)
  refine ⟨hin, br_f a (br_t b ⟨hin, ?_, J⟩)⟩
  rw [cj, h7.1 j b', (h6.2.2.1 j b').1]
theorem i_vc_precedes {k : Nat} {u : SX} {v : SY} (I : i_Rel k u v) (hk : k + 5 ≤ 2564) (v1 : Int32) (v2 : Int32) : wpX_precedes (fun r => wpY_precedes (fun r' => r' = r ∧ i_Rel (k + 5) u v) v v1 v2) u v1 v2 := by
  refine hj_el (Z := fun u v => wpX_precedes (fun r => wpY_precedes (fun r' => r' = r ∧ i_Rel (k + 5) u v) v v1 v2) u v1 v2) ?_ I
  intro f_objectKind f_judged f_goodEvents f_witnessSize f_finalState f_present f_must f_pathLength a_events a_opProcess a_opKind a_opA a_opB a_opResult a_opBefore a_openOp a_witness a_witnessResults a_expected a_doneAt a_stateAt a_tryAt a_path a_memoKey a_memoStamp g_good g_witnessSize g_trialSize g_size b_evCode b_evProcess b_evKind b_evA b_evB b_evResult b_witness b_trial b_list c pr bf E np no nq g hr
  have J := hj_mk (f_present := f_present) (f_must := f_must) (f_pathLength := f_pathLength) (a_expected := a_expected) (a_doneAt := a_doneAt) (a_stateAt := a_stateAt) (a_tryAt := a_tryAt) (a_path := a_path) (g_trialSize := g_trialSize) (g_size := g_size) (b_trial := b_trial) (b_list := b_list) (hj_RR_up hr)
  obtain ⟨⟨h1, h2, h3, h4⟩, h5, h6, h7, ⟨h8, h9⟩, h10⟩ := hr
  have hE := hj_H_E h6
  have h8' := h6.2.1
  have Yb : (v1 < 0 ∨ nI (hj_cn c E) ≤ v1 ∨ v2 < 0 ∨ ¬ v2 < nI (hj_cn c E)) → wpY_precedes (fun r' => r' = -7 ∧ i_Rel (k + 5) (nI np, nI no, nI nq, f_objectKind, nI E, nI (hj_cn c E), nI (hj_rm c E), f_judged, f_goodEvents, f_witnessSize, f_finalState, f_present, f_must, f_pathLength, lN g, a_events, a_opProcess, a_opKind, a_opA, a_opB, a_opResult, a_opBefore, a_openOp, a_witness, a_witnessResults, a_expected, a_doneAt, a_stateAt, a_tryAt, a_path, a_memoKey, a_memoStamp) (f_objectKind, nI np, nI no, nI nq, nI E, f_judged, g_good, g_witnessSize, g_trialSize, g_size, b_evCode, b_evProcess, b_evKind, b_evA, b_evB, b_evResult, b_witness, b_trial, b_list)) (f_objectKind, nI np, nI no, nI nq, nI E, f_judged, g_good, g_witnessSize, g_trialSize, g_size, b_evCode, b_evProcess, b_evKind, b_evA, b_evB, b_evResult, b_witness, b_trial, b_list) v1 v2 := by
    intro q
    unfold wpY_precedes
    dsimp only
    refine hy_callsIn h6 (Nat.le_refl _) ?_
    refine br_c (fun _ => ⟨rfl, J⟩) (fun a => br_c (fun _ => ⟨rfl, J⟩) (fun b => br_c (fun _ => ⟨rfl, J⟩) (fun d => br_c (fun e => ?_) (fun _ => ⟨rfl, J⟩))))
    rcases q with q | q | q | q
    · exact absurd q a
    · exact absurd q b
    · exact absurd q d
    · exact absurd e q
  refine br_c (fun a => Yb (Or.inl a)) (fun a => br_c (fun b => Yb (Or.inr (Or.inl b))) (fun b => br_c (fun d => Yb (Or.inr (Or.inr (Or.inl d)))) (fun d => br_c (fun e => ?_) (fun e => Yb (Or.inr (Or.inr (Or.inr e)))))))
  obtain ⟨i, hi, rfl⟩ := nI_of a
  obtain ⟨j, hj, rfl⟩ := nI_of d
  rw [nI_leI (by omega) hi] at b
  rw [nI_ltI hj (by omega)] at e
  have cj : (nI j).toNatClampNeg = j := nI_clamp (by omega)
  have hb := hj_H_bf h6 e
  have hd : bf j / 2 ^ i ≤ bf j := Nat.div_le_self _ _
  refine ⟨vp_in_nI (by omega) (by omega), ?_⟩
  rw [cj, h7.2.2.1 j e, pk_shrN (by omega) _ i (s_l i (by omega)), pk_andN (by omega) 1 (by decide)]
  refine hy_precedes h6 (by omega) e (fun t => ⟨?_, J⟩) (fun t => ⟨?_, J⟩)
  · rw [Nat.testBit_eq_decide_div_mod_eq, decide_eq_true_iff] at t
    rw [show (2 : Nat) ^ 1 = 2 from rfl, t]
    rfl
  · rw [Nat.testBit_eq_decide_div_mod_eq, decide_eq_false_iff_not] at t
    rw [show (2 : Nat) ^ 1 = 2 from rfl, show bf j / 2 ^ i % 2 = 0 by omega]
    rfl
theorem i_vc_setting {k : Nat} {u : SX} {v : SY} (I : i_Rel k u v) (hk : k + 5 ≤ 2564) (v1 : Int32) : wpX_setting (fun r => wpY_setting (fun r' => r' = r ∧ i_Rel (k + 5) u v) v v1) u v1 := by
  refine hj_el (Z := fun u v => wpX_setting (fun r => wpY_setting (fun r' => r' = r ∧ i_Rel (k + 5) u v) v v1) u v1) ?_ I
  intro f_objectKind f_judged f_goodEvents f_witnessSize f_finalState f_present f_must f_pathLength a_events a_opProcess a_opKind a_opA a_opB a_opResult a_opBefore a_openOp a_witness a_witnessResults a_expected a_doneAt a_stateAt a_tryAt a_path a_memoKey a_memoStamp g_good g_witnessSize g_trialSize g_size b_evCode b_evProcess b_evKind b_evA b_evB b_evResult b_witness b_trial b_list c pr bf E np no nq g hr
  have J := hj_mk (f_present := f_present) (f_must := f_must) (f_pathLength := f_pathLength) (a_expected := a_expected) (a_doneAt := a_doneAt) (a_stateAt := a_stateAt) (a_tryAt := a_tryAt) (a_path := a_path) (g_trialSize := g_trialSize) (g_size := g_size) (b_trial := b_trial) (b_list := b_list) (hj_RR_up hr)
  obtain ⟨⟨h1, h2, h3, h4⟩, h5, h6, h7, ⟨h8, h9⟩, h10⟩ := hr
  have hE := hj_H_E h6
  have n0 : (0 : Int32) < 4 := by decide
  by_cases a0 : v1 = 0
  · subst a0
    exact br_f (by decide) (br_f (by decide) (br_t rfl (br_t rfl ⟨rfl, J⟩)))
  by_cases a1 : v1 = 1
  · subst a1
    exact br_f (by decide) (br_f (by decide) (br_f a0 (br_t rfl (br_f a0 (br_t rfl ⟨rfl, J⟩)))))
  by_cases a2 : v1 = 2
  · subst a2
    exact br_f (by decide) (br_f (by decide) (br_f a0 (br_f a1 (br_t rfl (br_f a0 (br_f a1 (br_t rfl ⟨rfl, J⟩)))))))
  by_cases a3 : v1 = 3
  · subst a3
    exact br_f (by decide) (br_f (by decide) (br_f a0 (br_f a1 (br_f a2 (br_t rfl (br_f a0 (br_f a1 (br_f a2 (br_t rfl ⟨rfl, J⟩)))))))))
  refine br_c (fun _ => br_f a0 (br_f a1 (br_f a2 (br_f a3 ⟨rfl, J⟩)))) (fun a => br_c (fun _ => br_f a0 (br_f a1 (br_f a2 (br_f a3 ⟨rfl, J⟩)))) (fun b => br_f a0 (br_f a1 (br_f a2 (br_f a3 True.intro)))))
theorem i_vc_field {k : Nat} {u : SX} {v : SY} (I : i_Rel k u v) (hk : k + 5 ≤ 2564) (v1 : Int32) (v2 : Int32) : wpX_field (fun r => wpY_field (fun r' => r' = r ∧ i_Rel (k + 5) u v) v v1 v2) u v1 v2 := by
  refine hj_el (Z := fun u v => wpX_field (fun r => wpY_field (fun r' => r' = r ∧ i_Rel (k + 5) u v) v v1 v2) u v1 v2) ?_ I
  intro f_objectKind f_judged f_goodEvents f_witnessSize f_finalState f_present f_must f_pathLength a_events a_opProcess a_opKind a_opA a_opB a_opResult a_opBefore a_openOp a_witness a_witnessResults a_expected a_doneAt a_stateAt a_tryAt a_path a_memoKey a_memoStamp g_good g_witnessSize g_trialSize g_size b_evCode b_evProcess b_evKind b_evA b_evB b_evResult b_witness b_trial b_list c pr bf E np no nq g hr
  have J := hj_mk (f_present := f_present) (f_must := f_must) (f_pathLength := f_pathLength) (a_expected := a_expected) (a_doneAt := a_doneAt) (a_stateAt := a_stateAt) (a_tryAt := a_tryAt) (a_path := a_path) (g_trialSize := g_trialSize) (g_size := g_size) (b_trial := b_trial) (b_list := b_list) (hj_RR_up hr)
  obtain ⟨⟨h1, h2, h3, h4⟩, h5, h6, h7, ⟨h8, h9⟩, h10⟩ := hr
  have hE := hj_H_E h6
  have h8' := h6.2.1
  refine br_c (fun a => br_t a ⟨rfl, J⟩) (fun a => br_c (fun b => ?_) (fun b => br_f a (hy_callsIn h6 (Nat.le_refl _) (br_f b ⟨rfl, J⟩))))
  obtain ⟨i, hi, rfl⟩ := nI_of a
  have b' := b
  rw [nI_ltI hi (by omega)] at b'
  have hin : vp_in (nI i) 8 := vp_in_nI (by omega) (by omega)
  have ci : (nI i).toNatClampNeg = i := nI_clamp (by omega)
  have Y0 : ∀ {post : Int32 → Prop}, ((v2 < 0 → post (-7)) ∧ (¬ v2 < 0 → ((v2 ≤ 4 → wpY_find (fun r_25 => (((0 ≤ r_25 → (((v2 = 0 → (vp_in r_25 16 ∧ (post (b_evProcess r_25.toNatClampNeg)))) ∧ (¬ v2 = 0 → (((v2 = 1 → (vp_in r_25 16 ∧ (post (b_evKind r_25.toNatClampNeg)))) ∧ (¬ v2 = 1 → (((v2 = 2 → (vp_in r_25 16 ∧ (post (b_evA r_25.toNatClampNeg)))) ∧ (¬ v2 = 2 → (((v2 = 3 → (vp_in r_25 16 ∧ (post (b_evB r_25.toNatClampNeg)))) ∧ (¬ v2 = 3 → (wpY_find (fun r_50 => (((0 ≤ r_50 → (vp_in r_50 16 ∧ (post (b_evResult r_50.toNatClampNeg)))) ∧ (¬ 0 ≤ r_50 → (post (-9)))))) (f_objectKind, nI np, nI no, nI nq, nI E, f_judged, g_good, g_witnessSize, g_trialSize, g_size, b_evCode, b_evProcess, b_evKind, b_evA, b_evB, b_evResult, b_witness, b_trial, b_list) ((2 * nI i) + 1))))))))))))))) ∧ (¬ 0 ≤ r_25 → (post (-7)))))) (f_objectKind, nI np, nI no, nI nq, nI E, f_judged, g_good, g_witnessSize, g_trialSize, g_size, b_evCode, b_evProcess, b_evKind, b_evA, b_evB, b_evResult, b_witness, b_trial, b_list) (2 * nI i)) ∧ (¬ v2 ≤ 4 → post (-7))))) → wpY_field post (f_objectKind, nI np, nI no, nI nq, nI E, f_judged, g_good, g_witnessSize, g_trialSize, g_size, b_evCode, b_evProcess, b_evKind, b_evA, b_evB, b_evResult, b_witness, b_trial, b_list) (nI i) v2 :=
    fun q => br_f a (hy_callsIn h6 (Nat.le_refl _) (br_t b q))
  obtain ⟨j, j1, j2⟩ := hj_call_ex h6.1 E (Nat.le_refl _) b'
  have jn : ∀ l, l < E → c l = 2 * i → l = j := fun l hl e => hj_call_u h6.1 hl j1 (by omega) (by omega)
  obtain ⟨eK, eA, eB, -, -⟩ := h6.2.2.2.1 j i j1 j2
  have eP : a_opProcess i = b_evProcess j := (h7.2.1 j i j1 j2).trans (h6.2.2.1 j j1).2.symm
  have hinj : vp_in (nI j) 16 := vp_in_nI (by omega) (by omega)
  have cj : (nI j).toNatClampNeg = j := nI_clamp (by omega)
  refine br_c (fun d => Y0 (br_t d ⟨rfl, J⟩)) (fun d => ?_)
  refine br_c (fun e => Y0 (br_f d (br_f (by rw [Int32.le_iff_toInt_le]; rw [Int32.lt_iff_toInt_lt] at e; omega) ⟨rfl, J⟩))) (fun e => ?_)
  have e4 : v2 ≤ 4 := by rw [Int32.le_iff_toInt_le]; rw [Int32.lt_iff_toInt_lt] at e; omega
  have Yf : ∀ {post : Int32 → Prop}, ((v2 = 0 → post (b_evProcess j)) ∧ (¬ v2 = 0 → ((v2 = 1 → post (b_evKind j)) ∧ (¬ v2 = 1 → ((v2 = 2 → post (b_evA j)) ∧ (¬ v2 = 2 → ((v2 = 3 → post (b_evB j)) ∧ (¬ v2 = 3 → post (a_opResult i))))))))) → wpY_field post (f_objectKind, nI np, nI no, nI nq, nI E, f_judged, g_good, g_witnessSize, g_trialSize, g_size, b_evCode, b_evProcess, b_evKind, b_evA, b_evB, b_evResult, b_witness, b_trial, b_list) (nI i) v2 := by
    intro post q
    refine Y0 (br_f d (br_t e4 ?_))
    rw [hj_m2]
    refine hy_find h6 (by omega) (fun n => absurd j2 (n j j1)) (fun l hl el _ => ?_)
    have := jn l hl el
    subst this
    refine br_t (nI_pos' (by omega)) ?_
    rw [cj, nI_1]
    refine br_c (fun z => ⟨hinj, q.1 z⟩) (fun z => br_c (fun y => ⟨hinj, (q.2 z).1 y⟩) (fun y => br_c (fun x => ⟨hinj, ((q.2 z).2 y).1 x⟩) (fun x => br_c (fun w => ⟨hinj, (((q.2 z).2 y).2 x).1 w⟩) (fun w => ?_))))
    have pr' := (((q.2 z).2 y).2 x).2 w
    refine hy_find h6 (by omega) (fun n => br_f (by decide) ?_) (fun r hr er _ => br_t (nI_pos' (by omega)) ⟨vp_in_nI (by omega) (by omega), ?_⟩)
    · rw [h7.2.2.2.1 i b' n] at pr'
      exact pr'
    · have cr : (nI r).toNatClampNeg = r := nI_clamp (by omega)
      rw [cr, (h6.2.2.2.2 r i hr er).1]
      exact pr'
  rw [ci]
  refine br_c (fun z => ⟨hin, Yf (br_t z ⟨eP.symm, J⟩)⟩) (fun z => br_c (fun y => ⟨hin, Yf (br_f z (br_t y ⟨eK, J⟩))⟩) (fun y => br_c (fun x => ⟨hin, Yf (br_f z (br_f y (br_t x ⟨eA, J⟩)))⟩) (fun x => br_c (fun w => ⟨hin, Yf (br_f z (br_f y (br_f x (br_t w ⟨eB, J⟩))))⟩) (fun w => br_c (fun s => ⟨hin, Yf (br_f z (br_f y (br_f x (br_f w ⟨rfl, J⟩))))⟩) (fun s => True.intro)))))
end
section
/-! call, giveBack, dropLast -/
def hj_oP (np v1 : Int32) : Prop := ¬ v1 < 0 ∧ v1 < np
def hj_oK (v2 : Int32) : Prop := ¬ v2 < 0 ∧ v2 ≤ 2
def hj_oV (v2 v3 v4 : Int32) : Prop := (¬ v2 = 1 → ¬ v3 < 0 ∧ v3 ≤ 7) ∧ (v2 = 2 → ¬ v4 < 0 ∧ v4 ≤ 7)
theorem hj_one {o : Nat} (ho : o < 31) : (1 : Int32) <<< (nI o &&& 31) = nI (2 ^ o) := by
  have h2 : (2 : Nat) ^ o < 2 ^ 31 := Nat.pow_lt_pow_right (by omega) ho
  have e : (1 : Int32) <<< (nI o &&& 31) = nI (1 * 2 ^ o) := pk_shlN (n := 1) _ o (s_l o (by omega)) (by omega)
  rw [e, Nat.one_mul]
theorem hj_unset {R o : Nat} (ho : o < 31) (h : R.testBit o = false) : nI (R ||| 2 ^ o) &&& (((1 : Int32) <<< (nI o &&& 31)) ^^^ (-1)) = nI R := by
  rw [hj_one ho]
  apply b_ext
  intro i hi
  rw [b_and, b_xor, b_m1 i hi, hj_bt hi, hj_bt hi, hj_bt hi, hj_tb_or, Nat.testBit_two_pow]
  by_cases z : o = i
  · subst z
    rw [h, decide_eq_true rfl]
    rfl
  · rw [decide_eq_false z]
    simp
theorem hj_v7 {x : Int32} (h : ¬ x < 0 ∧ x ≤ 7) : ∃ a : Nat, a < 8 ∧ x = nI a := by
  obtain ⟨j, hj, e⟩ := nI_of2 (M := 7) (n := 7) (by decide) h.1 h.2
  exact ⟨j, by omega, e⟩
section H2
variable {f_processes f_operations f_capacity f_objectKind f_eventTotal f_opTotal f_returnedMask f_judged f_goodEvents f_witnessSize f_finalState f_present f_must f_pathLength : Int32} {f_generation : Int64} {a_events a_opProcess a_opKind a_opA a_opB a_opResult a_opBefore a_openOp a_witness a_witnessResults a_expected a_doneAt a_stateAt a_tryAt a_path : Nat → Int32} {a_memoKey a_memoStamp : Nat → Int64}
variable {g_objectKind g_processes g_operations g_capacity g_events g_judged g_good g_witnessSize g_trialSize g_size : Int32} {b_evCode b_evProcess b_evKind b_evA b_evB b_evResult b_witness b_trial b_list : Nat → Int32}
variable {E : Nat}
theorem hx_addEvent {e : Int32} {post : SX → Prop} (hE : E < 16) (h : post (f_processes, f_operations, f_capacity, f_objectKind, nI (E + 1), f_opTotal, f_returnedMask, 0, f_goodEvents, f_witnessSize, f_finalState, f_present, f_must, f_pathLength, f_generation, upd a_events E e, a_opProcess, a_opKind, a_opA, a_opB, a_opResult, a_opBefore, a_openOp, a_witness, a_witnessResults, a_expected, a_doneAt, a_stateAt, a_tryAt, a_path, a_memoKey, a_memoStamp)) : wpX_addEvent post (f_processes, f_operations, f_capacity, f_objectKind, nI E, f_opTotal, f_returnedMask, f_judged, f_goodEvents, f_witnessSize, f_finalState, f_present, f_must, f_pathLength, f_generation, a_events, a_opProcess, a_opKind, a_opA, a_opB, a_opResult, a_opBefore, a_openOp, a_witness, a_witnessResults, a_expected, a_doneAt, a_stateAt, a_tryAt, a_path, a_memoKey, a_memoStamp) e := by
  have cE : (nI E).toNatClampNeg = E := nI_clamp (by omega)
  unfold wpX_addEvent
  dsimp only
  rw [cE]
  exact ⟨vp_in_nI hE (by omega), nm_e (nm_r (nI_1 E) h)⟩
theorem hy_append {a b r : Int32} {post : SY → Prop} (hE : E < 16) (h : post (g_objectKind, g_processes, g_operations, g_capacity, nI (E + 1), g_judged, g_good, g_witnessSize, g_trialSize, g_size, upd b_evCode E a, upd b_evProcess E b, b_evKind, b_evA, b_evB, upd b_evResult E r, b_witness, b_trial, b_list)) : wpY_append post (g_objectKind, g_processes, g_operations, g_capacity, nI E, g_judged, g_good, g_witnessSize, g_trialSize, g_size, b_evCode, b_evProcess, b_evKind, b_evA, b_evB, b_evResult, b_witness, b_trial, b_list) a b r := by
  have cE : (nI E).toNatClampNeg = E := nI_clamp (by omega)
  have hin : vp_in (nI E) 16 := vp_in_nI hE (by omega)
  unfold wpY_append
  dsimp only
  rw [cE]
  exact ⟨hin, nm_e ⟨hin, nm_e ⟨hin, nm_e (nm_r (nI_1 E) h)⟩⟩⟩
theorem hx_callRef {v1 v2 v3 v4 : Int32} {post : Int32 → Prop} (h1 : ¬ hj_oP f_processes v1 → post (-1)) (h2 : hj_oP f_processes v1 → ¬ hj_oK v2 → post (-2)) (h3 : hj_oP f_processes v1 → hj_oK v2 → ¬ hj_oV v2 v3 v4 → post (-3)) (h4 : hj_oP f_processes v1 → hj_oK v2 → hj_oV v2 v3 v4 → wX_callRefusal_64 post v1 f_processes f_operations f_capacity f_objectKind f_eventTotal f_opTotal f_returnedMask f_judged f_goodEvents f_witnessSize f_finalState f_present f_must f_pathLength f_generation a_events a_opProcess a_opKind a_opA a_opB a_opResult a_opBefore a_openOp a_witness a_witnessResults a_expected a_doneAt a_stateAt a_tryAt a_path a_memoKey a_memoStamp) :
    wpX_callRefusal post (f_processes, f_operations, f_capacity, f_objectKind, f_eventTotal, f_opTotal, f_returnedMask, f_judged, f_goodEvents, f_witnessSize, f_finalState, f_present, f_must, f_pathLength, f_generation, a_events, a_opProcess, a_opKind, a_opA, a_opB, a_opResult, a_opBefore, a_openOp, a_witness, a_witnessResults, a_expected, a_doneAt, a_stateAt, a_tryAt, a_path, a_memoKey, a_memoStamp) v1 v2 v3 v4 := by
  unfold wpX_callRefusal
  dsimp only
  refine br_c (fun a => h1 (fun z => z.1 a)) (fun a => br_c (fun b => ?_) (fun b => h1 (fun z => b z.2)))
  have p : hj_oP f_processes v1 := ⟨a, b⟩
  refine br_c (fun d => h2 p (fun z => z.1 d)) (fun d => br_c (fun e => ?_) (fun e => h2 p (fun z => e z.2)))
  have q : hj_oK v2 := ⟨d, e⟩
  have j44 : (¬ v2 = 1 → ¬ v3 < 0 ∧ v3 ≤ 7) → wX_callRefusal_44 post v1 v2 v4 f_processes f_operations f_capacity f_objectKind f_eventTotal f_opTotal f_returnedMask f_judged f_goodEvents f_witnessSize f_finalState f_present f_must f_pathLength f_generation a_events a_opProcess a_opKind a_opA a_opB a_opResult a_opBefore a_openOp a_witness a_witnessResults a_expected a_doneAt a_stateAt a_tryAt a_path a_memoKey a_memoStamp := fun c => by
    unfold wX_callRefusal_44
    refine br_c (fun f => br_c (fun x => h3 p q (fun z => (z.2 f).1 x)) (fun x => br_c (fun y => h4 p q ⟨c, fun _ => ⟨x, y⟩⟩) (fun y => h3 p q (fun z => y (z.2 f).2)))) (fun f => h4 p q ⟨c, fun z => absurd z f⟩)
  refine br_c (fun f => j44 (fun z => absurd f z)) (fun f => br_c (fun x => h3 p q (fun z => (z.1 f).1 x)) (fun x => br_c (fun y => j44 (fun _ => ⟨x, y⟩)) (fun y => h3 p q (fun z => y (z.1 f).2))))
theorem hy_call {v1 v2 v3 v4 : Int32} {post : Int32 → SY → Prop} (h1 : ¬ hj_oP g_processes v1 → post (-1) (g_objectKind, g_processes, g_operations, g_capacity, g_events, g_judged, g_good, g_witnessSize, g_trialSize, g_size, b_evCode, b_evProcess, b_evKind, b_evA, b_evB, b_evResult, b_witness, b_trial, b_list)) (h2 : hj_oP g_processes v1 → ¬ hj_oK v2 → post (-2) (g_objectKind, g_processes, g_operations, g_capacity, g_events, g_judged, g_good, g_witnessSize, g_trialSize, g_size, b_evCode, b_evProcess, b_evKind, b_evA, b_evB, b_evResult, b_witness, b_trial, b_list)) (h3 : hj_oP g_processes v1 → hj_oK v2 → ¬ hj_oV v2 v3 v4 → post (-3) (g_objectKind, g_processes, g_operations, g_capacity, g_events, g_judged, g_good, g_witnessSize, g_trialSize, g_size, b_evCode, b_evProcess, b_evKind, b_evA, b_evB, b_evResult, b_witness, b_trial, b_list)) (h4 : hj_oP g_processes v1 → hj_oK v2 → hj_oV v2 v3 v4 → wY_call_73 post v1 v2 v3 v4 g_objectKind g_processes g_operations g_capacity g_events g_judged g_good g_witnessSize g_trialSize g_size b_evCode b_evProcess b_evKind b_evA b_evB b_evResult b_witness b_trial b_list) :
    wpY_call post (g_objectKind, g_processes, g_operations, g_capacity, g_events, g_judged, g_good, g_witnessSize, g_trialSize, g_size, b_evCode, b_evProcess, b_evKind, b_evA, b_evB, b_evResult, b_witness, b_trial, b_list) v1 v2 v3 v4 := by
  unfold wpY_call
  dsimp only
  refine br_c (fun a => h1 (fun z => z.1 a)) (fun a => br_c (fun b => ?_) (fun b => h1 (fun z => b z.2)))
  have p : hj_oP g_processes v1 := ⟨a, b⟩
  refine br_c (fun d => h2 p (fun z => z.1 d)) (fun d => br_c (fun e => ?_) (fun e => h2 p (fun z => e z.2)))
  have q : hj_oK v2 := ⟨d, e⟩
  obtain ⟨j, hj, ej⟩ := nI_of2 (M := 2) (n := 2) (by decide) d e
  have k3 := hj_k3 j (by omega)
  rw [← ej] at k3
  rcases k3 with f | f | f
  · have n1 : ¬ v2 = 1 := by rw [f]; decide
    have n2 : ¬ v2 = 2 := by rw [f]; decide
    refine br_t f (br_c (fun x => h3 p q (fun z => (z.1 n1).1 x)) (fun x => br_c (fun y => ?_) (fun y => h3 p q (fun z => y (z.1 n1).2))))
    exact br_f n2 (h4 p q ⟨fun _ => ⟨x, y⟩, fun z => absurd z n2⟩)
  · have n0 : ¬ v2 = 0 := by rw [f]; decide
    have n2 : ¬ v2 = 2 := by rw [f]; decide
    exact br_f n0 (br_f n2 (h4 p q ⟨fun z => absurd f z, fun z => absurd z n2⟩))
  · have n0 : ¬ v2 = 0 := by rw [f]; decide
    have n1 : ¬ v2 = 1 := by rw [f]; decide
    refine br_f n0 (br_t f (br_c (fun x => h3 p q (fun z => (z.1 n1).1 x)) (fun x => br_c (fun y => h3 p q (fun z => ?_)) (fun y => ?_))))
    · have := (z.1 n1).2
      rw [Int32.le_iff_toInt_le] at this
      rw [Int32.lt_iff_toInt_lt] at y
      omega
    · have y7 : v3 ≤ 7 := by
        rw [Int32.le_iff_toInt_le]
        rw [Int32.lt_iff_toInt_lt] at y
        omega
      exact br_c (fun s => h3 p q (fun z => (z.2 f).1 s)) (fun s => br_c (fun t => h4 p q ⟨fun _ => ⟨x, y7⟩, fun _ => ⟨s, t⟩⟩) (fun t => h3 p q (fun z => t (z.2 f).2)))
end H2
theorem i_vc_call {k : Nat} {u : SX} {v : SY} (I : i_Rel k u v) (hk : k + 5 ≤ 2564) (v1 : Int32) (v2 : Int32) (v3 : Int32) (v4 : Int32) : wpX_call (fun r u' => wpY_call (fun r' v' => r' = r ∧ i_Rel (k + 5) u' v') v v1 v2 v3 v4) u v1 v2 v3 v4 := by
  refine hj_el (Z := fun u v => wpX_call (fun r u' => wpY_call (fun r' v' => r' = r ∧ i_Rel (k + 5) u' v') v v1 v2 v3 v4) u v1 v2 v3 v4) ?_ I
  intro f_objectKind f_judged f_goodEvents f_witnessSize f_finalState f_present f_must f_pathLength a_events a_opProcess a_opKind a_opA a_opB a_opResult a_opBefore a_openOp a_witness a_witnessResults a_expected a_doneAt a_stateAt a_tryAt a_path a_memoKey a_memoStamp g_good g_witnessSize g_trialSize g_size b_evCode b_evProcess b_evKind b_evA b_evB b_evResult b_witness b_trial b_list c pr bf E np no nq g hr
  have J := hj_mk (f_present := f_present) (f_must := f_must) (f_pathLength := f_pathLength) (a_expected := a_expected) (a_doneAt := a_doneAt) (a_stateAt := a_stateAt) (a_tryAt := a_tryAt) (a_path := a_path) (g_trialSize := g_trialSize) (g_size := g_size) (b_trial := b_trial) (b_list := b_list) (hj_RR_up hr)
  obtain ⟨⟨h1, h2, h3, h4⟩, h5, h6, h7, ⟨h8, h9⟩, h10⟩ := hr
  have hE := hj_H_E h6
  unfold wpX_call
  dsimp only
  refine hx_callRef (fun n => br_f (by decide) ?_) (fun p n => br_f (by decide) ?_) (fun p q n => br_f (by decide) ?_) (fun p q w => ?_)
  · exact hy_call (fun _ => ⟨rfl, J⟩) (fun z => absurd z n) (fun z => absurd z n) (fun z => absurd z n)
  · exact hy_call (fun z => absurd p z) (fun _ _ => ⟨rfl, J⟩) (fun _ z => absurd z n) (fun _ z => absurd z n)
  · exact hy_call (fun z => absurd p z) (fun _ z => absurd q z) (fun _ _ _ => ⟨rfl, J⟩) (fun _ _ z => absurd z n)
  have Y1 : ∀ {post : Int32 → SY → Prop}, wY_call_73 post v1 v2 v3 v4 f_objectKind (nI np) (nI no) (nI nq) (nI E) f_judged g_good g_witnessSize g_trialSize g_size b_evCode b_evProcess b_evKind b_evA b_evB b_evResult b_witness b_trial b_list → wpY_call post (f_objectKind, nI np, nI no, nI nq, nI E, f_judged, g_good, g_witnessSize, g_trialSize, g_size, b_evCode, b_evProcess, b_evKind, b_evA, b_evB, b_evResult, b_witness, b_trial, b_list) v1 v2 v3 v4 := fun h => hy_call (fun z => absurd p z) (fun _ z => absurd q z) (fun _ _ z => absurd w z) (fun _ _ _ => h)
  obtain ⟨x, hx, ex⟩ := nI_of p.1
  have p2 := p.2
  rw [ex, nI_ltI hx (by omega)] at p2
  subst ex
  have hin4 : vp_in (nI x) 4 := vp_in_nI (by omega) (by omega)
  have cx : (nI x).toNatClampNeg = x := nI_clamp (by omega)
  have cT : (nI (hj_cn c E)).toNatClampNeg = hj_cn c E := nI_clamp (by omega)
  have cE : (nI E).toNatClampNeg = E := nI_clamp (by omega)
  unfold wX_callRefusal_64
  rw [cx, h7.2.2.2.2 x (by omega)]
  refine ⟨hin4, ?_⟩
  cases ho : hj_op c pr E x with
  | succ o =>
    have hlt := hj_op_lt h6.1 ho
    refine br_f (nI_pos (n := o) (by omega)) (br_f (by decide) (Y1 ?_))
    refine hy_openOf h6 (by omega) ?_
    rw [ho]
    exact br_f (nI_pos (n := o) (by omega)) ⟨rfl, J⟩
  | zero =>
    refine br_t (by decide) (br_c (fun y => ?_) (fun y => ?_))
    rotate_left
    · refine br_f (by decide) (Y1 (hy_openOf h6 (by omega) ?_))
      rw [ho]
      exact br_t (by decide) (hy_callsIn h6 (Nat.le_refl _) (br_f y ⟨rfl, J⟩))
    have y' := y
    rw [nI_ltI (by omega) (by omega)] at y'
    have hE2 := hj_E_le h6.1
    have hE16 : E < 16 := by omega
    have hinT : vp_in (nI (hj_cn c E)) 8 := vp_in_nI (by omega) (by omega)
    have hinE : vp_in (nI E) 16 := vp_in_nI hE16 (by omega)
    have k3 : v2 = 0 ∨ v2 = 1 ∨ v2 = 2 := by
      obtain ⟨j, hj, ej⟩ := nI_of2 (M := 2) (n := 2) (by decide) q.1 q.2
      rw [ej]
      exact hj_k3 j (by omega)
    have z8 : ∃ a : Nat, a < 8 ∧ (0 : Int32) = nI a := ⟨0, by omega, rfl⟩
    have fin : ∀ aa bb : Int32, (∃ a : Nat, a < 8 ∧ aa = nI a) → (∃ a : Nat, a < 8 ∧ bb = nI a) → i_Rel (k + 5) (nI np, nI no, nI nq, f_objectKind, nI (E + 1), nI (hj_cn c E + 1), nI (hj_rm c E), 0, f_goodEvents, f_witnessSize, f_finalState, f_present, f_must, f_pathLength, lN g, upd a_events E (nI (2 * hj_cn c E)), upd a_opProcess (hj_cn c E) (nI x), upd a_opKind (hj_cn c E) v2, upd a_opA (hj_cn c E) aa, upd a_opB (hj_cn c E) bb, upd a_opResult (hj_cn c E) (-9), upd a_opBefore (hj_cn c E) (nI (hj_rm c E)), upd a_openOp x (nI (hj_cn c E)), a_witness, a_witnessResults, a_expected, a_doneAt, a_stateAt, a_tryAt, a_path, a_memoKey, a_memoStamp)
        (f_objectKind, nI np, nI no, nI nq, nI (E + 1), 0, g_good, g_witnessSize, g_trialSize, g_size, upd b_evCode E (nI (2 * hj_cn c E)), upd b_evProcess E (nI x), upd b_evKind E v2, upd b_evA E aa, upd b_evB E bb, upd b_evResult E (-9), b_witness, b_trial, b_list) := by
      intro aa bb ha hb
      have K1 := hj_H_call (q := x) (kk := v2) (aa := aa) (bb := bb) h6 (by omega) ho (by omega) k3 ha hb
      have K2 := hj_HX_call (q := x) h6.1 h7
      have K3 := hj_mk (k := k + 5) (c := hj_ap c E (2 * hj_cn c E)) (pr := hj_ap pr E x) (bf := hj_ap bf (hj_cn c E) (hj_rm c E)) (E := E + 1) (np := np) (no := no) (nq := nq) (g := g) (f_present := f_present) (f_must := f_must) (f_pathLength := f_pathLength) (f_goodEvents := f_goodEvents) (f_witnessSize := f_witnessSize) (f_finalState := f_finalState) (a_expected := a_expected) (a_doneAt := a_doneAt) (a_stateAt := a_stateAt) (a_tryAt := a_tryAt) (a_path := a_path) (a_witness := a_witness) (a_witnessResults := a_witnessResults) (g_trialSize := g_trialSize) (g_size := g_size) (g_good := g_good) (g_witnessSize := g_witnessSize) (b_trial := b_trial) (b_list := b_list) (b_witness := b_witness) (f_judged := 0) ⟨⟨h1, h2, h3, by rw [hj_cn_call]; omega⟩, h5, K1, K2, ⟨by omega, h9⟩, Or.inl rfl⟩
      rw [hj_cn_call, hj_rm_call] at K3
      exact K3
    refine br_t (by decide) (nm_r (nI_1 _) ?_)
    rw [cT]
    refine ⟨hinT, nm_e ⟨hinT, nm_e ?_⟩⟩
    have Xj : ∀ aa bb : Int32, (∃ a : Nat, a < 8 ∧ aa = nI a) → (∃ a : Nat, a < 8 ∧ bb = nI a) → (∀ {post : Int32 → SY → Prop}, post (nI (hj_cn c E)) (f_objectKind, nI np, nI no, nI nq, nI (E + 1), 0, g_good, g_witnessSize, g_trialSize, g_size, upd b_evCode E (nI (2 * hj_cn c E)), upd b_evProcess E (nI x), upd b_evKind E v2, upd b_evA E aa, upd b_evB E bb, upd b_evResult E (-9), b_witness, b_trial, b_list) → wpY_call post (f_objectKind, nI np, nI no, nI nq, nI E, f_judged, g_good, g_witnessSize, g_trialSize, g_size, b_evCode, b_evProcess, b_evKind, b_evA, b_evB, b_evResult, b_witness, b_trial, b_list) (nI x) v2 v3 v4) →
        wX_call_85 (fun r u' => wpY_call (fun r' v' => r' = r ∧ i_Rel (k + 5) u' v') (f_objectKind, nI np, nI no, nI nq, nI E, f_judged, g_good, g_witnessSize, g_trialSize, g_size, b_evCode, b_evProcess, b_evKind, b_evA, b_evB, b_evResult, b_witness, b_trial, b_list) (nI x) v2 v3 v4) (nI x) (nI (hj_cn c E)) bb (nI (hj_cn c E)) (nI np) (nI no) (nI nq) f_objectKind (nI E) (nI (hj_cn c E + 1)) (nI (hj_rm c E)) f_judged f_goodEvents f_witnessSize f_finalState f_present f_must f_pathLength (lN g) a_events (upd a_opProcess (hj_cn c E) (nI x)) (upd a_opKind (hj_cn c E) v2) (upd a_opA (hj_cn c E) aa) a_opB a_opResult a_opBefore a_openOp a_witness a_witnessResults a_expected a_doneAt a_stateAt a_tryAt a_path a_memoKey a_memoStamp := by
      intro aa bb ha hb hY
      unfold wX_call_85
      rw [cT, cx, hj_m2]
      refine ⟨hinT, nm_e ⟨hinT, nm_e ⟨hinT, nm_e ⟨hin4, nm_e (hx_addEvent hE16 (hY ⟨rfl, fin aa bb ha hb⟩))⟩⟩⟩⟩
    have Yj : ∀ aa bb : Int32, (∀ {post : Int32 → SY → Prop}, wY_call_154 post (nI x) (nI (hj_cn c E)) bb (nI E) f_objectKind (nI np) (nI no) (nI nq) (nI E) f_judged g_good g_witnessSize g_trialSize g_size b_evCode b_evProcess (upd b_evKind E v2) (upd b_evA E aa) b_evB b_evResult b_witness b_trial b_list → wpY_call post (f_objectKind, nI np, nI no, nI nq, nI E, f_judged, g_good, g_witnessSize, g_trialSize, g_size, b_evCode, b_evProcess, b_evKind, b_evA, b_evB, b_evResult, b_witness, b_trial, b_list) (nI x) v2 v3 v4) →
        (∀ {post : Int32 → SY → Prop}, post (nI (hj_cn c E)) (f_objectKind, nI np, nI no, nI nq, nI (E + 1), 0, g_good, g_witnessSize, g_trialSize, g_size, upd b_evCode E (nI (2 * hj_cn c E)), upd b_evProcess E (nI x), upd b_evKind E v2, upd b_evA E aa, upd b_evB E bb, upd b_evResult E (-9), b_witness, b_trial, b_list) → wpY_call post (f_objectKind, nI np, nI no, nI nq, nI E, f_judged, g_good, g_witnessSize, g_trialSize, g_size, b_evCode, b_evProcess, b_evKind, b_evA, b_evB, b_evResult, b_witness, b_trial, b_list) (nI x) v2 v3 v4) := by
      intro aa bb hY post hp
      refine hY ?_
      unfold wY_call_154
      rw [cE, hj_m2]
      exact ⟨hinE, nm_e (hy_append hE16 hp)⟩
    have Y2 : ∀ {post : Int32 → SY → Prop}, ((v2 = 1 → (wY_call_134 post (nI x) v2 v4 (nI (hj_cn c E)) 0 (nI E) f_objectKind (nI np) (nI no) (nI nq) (nI E) f_judged g_good g_witnessSize g_trialSize g_size b_evCode b_evProcess (upd b_evKind E v2) b_evA b_evB b_evResult b_witness b_trial b_list)) ∧ (¬ v2 = 1 → (wY_call_134 post (nI x) v2 v4 (nI (hj_cn c E)) v3 (nI E) f_objectKind (nI np) (nI no) (nI nq) (nI E) f_judged g_good g_witnessSize g_trialSize g_size b_evCode b_evProcess (upd b_evKind E v2) b_evA b_evB b_evResult b_witness b_trial b_list))) → wpY_call post (f_objectKind, nI np, nI no, nI nq, nI E, f_judged, g_good, g_witnessSize, g_trialSize, g_size, b_evCode, b_evProcess, b_evKind, b_evA, b_evB, b_evResult, b_witness, b_trial, b_list) (nI x) v2 v3 v4 := by
      intro post hp
      refine Y1 (hy_openOf h6 (by omega) ?_)
      rw [ho]
      refine br_t (by decide) (hy_callsIn h6 (Nat.le_refl _) (br_t y ?_))
      rw [cE]
      exact ⟨hinE, nm_e hp⟩
    refine br_c (fun f => ?_) (fun f => ?_)
    · have n2 : ¬ v2 = 2 := by rw [f]; decide
      unfold wX_call_67
      rw [cT]
      refine ⟨hinT, nm_e (br_f n2 (Xj 0 0 z8 z8 (Yj 0 0 (fun hp => Y2 (br_t f ?_)))))⟩
      unfold wY_call_134
      rw [cE]
      exact ⟨hinE, nm_e (br_f n2 hp)⟩
    · have a3 := hj_v7 (w.1 f)
      unfold wX_call_67
      rw [cT]
      refine ⟨hinT, nm_e (br_c (fun n2 => ?_) (fun n2 => ?_))⟩
      · refine Xj v3 v4 a3 (hj_v7 (w.2 n2)) (Yj v3 v4 (fun hp => Y2 (br_f f ?_)))
        unfold wY_call_134
        rw [cE]
        exact ⟨hinE, nm_e (br_t n2 hp)⟩
      · refine Xj v3 0 a3 z8 (Yj v3 0 (fun hp => Y2 (br_f f ?_)))
        unfold wY_call_134
        rw [cE]
        exact ⟨hinE, nm_e (br_f n2 hp)⟩
theorem i_vc_giveBack {k : Nat} {u : SX} {v : SY} (I : i_Rel k u v) (hk : k + 5 ≤ 2564) (v1 : Int32) (v2 : Int32) : wpX_giveBack (fun r u' => wpY_giveBack (fun r' v' => r' = r ∧ i_Rel (k + 5) u' v') v v1 v2) u v1 v2 := by
  refine hj_el (Z := fun u v => wpX_giveBack (fun r u' => wpY_giveBack (fun r' v' => r' = r ∧ i_Rel (k + 5) u' v') v v1 v2) u v1 v2) ?_ I
  intro f_objectKind f_judged f_goodEvents f_witnessSize f_finalState f_present f_must f_pathLength a_events a_opProcess a_opKind a_opA a_opB a_opResult a_opBefore a_openOp a_witness a_witnessResults a_expected a_doneAt a_stateAt a_tryAt a_path a_memoKey a_memoStamp g_good g_witnessSize g_trialSize g_size b_evCode b_evProcess b_evKind b_evA b_evB b_evResult b_witness b_trial b_list c pr bf E np no nq g hr
  have J := hj_mk (f_present := f_present) (f_must := f_must) (f_pathLength := f_pathLength) (a_expected := a_expected) (a_doneAt := a_doneAt) (a_stateAt := a_stateAt) (a_tryAt := a_tryAt) (a_path := a_path) (g_trialSize := g_trialSize) (g_size := g_size) (b_trial := b_trial) (b_list := b_list) (hj_RR_up hr)
  obtain ⟨⟨h1, h2, h3, h4⟩, h5, h6, h7, ⟨h8, h9⟩, h10⟩ := hr
  have hE := hj_H_E h6
  unfold wpX_giveBack wpX_returnRefusal
  dsimp only
  refine br_c (fun a => br_f (by decide) (br_t a ⟨rfl, J⟩)) (fun a => br_c (fun b => ?_) (fun b => br_f (by decide) (br_f a (br_f b ⟨rfl, J⟩))))
  refine br_c (fun d => br_f (by decide) (br_f a (br_t b (br_t d ⟨rfl, J⟩)))) (fun d => br_c (fun e => ?_) (fun e => br_f (by decide) (br_f a (br_t b (br_f d (br_f e ⟨rfl, J⟩))))))
  obtain ⟨q, hq, rfl⟩ := nI_of a
  obtain ⟨r, hr, rfl⟩ := nI_of2 (M := 8) (n := 8) (by decide) d e
  have b' := b
  rw [nI_ltI hq (by omega)] at b'
  have hin4 : vp_in (nI q) 4 := vp_in_nI (by omega) (by omega)
  have cq : (nI q).toNatClampNeg = q := nI_clamp (by omega)
  rw [cq, h7.2.2.2.2 q (by omega)]
  refine ⟨hin4, ?_⟩
  cases ho : hj_op c pr E q with
  | zero =>
    refine br_f (by decide) (br_f (by decide) (br_f a (br_t b (br_f d (br_t e (hy_openOf h6 (by omega) ?_))))))
    rw [ho]
    exact br_f (by decide) ⟨rfl, J⟩
  | succ o =>
    have hlt := hj_op_lt h6.1 ho
    have hE2 := hj_E_lt h6.1 (show q < 4 by omega) ho
    have hE16 : E < 16 := by omega
    have co : (nI o).toNatClampNeg = o := nI_clamp (by omega)
    have hin8 : vp_in (nI o) 8 := vp_in_nI (by omega) (by omega)
    refine br_t (nI_pos' (n := o) (by omega)) (br_t (by decide) ⟨hin4, nm_r (e' := nI o) rfl ⟨hin4, nm_e ?_⟩⟩)
    rw [co, hj_m2, nI_1]
    refine ⟨hin8, nm_e (nm_r (hj_set (by omega)) (hx_addEvent hE16 ?_))⟩
    refine br_f a (br_t b (br_f d (br_t e (hy_openOf h6 (by omega) ?_))))
    rw [ho]
    refine br_t (nI_pos' (n := o) (by omega)) ?_
    show wpY_append _ _ (2 * nI o + 1) _ _
    rw [hj_m2, nI_1]
    refine hy_append hE16 ⟨rfl, ?_⟩
    have K1 := hj_H_ret (q := q) (o := o) (r := r) h6 (by omega) ho hr
    have K2 := hj_HX_ret (q := q) (o := o) (r := r) h6.1 h7
    have K3 := hj_mk (k := k + 5) (c := hj_ap c E (2 * o + 1)) (pr := hj_ap pr E q) (bf := bf) (E := E + 1) (np := np) (no := no) (nq := nq) (g := g) (f_present := f_present) (f_must := f_must) (f_pathLength := f_pathLength) (f_goodEvents := f_goodEvents) (f_witnessSize := f_witnessSize) (f_finalState := f_finalState) (a_expected := a_expected) (a_doneAt := a_doneAt) (a_stateAt := a_stateAt) (a_tryAt := a_tryAt) (a_path := a_path) (a_witness := a_witness) (a_witnessResults := a_witnessResults) (g_trialSize := g_trialSize) (g_size := g_size) (g_good := g_good) (g_witnessSize := g_witnessSize) (b_trial := b_trial) (b_list := b_list) (b_witness := b_witness) (f_judged := 0) ⟨⟨h1, h2, h3, by rw [hj_cn_ret]; omega⟩, h5, K1, K2, ⟨by omega, h9⟩, Or.inl rfl⟩
    rw [hj_cn_ret, hj_rm_ret] at K3
    exact K3
theorem i_vc_dropLast {k : Nat} {u : SX} {v : SY} (I : i_Rel k u v) (hk : k + 5 ≤ 2564) : wpX_dropLast (fun r u' => wpY_dropLast (fun r' v' => r' = r ∧ i_Rel (k + 5) u' v') v) u := by
  refine hj_el (Z := fun u v => wpX_dropLast (fun r u' => wpY_dropLast (fun r' v' => r' = r ∧ i_Rel (k + 5) u' v') v) u) ?_ I
  intro f_objectKind f_judged f_goodEvents f_witnessSize f_finalState f_present f_must f_pathLength a_events a_opProcess a_opKind a_opA a_opB a_opResult a_opBefore a_openOp a_witness a_witnessResults a_expected a_doneAt a_stateAt a_tryAt a_path a_memoKey a_memoStamp g_good g_witnessSize g_trialSize g_size b_evCode b_evProcess b_evKind b_evA b_evB b_evResult b_witness b_trial b_list c pr bf E np no nq g hr
  have J := hj_mk (f_present := f_present) (f_must := f_must) (f_pathLength := f_pathLength) (a_expected := a_expected) (a_doneAt := a_doneAt) (a_stateAt := a_stateAt) (a_tryAt := a_tryAt) (a_path := a_path) (g_trialSize := g_trialSize) (g_size := g_size) (b_trial := b_trial) (b_list := b_list) (hj_RR_up hr)
  obtain ⟨⟨h1, h2, h3, h4⟩, h5, h6, h7, ⟨h8, h9⟩, h10⟩ := hr
  have hE := hj_H_E h6
  unfold wpX_dropLast
  dsimp only
  cases E with
  | zero => exact br_t nI_0 (br_t nI_0 ⟨rfl, J⟩)
  | succ E =>
    have Y1 : ∀ {post : Int32 → SY → Prop}, post (nI E) (f_objectKind, nI np, nI no, nI nq, nI E, 0, g_good, g_witnessSize, g_trialSize, g_size, b_evCode, b_evProcess, b_evKind, b_evA, b_evB, b_evResult, b_witness, b_trial, b_list) → wpY_dropLast post (f_objectKind, nI np, nI no, nI nq, nI (E + 1), f_judged, g_good, g_witnessSize, g_trialSize, g_size, b_evCode, b_evProcess, b_evKind, b_evA, b_evB, b_evResult, b_witness, b_trial, b_list) := fun hp => br_f (nI_ne0 (by omega) (by omega)) (nm_r (nI_pred E) hp)
    refine br_f (nI_ne0 (by omega) (by omega)) (nm_r (nI_pred E) ?_)
    have cE : (nI E).toNatClampNeg = E := nI_clamp (by omega)
    have h16 := hj_H_c h6 (show E < E + 1 by omega)
    have w := h6.1
    have w4 := (w E (by omega)).1
    have cp : (nI (pr E)).toNatClampNeg = pr E := nI_clamp (by omega)
    have co : (nI (c E / 2)).toNatClampNeg = c E / 2 := nI_clamp (by omega)
    have hin8 : vp_in (nI (c E / 2)) 8 := vp_in_nI (by omega) (by omega)
    have hin4 : vp_in (nI (pr E)) 4 := vp_in_nI (by omega) (by omega)
    have es : nI (c E) >>> ((1 : Int32) &&& 31) = nI (c E / 2) := pk_shrN (by omega) _ 1 (by decide)
    have ea : nI (c E) &&& 1 = nI (c E % 2) := pk_andN (by omega) 1 (by decide)
    rw [cE, h7.1 E (by omega)]
    refine ⟨vp_in_nI (by omega) (by omega), nm_e (nm_r es ?_)⟩
    rw [ea, co]
    have hm := hj_cn_l (c := c) (show E ≤ E + 1 by omega)
    by_cases z : c E % 2 = 0
    · have eP := h7.2.1 E (c E / 2) (by omega) (by omega)
      have en := hj_cn_e (c := c) (i := E) z
      have er := hj_rm_e (c := c) (i := E) z
      rw [eP, cp, en, er]
      refine br_t (by rw [z]; rfl) (nm_r (nI_pred _) ⟨hin8, hin4, nm_e (Y1 ⟨rfl, ?_⟩)⟩)
      exact hj_mk (k := k + 5) (c := c) (pr := pr) (bf := bf) (E := E) (np := np) (no := no) (nq := nq) (g := g) (f_present := f_present) (f_must := f_must) (f_pathLength := f_pathLength) (f_goodEvents := f_goodEvents) (f_witnessSize := f_witnessSize) (f_finalState := f_finalState) (a_expected := a_expected) (a_doneAt := a_doneAt) (a_stateAt := a_stateAt) (a_tryAt := a_tryAt) (a_path := a_path) (a_witness := a_witness) (a_witnessResults := a_witnessResults) (g_trialSize := g_trialSize) (g_size := g_size) (g_good := g_good) (g_witnessSize := g_witnessSize) (b_trial := b_trial) (b_list := b_list) (b_witness := b_witness) (f_judged := 0) ⟨⟨h1, h2, h3, by omega⟩, h5, hj_H_drop h6, hj_HX_dropc w h7 z, ⟨by omega, h9⟩, Or.inl rfl⟩
    · obtain ⟨l, l1, l2, l3⟩ := hj_ret_call w (show E < E + 1 by omega) (o := c E / 2) (by omega)
      have eP := h7.2.1 l (c E / 2) (by omega) l2
      rw [l3] at eP
      have en := hj_cn_o (c := c) (i := E) (by omega)
      have er := hj_rm_o (c := c) (i := E) (by omega)
      have nr : ∀ i, i < E → c i ≠ 2 * (c E / 2) + 1 := fun i hi e => by
        have := hj_ret_u w (show i < E + 1 by omega) (show E < E + 1 by omega) e (by omega)
        omega
      have nb : (hj_rm c E).testBit (c E / 2) = false := by
        cases y : (hj_rm c E).testBit (c E / 2)
        · rfl
        · obtain ⟨j, j1, j2⟩ := (hj_rm_iff E).mp y
          exact absurd j2 (nr j j1)
      rw [eP, cp, en, er]
      refine br_f (nI_ne0 (by omega) (by omega)) ⟨hin8, hin4, nm_e ⟨hin8, nm_e (nm_r (hj_unset (by omega) nb) (Y1 ⟨rfl, ?_⟩))⟩⟩
      exact hj_mk (k := k + 5) (c := c) (pr := pr) (bf := bf) (E := E) (np := np) (no := no) (nq := nq) (g := g) (f_present := f_present) (f_must := f_must) (f_pathLength := f_pathLength) (f_goodEvents := f_goodEvents) (f_witnessSize := f_witnessSize) (f_finalState := f_finalState) (a_expected := a_expected) (a_doneAt := a_doneAt) (a_stateAt := a_stateAt) (a_tryAt := a_tryAt) (a_path := a_path) (a_witness := a_witness) (a_witnessResults := a_witnessResults) (g_trialSize := g_trialSize) (g_size := g_size) (g_good := g_good) (g_witnessSize := g_witnessSize) (b_trial := b_trial) (b_list := b_list) (b_witness := b_witness) (f_judged := 0) ⟨⟨h1, h2, h3, by omega⟩, h5, hj_H_rs (hj_H_drop h6) nr, hj_HX_dropr w h7 (by omega), ⟨by omega, h9⟩, Or.inl rfl⟩
end
section
/-! the judgement as mathematics, and X's judge -/
def hj_Fk (c bf : Nat → Nat) (rs kd oa ob : Nat → Int32) (K Q : Int32) (j : Nat) : Prop := hj_Fl (hj_Can (hj_cn c j) bf (hj_ex c j rs) (hj_R K Q kd oa)) (hj_rm c j) (hj_N K Q kd oa ob) 0 (hj_s0 K)
def hj_Lk (c bf : Nat → Nat) (rs kd oa ob : Nat → Int32) (K Q : Int32) (j : Nat) (p : Nat → Nat) (d : Nat) : Prop := hj_Ls (hj_Can (hj_cn c j) bf (hj_ex c j rs) (hj_R K Q kd oa)) (hj_rm c j) (hj_N K Q kd oa ob) (hj_s0 K) p d
def hj_JS (c bf : Nat → Nat) (rs kd oa ob : Nat → Int32) (K Q : Int32) (L gd : Nat) (p : Nat → Nat) (d : Nat) : Prop :=
  gd ≤ L ∧ hj_Lk c bf rs kd oa ob K Q gd p d ∧ (∀ j, j ≤ gd → ¬ hj_Fk c bf rs kd oa ob K Q j) ∧ (gd < L → hj_Fk c bf rs kd oa ob K Q (gd + 1))
section JM
variable {c pr bf p p' : Nat → Nat} {rs kd oa ob vC vP vK vA vB vR : Nat → Int32} {K Q : Int32} {j d d' E L gd gd' : Nat}
theorem hj_Lk_nF (h : hj_Lk c bf rs kd oa ob K Q j p d) : ¬ hj_Fk c bf rs kd oa ob K Q j := hj_Ls_nf h d 0 (by omega)
theorem hj_Lk_0 : hj_Lk c bf rs kd oa ob K Q 0 p 0 := ⟨fun i hi => by omega, fun a ha => absurd ha (by rw [show hj_rm c 0 = 0 from rfl, Nat.zero_testBit]; decide)⟩
theorem hj_Lk_call (h : hj_H c pr E vC vP vK vA vB vR kd oa ob rs bf) (hj : j < E) (e : c j % 2 = 0) (k : hj_Lk c bf rs kd oa ob K Q j p d) : hj_Lk c bf rs kd oa ob K Q (j + 1) p d := by
  have w := ((h.1 j hj).2.1 e).1
  have hb : bf (hj_cn c j) = hj_rm c j := (h.2.2.2.1 j (hj_cn c j) hj (by omega)).2.2.2.1
  have he : hj_ex c (j + 1) rs = hj_ex c j rs := by
    funext o
    unfold hj_ex
    rw [hj_rm_e e]
  unfold hj_Lk at k ⊢
  obtain ⟨a, b⟩ := hj_Can_up (P := hj_cn c j) (M := hj_rm c j) (bf := bf) (ex := hj_ex c j rs) (ex' := hj_ex c j rs) (R := hj_R K Q kd oa) hb (fun _ _ => rfl)
  rw [he, hj_rm_e e, hj_cn_e e]
  exact hj_Ls_up a b k
theorem hj_JS_u (h : hj_JS c bf rs kd oa ob K Q L gd p d) (h' : hj_JS c bf rs kd oa ob K Q L gd' p' d') : gd = gd' ∧ d = d' ∧ ∀ i, i < d → p i = p' i := by
  obtain ⟨a1, a2, a3, a4⟩ := h
  obtain ⟨b1, b2, b3, b4⟩ := h'
  have e : gd = gd' := by
    rcases Nat.lt_trichotomy gd gd' with z | z | z
    · exact absurd (a4 (by omega)) (b3 _ (by omega))
    · exact z
    · exact absurd (b4 (by omega)) (a3 _ (by omega))
  subst e
  exact ⟨rfl, hj_Ls_u a2 b2⟩
end JM
section XJ
variable {f_processes f_operations f_capacity f_objectKind f_eventTotal f_opTotal f_returnedMask f_judged f_goodEvents f_witnessSize f_finalState f_present f_must f_pathLength : Int32} {f_generation : Int64} {a_events a_opProcess a_opKind a_opA a_opB a_opResult a_opBefore a_openOp a_witness a_witnessResults a_expected a_doneAt a_stateAt a_tryAt a_path : Nat → Int32} {a_memoKey a_memoStamp : Nat → Int64}
variable {c pr bf : Nat → Nat} {E : Nat} {vC vP vK vA vB vR : Nat → Int32}
theorem hx_addToPrefix {k : Nat} (h : hj_H c pr E vC vP vK vA vB vR a_opKind a_opA a_opB a_opResult bf) (hk : k < E) (he : ∀ o, o < hj_cn c k → a_expected o = hj_ex c k a_opResult o) {post : SX → Prop}
    (hp : ∀ xE, (∀ o, o < hj_cn c (k + 1) → xE o = hj_ex c (k + 1) a_opResult o) → post (f_processes, f_operations, f_capacity, f_objectKind, f_eventTotal, f_opTotal, f_returnedMask, f_judged, f_goodEvents, f_witnessSize, f_finalState, nI (hj_cn c (k + 1)), nI (hj_rm c (k + 1)), f_pathLength, f_generation, a_events, a_opProcess, a_opKind, a_opA, a_opB, a_opResult, a_opBefore, a_openOp, a_witness, a_witnessResults, xE, a_doneAt, a_stateAt, a_tryAt, a_path, a_memoKey, a_memoStamp)) : wpX_addToPrefix post (f_processes, f_operations, f_capacity, f_objectKind, f_eventTotal, f_opTotal, f_returnedMask, f_judged, f_goodEvents, f_witnessSize, f_finalState, nI (hj_cn c k), nI (hj_rm c k), f_pathLength, f_generation, a_events, a_opProcess, a_opKind, a_opA, a_opB, a_opResult, a_opBefore, a_openOp, a_witness, a_witnessResults, a_expected, a_doneAt, a_stateAt, a_tryAt, a_path, a_memoKey, a_memoStamp) (nI (c k)) := by
  have h16 := hj_H_c h hk
  have es : nI (c k) >>> ((1 : Int32) &&& 31) = nI (c k / 2) := pk_shrN (by omega) _ 1 (by decide)
  have ea : nI (c k) &&& 1 = nI (c k % 2) := pk_andN (by omega) 1 (by decide)
  have co : (nI (c k / 2)).toNatClampNeg = c k / 2 := nI_clamp (by omega)
  have hin8 : vp_in (nI (c k / 2)) 8 := vp_in_nI (by omega) (by omega)
  unfold wpX_addToPrefix
  dsimp only
  refine nm_r es ?_
  rw [ea, co]
  by_cases z : c k % 2 = 0
  · have w := ((h.1 k hk).2.1 z).1
    rw [hj_cn_e z, hj_rm_e z] at hp
    refine br_t (by rw [z]; rfl) ⟨hin8, nm_e (nm_r (nI_1 _) (hp _ (fun o ho => ?_)))⟩
    unfold hj_ex
    rw [hj_rm_e z, w]
    by_cases y : o = hj_cn c k
    · subst y
      rw [pk_us, if_neg]
      rw [Nat.testBit_lt_two_pow (hj_rm_lt h.1 (by omega))]
      decide
    · rw [pk_un y]
      exact he o (by omega)
  · rw [hj_cn_o (by omega), hj_rm_o (by omega)] at hp
    refine br_f (nI_ne0 (by omega) (by omega)) ⟨hin8, hin8, nm_e (nm_r (hj_set (by omega)) (hp _ (fun o ho => ?_)))⟩
    unfold hj_ex
    rw [hj_rm_o (by omega), hj_tb_or]
    by_cases y : o = c k / 2
    · rw [y, pk_us, decide_eq_true rfl, Bool.or_true, if_pos rfl]
    · rw [pk_un y, decide_eq_false (fun x => y x.symm), Bool.or_false]
      exact he o ho
theorem hj_PX_k {k : Nat} {xP xO xE : Nat → Int32} {xE' : Nat → Int32} (h : hj_H c pr E vC vP vK vA vB vR a_opKind a_opA a_opB a_opResult bf) (hx : hj_HX c pr E xE xP a_opResult a_opBefore xO bf) (hk : k ≤ E) (he : ∀ o, o < hj_cn c k → xE' o = hj_ex c k a_opResult o)
    (hQ : ∃ q : Nat, q ≤ 8 ∧ f_capacity = nI q) (hK : f_objectKind = 0 ∨ f_objectKind = 1 ∨ f_objectKind = 2) : hj_PX (hj_cn c k) bf (hj_ex c k a_opResult) f_objectKind f_capacity a_opKind a_opA a_opB a_opBefore xE' := by
  have h8 := h.2.1
  have m := hj_cn_l (c := c) hk
  refine ⟨by omega, fun o ho => ⟨hx.2.2.1 o (by omega), hj_H_bf h (by omega), he o ho, hj_H_op h (by omega)⟩, hQ, hK⟩
theorem hx_keep {d : Nat} (hd : d ≤ 8) {post : SX → Prop} (h : ∀ xW, (∀ i, i < d → xW i = a_path i) → post (f_processes, f_operations, f_capacity, f_objectKind, f_eventTotal, f_opTotal, f_returnedMask, f_judged, f_goodEvents, nI d, f_finalState, f_present, f_must, nI d, f_generation, a_events, a_opProcess, a_opKind, a_opA, a_opB, a_opResult, a_opBefore, a_openOp, xW, a_witnessResults, a_expected, a_doneAt, a_stateAt, a_tryAt, a_path, a_memoKey, a_memoStamp)) : wpX_keepWitness post (f_processes, f_operations, f_capacity, f_objectKind, f_eventTotal, f_opTotal, f_returnedMask, f_judged, f_goodEvents, f_witnessSize, f_finalState, f_present, f_must, nI d, f_generation, a_events, a_opProcess, a_opKind, a_opA, a_opB, a_opResult, a_opBefore, a_openOp, a_witness, a_witnessResults, a_expected, a_doneAt, a_stateAt, a_tryAt, a_path, a_memoKey, a_memoStamp) := by
  have key : ∀ n i xW, i + n = d → (∀ j, j < i → xW j = a_path j) → wX_keepWitness_10 post f_processes f_operations f_capacity f_objectKind f_eventTotal f_opTotal f_returnedMask f_judged f_goodEvents (nI d) f_finalState f_present f_must (nI d) f_generation (n + 1) (nI i) a_events a_opProcess a_opKind a_opA a_opB a_opResult a_opBefore a_openOp xW a_witnessResults a_expected a_doneAt a_stateAt a_tryAt a_path a_memoKey a_memoStamp := by
    intro n
    induction n with
    | zero =>
      intro i xW hi hW
      have : i = d := by omega
      subst this
      exact br_t (nI_le (Nat.le_refl _) (by omega)) (h xW hW)
    | succ n ih =>
      intro i xW hi hW
      have ci : (nI i).toNatClampNeg = i := nI_clamp (by omega)
      refine br_f (nI_ge (by omega) (by omega)) ?_
      rw [ci]
      refine ⟨vp_in_nI (by omega) (by omega), vp_in_nI (by omega) (by omega), nm_e (nm_r (nI_1 i) (ih (i + 1) _ (by omega) ?_))⟩
      intro j hj
      by_cases z : j = i
      · rw [z, pk_us]
      · rw [pk_un z]
        exact hW j (by omega)
  unfold wpX_keepWitness
  dsimp only
  exact ⟨d + 1, key d 0 _ (by omega) (fun j hj => by omega)⟩
theorem hx_run {w : Nat} {W : Nat → Nat} (hw : w ≤ 8) (hW : ∀ i, i < w → a_witness i = nI (W i) ∧ W i < 8) {post : SX → Prop}
    (h : ∀ xR, (∀ i, i < w → xR i = hj_R f_objectKind f_capacity a_opKind a_opA (hj_S (hj_N f_objectKind f_capacity a_opKind a_opA a_opB) (hj_s0 f_objectKind) W i) (W i)) → post (f_processes, f_operations, f_capacity, f_objectKind, f_eventTotal, f_opTotal, f_returnedMask, f_judged, f_goodEvents, nI w, hj_S (hj_N f_objectKind f_capacity a_opKind a_opA a_opB) (hj_s0 f_objectKind) W w, f_present, f_must, f_pathLength, f_generation, a_events, a_opProcess, a_opKind, a_opA, a_opB, a_opResult, a_opBefore, a_openOp, a_witness, xR, a_expected, a_doneAt, a_stateAt, a_tryAt, a_path, a_memoKey, a_memoStamp)) : wpX_runWitness post (f_processes, f_operations, f_capacity, f_objectKind, f_eventTotal, f_opTotal, f_returnedMask, f_judged, f_goodEvents, nI w, f_finalState, f_present, f_must, f_pathLength, f_generation, a_events, a_opProcess, a_opKind, a_opA, a_opB, a_opResult, a_opBefore, a_openOp, a_witness, a_witnessResults, a_expected, a_doneAt, a_stateAt, a_tryAt, a_path, a_memoKey, a_memoStamp) := by
  have key : ∀ n i xR, i + n = w → (∀ j, j < i → xR j = hj_R f_objectKind f_capacity a_opKind a_opA (hj_S (hj_N f_objectKind f_capacity a_opKind a_opA a_opB) (hj_s0 f_objectKind) W j) (W j)) → wX_runWitness_7 post f_processes f_operations f_capacity f_objectKind f_eventTotal f_opTotal f_returnedMask f_judged f_goodEvents (nI w) f_finalState f_present f_must f_pathLength f_generation (n + 1) (hj_S (hj_N f_objectKind f_capacity a_opKind a_opA a_opB) (hj_s0 f_objectKind) W i) (nI i) a_events a_opProcess a_opKind a_opA a_opB a_opResult a_opBefore a_openOp a_witness xR a_expected a_doneAt a_stateAt a_tryAt a_path a_memoKey a_memoStamp := by
    intro n
    induction n with
    | zero =>
      intro i xR hi hR
      have : i = w := by omega
      subst this
      exact br_t (nI_le (Nat.le_refl _) (by omega)) (h xR hR)
    | succ n ih =>
      intro i xR hi hR
      have ci : (nI i).toNatClampNeg = i := nI_clamp (by omega)
      have hin : vp_in (nI i) 8 := vp_in_nI (by omega) (by omega)
      obtain ⟨e, h8⟩ := hW i (by omega)
      refine br_f (nI_ge (by omega) (by omega)) ?_
      rw [ci, e]
      refine ⟨hin, hx_res h8 ⟨hin, nm_e ⟨hin, hx_nxt h8 (nm_r (nI_1 i) (ih (i + 1) _ (by omega) ?_))⟩⟩⟩
      intro j hj
      by_cases z : j = i
      · rw [z, pk_us]
      · rw [pk_un z]
        exact hR j (by omega)
  unfold wpX_runWitness
  dsimp only
  exact hx_init ⟨w + 1, key w 0 _ (by omega) (fun j hj => by omega)⟩
theorem hx_judge_loop {L g0 : Nat} {xP xO : Nat → Int32} (h : hj_H c pr E vC vP vK vA vB vR a_opKind a_opA a_opB a_opResult bf) (hx : hj_HX c pr E a_events xP a_opResult a_opBefore xO bf) (hL : L ≤ E) (hg : g0 + E + 1 < 2 ^ 31)
    (hQ : ∃ q : Nat, q ≤ 8 ∧ f_capacity = nI q) (hK : f_objectKind = 0 ∨ f_objectKind = 1 ∨ f_objectKind = 2) {post : Int32 → SX → Prop}
    (hEnd : ∀ gd w W g' xW xE dA sA tA pA mk ms P M pl, hj_JS c bf a_opResult a_opKind a_opA a_opB f_objectKind f_capacity L gd W w → w ≤ 8 → (∀ i, i < w → xW i = nI (W i) ∧ W i < hj_cn c E) → g' ≤ g0 + E → hj_Me (fun _ _ => True) g' mk ms →
      wX_judge_93 post (nI gd) f_processes f_operations f_capacity f_objectKind f_eventTotal f_opTotal f_returnedMask f_judged f_goodEvents (nI w) f_finalState P M pl (lN g') a_events a_opProcess a_opKind a_opA a_opB a_opResult a_opBefore a_openOp xW a_witnessResults xE dA sA tA pA mk ms) :
    ∀ n k w W g' xW xE dA sA tA pA mk ms pl, k + n = L → g' ≤ g0 + k → hj_Me (fun _ _ => True) g' mk ms → hj_Lk c bf a_opResult a_opKind a_opA a_opB f_objectKind f_capacity k W w → w ≤ 8 → (∀ i, i < w → xW i = nI (W i) ∧ W i < hj_cn c E) →
      (∀ j, j ≤ k → ¬ hj_Fk c bf a_opResult a_opKind a_opA a_opB f_objectKind f_capacity j) → (∀ o, o < hj_cn c k → xE o = hj_ex c k a_opResult o) →
      wX_judge_31 post (nI L) (n + 2) (nI k) 1 (nI k) f_processes f_operations f_capacity f_objectKind f_eventTotal f_opTotal f_returnedMask f_judged f_goodEvents (nI w) f_finalState (nI (hj_cn c k)) (nI (hj_rm c k)) pl (lN g') a_events a_opProcess a_opKind a_opA a_opB a_opResult a_opBefore a_openOp xW a_witnessResults xE dA sA tA pA mk ms := by
  have hE := hj_H_E h
  have h8 := h.2.1
  intro n
  induction n with
  | zero =>
    intro k w W g' xW xE dA sA tA pA mk ms pl hk hgk hM hLk hw hW hall he
    have : k = L := by omega
    subst this
    exact br_t (nI_le (Nat.le_refl _) (by omega)) (hEnd k w W g' xW xE dA sA tA pA mk ms _ _ pl ⟨Nat.le_refl _, hLk, hall, fun z => by omega⟩ hw hW (by omega) hM)
  | succ n ih =>
    intro k w W g' xW xE dA sA tA pA mk ms pl hk hgk hM hLk hw hW hall he
    have ck : (nI k).toNatClampNeg = k := nI_clamp (by omega)
    have hin : vp_in (nI k) 16 := vp_in_nI (by omega) (by omega)
    have h16 := hj_H_c h (show k < E by omega)
    have hm := hj_cn_l (c := c) (show k + 1 ≤ E by omega)
    have ea : nI (c k) &&& 1 = nI (c k % 2) := pk_andN (by omega) 1 (by decide)
    have hall' : ∀ {p d}, hj_Lk c bf a_opResult a_opKind a_opA a_opB f_objectKind f_capacity (k + 1) p d → ∀ j, j ≤ k + 1 → ¬ hj_Fk c bf a_opResult a_opKind a_opA a_opB f_objectKind f_capacity j := by
      intro p d hl j hj
      rcases Nat.lt_or_ge j (k + 1) with z | z
      · exact hall j (by omega)
      · have : j = k + 1 := by omega
        subst this
        exact hj_Lk_nF hl
    refine br_f (nI_ge (by omega) (by omega)) (br_f (by decide) ⟨hin, ?_⟩)
    rw [ck, hx.1 k (by omega)]
    refine hx_addToPrefix h (by omega) he ?_
    intro xE' he'
    refine ⟨hin, ?_⟩
    rw [hx.1 k (by omega), ea]
    by_cases z : c k % 2 = 0
    · refine br_f ?_ ?_
      · rw [z]
        decide
      · have hl := hj_Lk_call h (show k < E by omega) z hLk
        refine br_f (by decide) (nm_r (nI_1 k) (nm_r (nI_1 k) ?_))
        exact ih (k + 1) w W g' xW xE' dA sA tA pA mk ms pl (by omega) (by omega) hM hl hw hW (hall' hl) he'
    · refine br_t (by rw [show c k % 2 = 1 by omega]; rfl) ?_
      refine hx_search (hj_PX_k h hx (show k + 1 ≤ E by omega) he' hQ hK) (hj_rm_256 h.1 (by omega) h8) (by omega) hM ?_ ?_
      · intro dA' sA' tA' pA' mk' ms' hM' fl
        refine br_t rfl (br_t rfl (nm_r (nI_1 k) ?_))
        have e := hEnd k w W (g' + 1) xW xE' dA' sA' tA' pA' mk' ms' (nI (hj_cn c (k + 1))) (nI (hj_rm c (k + 1))) pl ⟨by omega, hLk, hall, fun _ => fl⟩ hw hW (by omega) hM'
        exact br_c (fun _ => e) (fun _ => br_t rfl e)
      · intro p d dA' sA' tA' pA' mk' ms' hM' ls hd hp
        refine br_f (by decide) (hx_keep hd ?_)
        intro xW' hW'
        refine br_f (by decide) (nm_r (nI_1 k) (nm_r (nI_1 k) ?_))
        exact ih (k + 1) d p (g' + 1) xW' xE' dA' sA' tA' pA' mk' ms' (nI d) (by omega) (by omega) hM' ls hd (fun i hi => ⟨(hW' i hi).trans (hp i hi).1, by have := (hp i hi).2; omega⟩) (hall' ls) he'
theorem hx_judge {L g0 : Nat} {xP xO : Nat → Int32} (h : hj_H c pr E vC vP vK vA vB vR a_opKind a_opA a_opB a_opResult bf) (hx : hj_HX c pr E a_events xP a_opResult a_opBefore xO bf) (hL : L ≤ E) (hg : g0 + E + 1 < 2 ^ 31) (hM : hj_Me (fun _ _ => True) g0 a_memoKey a_memoStamp)
    (hQ : ∃ q : Nat, q ≤ 8 ∧ f_capacity = nI q) (hK : f_objectKind = 0 ∨ f_objectKind = 1 ∨ f_objectKind = 2) {post : Int32 → SX → Prop}
    (hp : ∀ gd w W g' xW xR xE dA sA tA pA mk ms P M pl, hj_JS c bf a_opResult a_opKind a_opA a_opB f_objectKind f_capacity L gd W w → w ≤ 8 → (∀ i, i < w → xW i = nI (W i) ∧ W i < hj_cn c E ∧ xR i = hj_R f_objectKind f_capacity a_opKind a_opA (hj_S (hj_N f_objectKind f_capacity a_opKind a_opA a_opB) (hj_s0 f_objectKind) W i) (W i)) → g' ≤ g0 + E → hj_Me (fun _ _ => True) g' mk ms →
      post (nI gd) (f_processes, f_operations, f_capacity, f_objectKind, nI E, f_opTotal, f_returnedMask, 1, nI gd, nI w, hj_S (hj_N f_objectKind f_capacity a_opKind a_opA a_opB) (hj_s0 f_objectKind) W w, P, M, pl, lN g', a_events, a_opProcess, a_opKind, a_opA, a_opB, a_opResult, a_opBefore, a_openOp, xW, xR, xE, dA, sA, tA, pA, mk, ms)) :
    wpX_judge post (f_processes, f_operations, f_capacity, f_objectKind, nI E, f_opTotal, f_returnedMask, f_judged, f_goodEvents, f_witnessSize, f_finalState, f_present, f_must, f_pathLength, lN g0, a_events, a_opProcess, a_opKind, a_opA, a_opB, a_opResult, a_opBefore, a_openOp, a_witness, a_witnessResults, a_expected, a_doneAt, a_stateAt, a_tryAt, a_path, a_memoKey, a_memoStamp) (nI L) := by
  have hE := hj_H_E h
  have h8 := h.2.1
  unfold wpX_judge
  dsimp only
  refine br_f (nI_pos (by omega)) (br_t (nI_le hL (by omega)) ?_)
  unfold wpX_clearPrefix
  dsimp only
  refine ⟨L + 2, hx_judge_loop (f_eventTotal := nI E) h hx hL hg hQ hK ?_ L 0 0 (fun _ => 0) g0 a_witness a_expected a_doneAt a_stateAt a_tryAt a_path a_memoKey a_memoStamp f_pathLength (by omega) (by omega) hM hj_Lk_0 (by omega) (fun i hi => by omega) (fun j hj => ?_) (fun o ho => absurd ho (by show ¬ o < 0; omega))⟩
  · intro gd w W g' xW xE dA sA tA pA mk ms P M pl js hw hW hg' hM'
    unfold wX_judge_93
    refine hx_run hw (fun i hi => ⟨(hW i hi).1, by have := (hW i hi).2; omega⟩) ?_
    intro xR hR
    exact hp gd w W g' xW xR xE dA sA tA pA mk ms P M pl js hw (fun i hi => ⟨(hW i hi).1, (hW i hi).2, hR i hi⟩) hg' hM'
  · have : j = 0 := by omega
    subst this
    exact hj_Lk_nF (p := fun _ => 0) (d := 0) hj_Lk_0
end XJ
end
section
/-! Y's judge and runWitness -/
section YJ
variable {g_objectKind g_processes g_operations g_capacity g_events g_judged g_good g_witnessSize g_trialSize g_size : Int32} {b_evCode b_evProcess b_evKind b_evA b_evB b_evResult b_witness b_trial b_list : Nat → Int32}
variable {c pr bf : Nat → Nat} {E : Nat} {kd oa ob rs : Nat → Int32}
theorem hy_copy {d gd : Nat} (hd : d ≤ 8) {post : Int32 → SY → Prop} (h : ∀ yW, (∀ i, i < d → yW i = b_trial i) → post (nI gd) (g_objectKind, g_processes, g_operations, g_capacity, g_events, 1, nI gd, nI d, nI d, g_size, b_evCode, b_evProcess, b_evKind, b_evA, b_evB, b_evResult, yW, b_trial, b_list)) :
    ∀ n i yW, i + n = d → (∀ j, j < i → yW j = b_trial j) → wY_judge_68 post g_objectKind g_processes g_operations g_capacity g_events g_judged (nI gd) (nI d) (nI d) g_size (n + 1) (nI i) b_evCode b_evProcess b_evKind b_evA b_evB b_evResult yW b_trial b_list := by
  intro n
  induction n with
  | zero =>
    intro i yW hi hW
    have : i = d := by omega
    subst this
    exact br_t (nI_le (Nat.le_refl _) (by omega)) (h yW hW)
  | succ n ih =>
    intro i yW hi hW
    have ci : (nI i).toNatClampNeg = i := nI_clamp (by omega)
    have hin : vp_in (nI i) 8 := vp_in_nI (by omega) (by omega)
    refine br_f (nI_ge (by omega) (by omega)) ?_
    rw [ci]
    refine ⟨hin, hin, nm_e (nm_r (nI_1 i) (ih (i + 1) _ (by omega) ?_))⟩
    intro j hj
    by_cases z : j = i
    · rw [z, pk_us]
    · rw [pk_un z]
      exact hW j (by omega)
theorem hy_judge_loop {L : Nat} (h : hj_H c pr E b_evCode b_evProcess b_evKind b_evA b_evB b_evResult kd oa ob rs bf) (hL : L ≤ E) (hQ : ∃ q : Nat, q ≤ 8 ∧ g_capacity = nI q) (hK : g_objectKind = 0 ∨ g_objectKind = 1 ∨ g_objectKind = 2) {post : Int32 → SY → Prop}
    (hEnd : ∀ gd ts tr sz ls, gd ≤ L → (∀ j, j ≤ gd → ¬ hj_Fk c bf rs kd oa ob g_objectKind g_capacity j) → (gd < L → hj_Fk c bf rs kd oa ob g_objectKind g_capacity (gd + 1)) → wY_judge_49 post g_objectKind g_processes g_operations g_capacity (nI E) g_judged (nI gd) g_witnessSize ts sz b_evCode b_evProcess b_evKind b_evA b_evB b_evResult b_witness tr ls) :
    ∀ n k ts tr sz ls, k + n = L → (∀ j, j ≤ k → ¬ hj_Fk c bf rs kd oa ob g_objectKind g_capacity j) → wY_judge_22 post (nI L) (n + 1) (nI (k + 1)) g_objectKind g_processes g_operations g_capacity (nI E) g_judged (nI k) g_witnessSize ts sz b_evCode b_evProcess b_evKind b_evA b_evB b_evResult b_witness tr ls := by
  have hE := hj_H_E h
  intro n
  induction n with
  | zero =>
    intro k ts tr sz ls hk hall
    have : k = L := by omega
    subst this
    exact br_t (nI_lt (by omega) (by omega)) (hEnd k ts tr sz ls (Nat.le_refl _) hall (fun z => by omega))
  | succ n ih =>
    intro k ts tr sz ls hk hall
    refine br_f (nI_nlt (by omega) (by omega)) ?_
    refine hy_search (lim := k + 1) h (by omega) hQ hK (fun fl ts tr sz ls => ?_) (fun p d tr sz ls hl hd hp => ?_)
    · exact br_t rfl (hEnd k ts tr sz ls (by omega) hall (fun _ => fl))
    · refine br_f (by decide) (nm_r (nI_1 _) (ih (k + 1) _ _ _ _ (by omega) (fun j hj => ?_)))
      rcases Nat.lt_or_ge j (k + 1) with z | z
      · exact hall j (by omega)
      · have : j = k + 1 := by omega
        subst this
        exact hj_Lk_nF hl
theorem hy_judge {L : Nat} (h : hj_H c pr E b_evCode b_evProcess b_evKind b_evA b_evB b_evResult kd oa ob rs bf) (hL : L ≤ E) (hQ : ∃ q : Nat, q ≤ 8 ∧ g_capacity = nI q) (hK : g_objectKind = 0 ∨ g_objectKind = 1 ∨ g_objectKind = 2) {post : Int32 → SY → Prop}
    (hp : ∀ gd w W yW tr sz ls, hj_JS c bf rs kd oa ob g_objectKind g_capacity L gd W w → w ≤ 8 → (∀ i, i < w → yW i = nI (W i)) → post (nI gd) (g_objectKind, g_processes, g_operations, g_capacity, nI E, 1, nI gd, nI w, nI w, sz, b_evCode, b_evProcess, b_evKind, b_evA, b_evB, b_evResult, yW, tr, ls)) :
    wpY_judge post (g_objectKind, g_processes, g_operations, g_capacity, nI E, g_judged, g_good, g_witnessSize, g_trialSize, g_size, b_evCode, b_evProcess, b_evKind, b_evA, b_evB, b_evResult, b_witness, b_trial, b_list) (nI L) := by
  have hE := hj_H_E h
  unfold wpY_judge
  dsimp only
  refine br_f (nI_pos (by omega)) (br_t (nI_le hL (by omega)) ⟨L + 1, ?_⟩)
  refine hy_judge_loop h hL hQ hK ?_ L 0 _ _ _ _ (by omega) (fun j hj => ?_)
  · intro gd ts tr sz ls hgd hall hfail
    unfold wY_judge_49
    refine hy_search (lim := gd) h (by omega) hQ hK (fun fl _ _ _ _ => absurd fl (hall gd (Nat.le_refl _))) (fun p d tr sz ls hl hd hp' => ?_)
    refine ⟨d + 1, hy_copy (b_trial := tr) hd (fun yW hW => ?_) d 0 _ (by omega) (fun j hj => by omega)⟩
    exact hp gd d p yW tr sz ls ⟨hgd, hl, hall, hfail⟩ hd (fun i hi => (hW i hi).trans (hp' i hi).1)
  · have : j = 0 := by omega
    subst this
    exact hj_Lk_nF (p := fun _ => 0) (d := 0) hj_Lk_0
theorem hy_run {m : Nat} {W : Nat → Nat} (h : hj_H c pr E b_evCode b_evProcess b_evKind b_evA b_evB b_evResult kd oa ob rs bf) (hQ : ∃ q : Nat, q ≤ 8 ∧ g_capacity = nI q) (hK : g_objectKind = 0 ∨ g_objectKind = 1 ∨ g_objectKind = 2) (hm : m ≤ 8) (hW : ∀ i, i < m → b_witness i = nI (W i) ∧ W i < hj_cn c E) {post : Int32 → SY → Prop}
    (hp : ∀ r z V ls, (0 < m → r = hj_R g_objectKind g_capacity kd oa (hj_S (hj_N g_objectKind g_capacity kd oa ob) (hj_s0 g_objectKind) W (m - 1)) (W (m - 1))) → hj_S (hj_N g_objectKind g_capacity kd oa ob) (hj_s0 g_objectKind) W m = hj_pk z V → hj_G g_objectKind z V → (∀ i, i < z → ls i = nI (V / 8 ^ i % 8)) → post r (g_objectKind, g_processes, g_operations, g_capacity, nI E, g_judged, g_good, g_witnessSize, g_trialSize, nI z, b_evCode, b_evProcess, b_evKind, b_evA, b_evB, b_evResult, b_witness, b_trial, ls)) :
    wpY_runWitness post (g_objectKind, g_processes, g_operations, g_capacity, nI E, g_judged, g_good, g_witnessSize, g_trialSize, g_size, b_evCode, b_evProcess, b_evKind, b_evA, b_evB, b_evResult, b_witness, b_trial, b_list) (nI m) := by
  have key : ∀ n i r z V ls, i + n = m → (0 < i → r = hj_R g_objectKind g_capacity kd oa (hj_S (hj_N g_objectKind g_capacity kd oa ob) (hj_s0 g_objectKind) W (i - 1)) (W (i - 1))) → hj_S (hj_N g_objectKind g_capacity kd oa ob) (hj_s0 g_objectKind) W i = hj_pk z V → hj_G g_objectKind z V → (∀ i, i < z → ls i = nI (V / 8 ^ i % 8)) →
      wY_runWitness_9 post (nI m) (n + 1) r (nI i) g_objectKind g_processes g_operations g_capacity (nI E) g_judged g_good g_witnessSize g_trialSize (nI z) b_evCode b_evProcess b_evKind b_evA b_evB b_evResult b_witness b_trial ls := by
    intro n
    induction n with
    | zero =>
      intro i r z V ls hi hr eS g dg
      have : i = m := by omega
      subst this
      exact br_t (nI_le (Nat.le_refl _) (by omega)) (hp r z V ls hr eS g dg)
    | succ n ih =>
      intro i r z V ls hi hr eS g dg
      have ci : (nI i).toNatClampNeg = i := nI_clamp (by omega)
      have hin : vp_in (nI i) 8 := vp_in_nI (by omega) (by omega)
      obtain ⟨e, hlt⟩ := hW i (by omega)
      refine br_f (nI_ge (by omega) (by omega)) ?_
      rw [ci, e]
      refine ⟨hin, hy_apply (b_list := ls) h hlt hQ hK g dg ?_⟩
      intro z' V' ls' eN g' dg'
      refine nm_r (nI_1 i) (ih (i + 1) _ z' V' ls' (by omega) (fun _ => ?_) ?_ g' dg')
      · rw [show i + 1 - 1 = i by omega, eS]
      · show (hj_N g_objectKind g_capacity kd oa ob) (hj_S (hj_N g_objectKind g_capacity kd oa ob) (hj_s0 g_objectKind) W i) (W i) = _
        rw [eS]
        exact eN
  unfold wpY_runWitness
  dsimp only
  refine hy_reset ?_
  intro z ls e g dg
  exact ⟨m + 1, key m 0 _ z 0 ls (by omega) (fun z => by omega) e g dg⟩
end YJ
end
section
/-! judge, couldReturn, witnessResult, finalAt -/
section HU
variable {c pr bf : Nat → Nat} {E : Nat} {vC vP vK vA vB vR kd oa ob rs : Nat → Int32} {x y z : Int32}
theorem hj_H_up (h : hj_H c pr E vC vP vK vA vB vR kd oa ob rs bf) : hj_H c pr E (upd vC E x) (upd vP E y) vK vA vB (upd vR E z) kd oa ob rs bf := by
  obtain ⟨w, h8, h3, h4, h5⟩ := h
  refine ⟨w, h8, fun i hi => ?_, h4, fun i o hi e => ?_⟩
  · rw [pk_un (by omega), pk_un (by omega)]
    exact h3 i hi
  · rw [pk_un (by omega)]
    exact h5 i o hi e
end HU
theorem i_vc_judge {k : Nat} {u : SX} {v : SY} (I : i_Rel k u v) (hk : k + 5 ≤ 2564) (v1 : Int32) : wpX_judge (fun r u' => wpY_judge (fun r' v' => r' = r ∧ i_Rel (k + 5) u' v') v v1) u v1 := by
  refine hj_el (Z := fun u v => wpX_judge (fun r u' => wpY_judge (fun r' v' => r' = r ∧ i_Rel (k + 5) u' v') v v1) u v1) ?_ I
  intro f_objectKind f_judged f_goodEvents f_witnessSize f_finalState f_present f_must f_pathLength a_events a_opProcess a_opKind a_opA a_opB a_opResult a_opBefore a_openOp a_witness a_witnessResults a_expected a_doneAt a_stateAt a_tryAt a_path a_memoKey a_memoStamp g_good g_witnessSize g_trialSize g_size b_evCode b_evProcess b_evKind b_evA b_evB b_evResult b_witness b_trial b_list c pr bf E np no nq g hr
  have J := hj_mk (f_present := f_present) (f_must := f_must) (f_pathLength := f_pathLength) (a_expected := a_expected) (a_doneAt := a_doneAt) (a_stateAt := a_stateAt) (a_tryAt := a_tryAt) (a_path := a_path) (g_trialSize := g_trialSize) (g_size := g_size) (b_trial := b_trial) (b_list := b_list) (hj_RR_up hr)
  obtain ⟨⟨h1, h2, h3, h4⟩, h5, h6, h7, ⟨h8, h9⟩, h10⟩ := hr
  have hE := hj_H_E h6
  by_cases a : v1 < 0
  · exact br_t a (br_t a ⟨rfl, J⟩)
  by_cases b : v1 ≤ nI E
  rotate_left
  · exact br_f a (br_f b (br_f a (br_f b ⟨rfl, J⟩)))
  obtain ⟨L, hL, rfl⟩ := nI_of a
  rw [nI_leI hL (by omega)] at b
  refine hx_judge h6 h7 b (by omega) h9 ⟨nq, h3, rfl⟩ h5 ?_
  intro gd w W g' xW xR xE dA sA tA pA mk ms P M pl js hw hW hg' hM'
  refine hy_judge h6 b ⟨nq, h3, rfl⟩ h5 ?_
  intro gd' w' W' yW tr sz ls js' hw' hW'
  obtain ⟨e1, e2, e3⟩ := hj_JS_u js js'
  subst e1
  subst e2
  refine ⟨rfl, hj_mk (k := k + 5) ⟨⟨h1, h2, h3, h4⟩, h5, h6, h7, ⟨by omega, hM'⟩, Or.inr ⟨rfl, rfl, rfl, w, W, rfl, hw, fun i hi => ?_, rfl⟩⟩⟩
  exact ⟨(hW i hi).2.1, (hW i hi).1, by rw [hW' i hi, e3 i hi], (hW i hi).2.2⟩
theorem i_vc_couldReturn {k : Nat} {u : SX} {v : SY} (I : i_Rel k u v) (hk : k + 5 ≤ 2564) (v1 : Int32) (v2 : Int32) : wpX_couldReturn (fun r u' => wpY_couldReturn (fun r' v' => r' = r ∧ i_Rel (k + 5) u' v') v v1 v2) u v1 v2 := by
  refine hj_el (Z := fun u v => wpX_couldReturn (fun r u' => wpY_couldReturn (fun r' v' => r' = r ∧ i_Rel (k + 5) u' v') v v1 v2) u v1 v2) ?_ I
  intro f_objectKind f_judged f_goodEvents f_witnessSize f_finalState f_present f_must f_pathLength a_events a_opProcess a_opKind a_opA a_opB a_opResult a_opBefore a_openOp a_witness a_witnessResults a_expected a_doneAt a_stateAt a_tryAt a_path a_memoKey a_memoStamp g_good g_witnessSize g_trialSize g_size b_evCode b_evProcess b_evKind b_evA b_evB b_evResult b_witness b_trial b_list c pr bf E np no nq g hr
  have J := hj_mk (f_present := f_present) (f_must := f_must) (f_pathLength := f_pathLength) (a_expected := a_expected) (a_doneAt := a_doneAt) (a_stateAt := a_stateAt) (a_tryAt := a_tryAt) (a_path := a_path) (g_trialSize := g_trialSize) (g_size := g_size) (b_trial := b_trial) (b_list := b_list) (hj_RR_up hr)
  obtain ⟨⟨h1, h2, h3, h4⟩, h5, h6, h7, ⟨h8, h9⟩, h10⟩ := hr
  have hE := hj_H_E h6
  unfold wpX_couldReturn wpX_returnRefusal
  dsimp only
  refine br_c (fun a => br_f (by decide) (br_t a ⟨rfl, J⟩)) (fun a => br_c (fun b => ?_) (fun b => br_f (by decide) (br_f a (br_f b ⟨rfl, J⟩))))
  refine br_c (fun d => br_f (by decide) (br_f a (br_t b (br_t d ⟨rfl, J⟩)))) (fun d => br_c (fun e => ?_) (fun e => br_f (by decide) (br_f a (br_t b (br_f d (br_f e ⟨rfl, J⟩))))))
  obtain ⟨q, hq, rfl⟩ := nI_of a
  obtain ⟨r, hr, rfl⟩ := nI_of2 (M := 8) (n := 8) (by decide) d e
  have b' := b
  rw [nI_ltI hq (by omega)] at b'
  have hin4 : vp_in (nI q) 4 := vp_in_nI (by omega) (by omega)
  have cq : (nI q).toNatClampNeg = q := nI_clamp (by omega)
  rw [cq, h7.2.2.2.2 q (by omega)]
  refine ⟨hin4, ?_⟩
  cases ho : hj_op c pr E q with
  | zero =>
    refine br_f (by decide) (br_f (by decide) (br_f a (br_t b (br_f d (br_t e (hy_openOf h6 (by omega) ?_))))))
    rw [ho]
    exact br_f (by decide) ⟨rfl, J⟩
  | succ o =>
    have hlt := hj_op_lt h6.1 ho
    have hE2 := hj_E_lt h6.1 (show q < 4 by omega) ho
    have hE16 : E < 16 := by omega
    have co : (nI o).toNatClampNeg = o := nI_clamp (by omega)
    have hin8 : vp_in (nI o) 8 := vp_in_nI (by omega) (by omega)
    have h8' := h6.2.1
    have K1 := hj_H_ret (q := q) (o := o) (r := r) h6 (by omega) ho hr
    have Y0 : ∀ {post : Int32 → SY → Prop}, (hj_Fk (hj_ap c E (2 * o + 1)) bf (upd a_opResult o (nI r)) a_opKind a_opA a_opB f_objectKind (nI nq) (E + 1) → ∀ ts tr sz ls, post 0 (f_objectKind, nI np, nI no, nI nq, nI E, f_judged, g_good, g_witnessSize, ts, sz, upd b_evCode E (nI (2 * o + 1)), upd b_evProcess E (nI q), b_evKind, b_evA, b_evB, upd b_evResult E (nI r), b_witness, tr, ls)) →
        (¬ hj_Fk (hj_ap c E (2 * o + 1)) bf (upd a_opResult o (nI r)) a_opKind a_opA a_opB f_objectKind (nI nq) (E + 1) → ∀ ts tr sz ls, post 1 (f_objectKind, nI np, nI no, nI nq, nI E, f_judged, g_good, g_witnessSize, ts, sz, upd b_evCode E (nI (2 * o + 1)), upd b_evProcess E (nI q), b_evKind, b_evA, b_evB, upd b_evResult E (nI r), b_witness, tr, ls)) → wpY_couldReturn post (f_objectKind, nI np, nI no, nI nq, nI E, f_judged, g_good, g_witnessSize, g_trialSize, g_size, b_evCode, b_evProcess, b_evKind, b_evA, b_evB, b_evResult, b_witness, b_trial, b_list) (nI q) (nI r) := by
      intro post p0 p1
      refine br_f a (br_t b (br_f d (br_t e (hy_openOf h6 (by omega) ?_))))
      rw [ho]
      refine br_t (nI_pos' (n := o) (by omega)) ?_
      show wpY_append _ _ (2 * nI o + 1) _ _
      rw [hj_m2, nI_1]
      refine hy_append hE16 ?_
      refine hy_search (lim := E + 1) K1 (Nat.le_refl _) ⟨nq, h3, rfl⟩ h5 (fun fl ts tr sz ls => ?_) (fun p d tr sz ls hl hd hp => ?_)
      · exact nm_r (nI_pred E) (br_t rfl (p0 fl ts tr sz ls))
      · exact nm_r (nI_pred E) (br_f (by decide) (p1 (hj_Lk_nF hl) (nI d) tr sz ls))
    have Jn : ∀ P M pl xE dA sA tA pA mk ms ts tr sz ls, hj_Me (fun _ _ => True) (g + 1) mk ms → i_Rel (k + 5) (nI np, nI no, nI nq, f_objectKind, nI E, nI (hj_cn c E), nI (hj_rm c E), f_judged, f_goodEvents, f_witnessSize, f_finalState, P, M, pl, lN (g + 1), a_events, a_opProcess, a_opKind, a_opA, a_opB, a_opResult, a_opBefore, a_openOp, a_witness, a_witnessResults, xE, dA, sA, tA, pA, mk, ms) (f_objectKind, nI np, nI no, nI nq, nI E, f_judged, g_good, g_witnessSize, ts, sz, upd b_evCode E (nI (2 * o + 1)), upd b_evProcess E (nI q), b_evKind, b_evA, b_evB, upd b_evResult E (nI r), b_witness, tr, ls) := by
      intro P M pl xE dA sA tA pA mk ms ts tr sz ls hM'
      exact hj_mk (k := k + 5) ⟨⟨h1, h2, h3, h4⟩, h5, hj_H_up h6, h7, ⟨by omega, hM'⟩, h10⟩
    refine br_t (nI_pos' (n := o) (by omega)) (br_t (by decide) ?_)
    unfold wpX_clearPrefix
    dsimp only
    have key : ∀ n j xE, j + n = E → (∀ o, o < hj_cn c j → xE o = hj_ex c j a_opResult o) → wX_couldReturn_20 (fun r_1 u' => wpY_couldReturn (fun r' v' => r' = r_1 ∧ i_Rel (k + 5) u' v') (f_objectKind, nI np, nI no, nI nq, nI E, f_judged, g_good, g_witnessSize, g_trialSize, g_size, b_evCode, b_evProcess, b_evKind, b_evA, b_evB, b_evResult, b_witness, b_trial, b_list) (nI q) (nI r)) (nI q) (nI r) (n + 1) (nI j) (nI np) (nI no) (nI nq) f_objectKind (nI E) (nI (hj_cn c E)) (nI (hj_rm c E)) f_judged f_goodEvents f_witnessSize f_finalState (nI (hj_cn c j)) (nI (hj_rm c j)) f_pathLength (lN g) a_events a_opProcess a_opKind a_opA a_opB a_opResult a_opBefore a_openOp a_witness a_witnessResults xE a_doneAt a_stateAt a_tryAt a_path a_memoKey a_memoStamp := by
      intro n
      induction n with
      | zero =>
        intro j xE hj he
        have : j = E := by omega
        subst this
        refine br_t (nI_le (Nat.le_refl _) (by omega)) ?_
        rw [cq, h7.2.2.2.2 q (by omega), ho]
        refine ⟨hin4, nm_r (e' := nI o) rfl ?_⟩
        rw [co]
        refine ⟨hin8, nm_e (nm_r (hj_set (by omega)) ?_)⟩
        have px : hj_PX (hj_cn c j) bf (hj_ex (hj_ap c j (2 * o + 1)) (j + 1) (upd a_opResult o (nI r))) f_objectKind (nI nq) a_opKind a_opA a_opB a_opBefore (upd xE o (nI r)) := by
          refine ⟨by omega, fun o' ho' => ⟨h7.2.2.1 o' ho', hj_H_bf h6 ho', ?_, hj_H_op h6 ho'⟩, ⟨nq, h3, rfl⟩, h5⟩
          unfold hj_ex
          rw [hj_rm_ret, hj_tb_or]
          by_cases y : o' = o
          · rw [y, pk_us, pk_us, decide_eq_true rfl, Bool.or_true, if_pos rfl]
          · rw [pk_un y, pk_un y, decide_eq_false (fun x => y x.symm), Bool.or_false]
            exact he o' ho'
        have m256 : hj_rm c j ||| 2 ^ o < 256 := Nat.or_lt_two_pow (n := 8) (hj_rm_256 h6.1 (Nat.le_refl _) h8') (Nat.pow_lt_pow_right (by omega) (by omega))
        refine hx_search px m256 (by omega) h9 ?_ ?_
        · intro dA sA tA pA mk ms hM' fl
          have fl' : hj_Fk (hj_ap c j (2 * o + 1)) bf (upd a_opResult o (nI r)) a_opKind a_opA a_opB f_objectKind (nI nq) (j + 1) := by
            unfold hj_Fk
            rw [hj_cn_ret, hj_rm_ret]
            exact fl
          exact br_t rfl (Y0 (fun _ ts tr sz ls => ⟨rfl, Jn _ _ _ _ _ _ _ _ _ _ ts tr sz ls hM'⟩) (fun nf => absurd fl' nf))
        · intro p d' dA sA tA pA mk ms hM' hls hd' hp'
          have nf : ¬ hj_Fk (hj_ap c j (2 * o + 1)) bf (upd a_opResult o (nI r)) a_opKind a_opA a_opB f_objectKind (nI nq) (j + 1) := by
            unfold hj_Fk
            rw [hj_cn_ret, hj_rm_ret]
            exact hj_Ls_nf hls d' 0 (by omega)
          exact br_f (by decide) (Y0 (fun fl => absurd fl nf) (fun _ ts tr sz ls => ⟨rfl, Jn _ _ _ _ _ _ _ _ _ _ ts tr sz ls hM'⟩))
      | succ n ih =>
        intro j xE hj he
        have cj : (nI j).toNatClampNeg = j := nI_clamp (by omega)
        refine br_f (nI_ge (by omega) (by omega)) ?_
        rw [cj, h7.1 j (by omega)]
        refine ⟨vp_in_nI (by omega) (by omega), hx_addToPrefix h6 (by omega) he ?_⟩
        intro xE' he'
        exact nm_r (nI_1 j) (ih (j + 1) xE' (by omega) he')
    exact ⟨E + 1, key E 0 a_expected (by omega) (fun o ho => absurd ho (by show ¬ o < 0; omega))⟩
theorem i_vc_witnessResult {k : Nat} {u : SX} {v : SY} (I : i_Rel k u v) (hk : k + 5 ≤ 2564) (v1 : Int32) : wpX_witnessResult (fun r => wpY_witnessResult (fun r' v' => r' = r ∧ i_Rel (k + 5) u v') v v1) u v1 := by
  refine hj_el (Z := fun u v => wpX_witnessResult (fun r => wpY_witnessResult (fun r' v' => r' = r ∧ i_Rel (k + 5) u v') v v1) u v1) ?_ I
  intro f_objectKind f_judged f_goodEvents f_witnessSize f_finalState f_present f_must f_pathLength a_events a_opProcess a_opKind a_opA a_opB a_opResult a_opBefore a_openOp a_witness a_witnessResults a_expected a_doneAt a_stateAt a_tryAt a_path a_memoKey a_memoStamp g_good g_witnessSize g_trialSize g_size b_evCode b_evProcess b_evKind b_evA b_evB b_evResult b_witness b_trial b_list c pr bf E np no nq g hr
  have J := hj_mk (f_present := f_present) (f_must := f_must) (f_pathLength := f_pathLength) (a_expected := a_expected) (a_doneAt := a_doneAt) (a_stateAt := a_stateAt) (a_tryAt := a_tryAt) (a_path := a_path) (g_trialSize := g_trialSize) (g_size := g_size) (b_trial := b_trial) (b_list := b_list) (hj_RR_up hr)
  obtain ⟨⟨h1, h2, h3, h4⟩, h5, h6, h7, ⟨h8, h9⟩, h10⟩ := hr
  have hE := hj_H_E h6
  have J' : ∀ sz ls, i_Rel (k + 5) (nI np, nI no, nI nq, f_objectKind, nI E, nI (hj_cn c E), nI (hj_rm c E), f_judged, f_goodEvents, f_witnessSize, f_finalState, f_present, f_must, f_pathLength, lN g, a_events, a_opProcess, a_opKind, a_opA, a_opB, a_opResult, a_opBefore, a_openOp, a_witness, a_witnessResults, a_expected, a_doneAt, a_stateAt, a_tryAt, a_path, a_memoKey, a_memoStamp) (f_objectKind, nI np, nI no, nI nq, nI E, f_judged, g_good, g_witnessSize, g_trialSize, sz, b_evCode, b_evProcess, b_evKind, b_evA, b_evB, b_evResult, b_witness, b_trial, ls) := fun sz ls => hj_mk (k := k + 5) ⟨⟨h1, h2, h3, h4⟩, h5, h6, h7, ⟨by omega, h9⟩, h10⟩
  refine br_c (fun e => br_t e ⟨rfl, J⟩) (fun e => ?_)
  obtain ⟨-, ew, w, W, ews, hw, hW, -⟩ := hj_JJ_1 h10 e
  refine br_c (fun a => br_f e (br_t a ⟨rfl, J⟩)) (fun a => br_c (fun b => ?_) (fun b => br_f e (br_f a (br_f (by rw [ew]; exact b) ⟨rfl, J⟩))))
  obtain ⟨j, hj, rfl⟩ := nI_of a
  have b' := b
  rw [ews, nI_ltI hj (by omega)] at b'
  have hin : vp_in (nI j) 8 := vp_in_nI (by omega) (by omega)
  have cj : (nI j).toNatClampNeg = j := nI_clamp (by omega)
  refine ⟨hin, br_f e (br_f a (br_t (by rw [ew]; exact b) ?_))⟩
  rw [cj, nI_1, (hW j b').2.2.2]
  refine hy_run (m := j + 1) (W := W) h6 ⟨nq, h3, rfl⟩ h5 (by omega) (fun i hi => ⟨(hW i (by omega)).2.2.1, (hW i (by omega)).1⟩) ?_
  intro r z V ls er eS g' dg
  exact ⟨er (by omega), J' _ _⟩
theorem i_vc_finalAt {k : Nat} {u : SX} {v : SY} (I : i_Rel k u v) (hk : k + 5 ≤ 2564) (v1 : Int32) : wpX_finalAt (fun r => wpY_finalAt (fun r' v' => r' = r ∧ i_Rel (k + 5) u v') v v1) u v1 := by
  refine hj_el (Z := fun u v => wpX_finalAt (fun r => wpY_finalAt (fun r' v' => r' = r ∧ i_Rel (k + 5) u v') v v1) u v1) ?_ I
  intro f_objectKind f_judged f_goodEvents f_witnessSize f_finalState f_present f_must f_pathLength a_events a_opProcess a_opKind a_opA a_opB a_opResult a_opBefore a_openOp a_witness a_witnessResults a_expected a_doneAt a_stateAt a_tryAt a_path a_memoKey a_memoStamp g_good g_witnessSize g_trialSize g_size b_evCode b_evProcess b_evKind b_evA b_evB b_evResult b_witness b_trial b_list c pr bf E np no nq g hr
  have J := hj_mk (f_present := f_present) (f_must := f_must) (f_pathLength := f_pathLength) (a_expected := a_expected) (a_doneAt := a_doneAt) (a_stateAt := a_stateAt) (a_tryAt := a_tryAt) (a_path := a_path) (g_trialSize := g_trialSize) (g_size := g_size) (b_trial := b_trial) (b_list := b_list) (hj_RR_up hr)
  obtain ⟨⟨h1, h2, h3, h4⟩, h5, h6, h7, ⟨h8, h9⟩, h10⟩ := hr
  have hE := hj_H_E h6
  have J' : ∀ sz ls, i_Rel (k + 5) (nI np, nI no, nI nq, f_objectKind, nI E, nI (hj_cn c E), nI (hj_rm c E), f_judged, f_goodEvents, f_witnessSize, f_finalState, f_present, f_must, f_pathLength, lN g, a_events, a_opProcess, a_opKind, a_opA, a_opB, a_opResult, a_opBefore, a_openOp, a_witness, a_witnessResults, a_expected, a_doneAt, a_stateAt, a_tryAt, a_path, a_memoKey, a_memoStamp) (f_objectKind, nI np, nI no, nI nq, nI E, f_judged, g_good, g_witnessSize, g_trialSize, sz, b_evCode, b_evProcess, b_evKind, b_evA, b_evB, b_evResult, b_witness, b_trial, ls) := fun sz ls => hj_mk (k := k + 5) ⟨⟨h1, h2, h3, h4⟩, h5, h6, h7, ⟨by omega, h9⟩, h10⟩
  refine br_c (fun e => br_t e ⟨rfl, J⟩) (fun e => ?_)
  obtain ⟨-, ew, w, W, ews, hw, hW, hfs⟩ := hj_JJ_1 h10 e
  refine br_c (fun a => br_f e (br_t a ⟨rfl, J⟩)) (fun a => br_c (fun b => ?_) (fun b => br_f e (br_f a (br_f b ⟨rfl, J⟩))))
  obtain ⟨j, hj, rfl⟩ := nI_of2 (M := 7) (n := 7) (by decide) a b
  have cj : (nI j).toNatClampNeg = j := nI_clamp (by omega)
  have e3 : (3 : Int32) * nI j = nI (3 * j) := pk_mul 3 j
  have ewt : g_witnessSize = nI w := ew.trans ews
  have Y0 : ∀ {post : Int32 → SY → Prop}, (∀ z V ls, f_finalState = hj_pk z V → hj_G f_objectKind z V → (∀ i, i < z → ls i = nI (V / 8 ^ i % 8)) → ((nI z ≤ nI j → post (-9) (f_objectKind, nI np, nI no, nI nq, nI E, f_judged, g_good, g_witnessSize, g_trialSize, nI z, b_evCode, b_evProcess, b_evKind, b_evA, b_evB, b_evResult, b_witness, b_trial, ls)) ∧ (¬ nI z ≤ nI j → post (ls j) (f_objectKind, nI np, nI no, nI nq, nI E, f_judged, g_good, g_witnessSize, g_trialSize, nI z, b_evCode, b_evProcess, b_evKind, b_evA, b_evB, b_evResult, b_witness, b_trial, ls)))) → wpY_finalAt post (f_objectKind, nI np, nI no, nI nq, nI E, f_judged, g_good, g_witnessSize, g_trialSize, g_size, b_evCode, b_evProcess, b_evKind, b_evA, b_evB, b_evResult, b_witness, b_trial, b_list) (nI j) := by
    intro post hp
    refine br_f e (br_f a (br_t b ?_))
    rw [ewt]
    refine hy_run (m := w) (W := W) h6 ⟨nq, h3, rfl⟩ h5 hw (fun i hi => ⟨(hW i hi).2.2.1, (hW i hi).1⟩) ?_
    intro r z V ls er eS g' dg
    rw [cj, ← ewt]
    obtain ⟨p1, p2⟩ := hp z V ls (hfs.trans eS) g' dg
    exact br_c p1 (fun n => ⟨vp_in_nI (by omega) (by omega), p2 n⟩)
  refine nm_r (e' := hj_sz f_finalState) rfl (br_c (fun y => Y0 ?_) (fun y => Y0 ?_))
  · intro z V ls ef gS dg
    rw [ef, hj_sz_pk gS] at y
    exact br_t y ⟨rfl, J' _ _⟩
  · intro z V ls ef gS dg
    rw [ef, hj_sz_pk gS] at y
    refine br_f y ⟨?_, J' _ _⟩
    have h8' := gS.1
    rw [nI_leI (by omega) (by omega)] at y
    rw [dg j (by omega), e3, ef]
    exact (hj_at_pk gS (by omega)).symm
end

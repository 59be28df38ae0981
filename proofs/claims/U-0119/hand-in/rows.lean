section
/-! pure rows to paste: stores, nI and lN arithmetic, masks, shifts, narrowing, branches by naturals (pk_le, pk_lt, pk_eq), loops (lp1 .. lp16: the measure of the state; rp1 ..: recursion), negatives. Take what you need -/
theorem pk_us {f : Nat → Int32} {k : Nat} {x : Int32} : upd f k x k = x := if_pos rfl
theorem pk_un {f : Nat → Int32} {k j : Nat} {x : Int32} (h : j ≠ k) : upd f k x j = f j := if_neg h
theorem pk_uLs {f : Nat → Int64} {k : Nat} {x : Int64} : vp_updL f k x k = x := if_pos rfl
theorem pk_uLn {f : Nat → Int64} {k j : Nat} {x : Int64} (h : j ≠ k) : vp_updL f k x j = f j := if_neg h
theorem pk_sub {a b : Nat} (h : b ≤ a) : nI a - nI b = nI (a - b) := by
  obtain ⟨c, rfl⟩ : ∃ c, a = c + b := ⟨a - b, by omega⟩
  rw [← nI_add, Int32.add_sub_cancel, Nat.add_sub_cancel]
theorem pk_m1 (n : Nat) : nI (n + 1) + (-1) = nI n := by
  rw [← nI_1, Int32.add_assoc, show (1 : Int32) + (-1) = 0 from rfl, Int32.add_zero]
theorem pk_mul (a b : Nat) : nI a * nI b = nI (a * b) := (Int32.ofNat_mul a b).symm
theorem pk_div {a d : Nat} (ha : a < 2 ^ 31) (h0 : 0 < d) (hd : d < 2 ^ 31) : nI a / nI d = nI (a / d) := by
  apply Int32.toInt_inj.mp
  rw [lg_idiv_nonneg (by rw [nI_toInt ha]; omega) (by rw [nI_toInt hd]; omega), nI_toInt ha, nI_toInt hd, nI_toInt (Nat.lt_of_le_of_lt (Nat.div_le_self a d) ha)]
  first | rfl | exact (Int.natCast_ediv _ _).symm
theorem pk_rem {a d : Nat} (ha : a < 2 ^ 31) (h0 : 0 < d) (hd : d < 2 ^ 31) : nI a - nI a / nI d * nI d = nI (a % d) := by
  rw [pk_div ha h0 hd, pk_mul, pk_sub (Nat.div_mul_le_self a d)]
  exact congrArg nI (by have := Nat.div_add_mod' a d; omega)
theorem pk_sub_toInt {a b : Nat} (ha : a < 2 ^ 30) (hb : b < 2 ^ 30) : (nI a - nI b).toInt = (a : Int) - b := by
  rw [Int32.toInt_sub, nI_toInt (by omega), nI_toInt (by omega)]
  exact Int.bmod_eq_of_le (by omega) (by omega)
theorem pk_sneg {a b : Nat} (hb : b < 2 ^ 30) (h : a < b) : nI a - nI b < 0 := by
  rw [Int32.lt_iff_toInt_lt, pk_sub_toInt (by omega) hb, show (0 : Int32).toInt = 0 from by decide]
  omega
theorem pk_ix (x : Int32) {n : Nat} (hn : n < 2 ^ 31) : x < 0 ∨ nI n ≤ x ∨ ∃ j : Nat, j < n ∧ x = nI j := by
  by_cases h : x < 0
  · exact Or.inl h
  · obtain ⟨j, hj, rfl⟩ := nI_of h
    by_cases h2 : j < n
    · exact Or.inr (Or.inr ⟨j, h2, rfl⟩)
    · exact Or.inr (Or.inl (nI_le (by omega) hj))
theorem pk_le {x y : Int32} {A B : Prop} (a b : Nat) (f : a ≤ b → A) (g : b < a → B) (hx : x = nI a := by rfl) (hy : y = nI b := by rfl) (ha : a < 2 ^ 31 := by omega) (hb : b < 2 ^ 31 := by omega) : (x ≤ y → A) ∧ (¬ x ≤ y → B) := by
  subst hx hy
  rw [nI_leI ha hb]
  exact ⟨f, fun z => g (by omega)⟩
theorem pk_lt {x y : Int32} {A B : Prop} (a b : Nat) (f : a < b → A) (g : b ≤ a → B) (hx : x = nI a := by rfl) (hy : y = nI b := by rfl) (ha : a < 2 ^ 31 := by omega) (hb : b < 2 ^ 31 := by omega) : (x < y → A) ∧ (¬ x < y → B) := by
  subst hx hy
  rw [nI_ltI ha hb]
  exact ⟨f, fun z => g (by omega)⟩
theorem pk_eq {x y : Int32} {A B : Prop} (a b : Nat) (f : a = b → A) (g : a ≠ b → B) (hx : x = nI a := by rfl) (hy : y = nI b := by rfl) (ha : a < 2 ^ 31 := by omega) (hb : b < 2 ^ 31 := by omega) : (x = y → A) ∧ (¬ x = y → B) := by
  subst hx hy
  rw [nI_eq ha hb]
  exact ⟨f, g⟩
theorem pk_in {x : Int32} (n N : Nat) (h : n < N) (hx : x = nI n := by rfl) (hN : N < 2 ^ 31 := by omega) : vp_in x N := by
  subst hx
  exact vp_in_nI h hN
theorem pk_cl {x : Int32} (n : Nat) (hx : x = nI n := by rfl) (h : n < 2 ^ 31 := by omega) : x.toNatClampNeg = n := by
  subst hx
  exact nI_clamp h
theorem pk_tn {n : Nat} (h : n < 2 ^ 32) : (nI n).toBitVec.toNat = n := Nat.mod_eq_of_lt h
theorem pk_and (x : Int32) {m : Int32} (k : Nat) (hm : m.toBitVec.toNat = 2 ^ k - 1) : x &&& m = nI (x.toBitVec.toNat % 2 ^ k) := by
  apply Int32.toBitVec_inj.mp
  apply BitVec.eq_of_toNat_eq
  rw [Int32.toBitVec_and, BitVec.toNat_and, hm, Nat.and_two_pow_sub_one_eq_mod]
  show _ = (BitVec.ofNat 32 _).toNat
  rw [BitVec.toNat_ofNat]
  exact (Nat.mod_eq_of_lt (Nat.lt_of_le_of_lt (Nat.mod_le _ _) x.toBitVec.isLt)).symm
theorem pk_andN {n : Nat} (h : n < 2 ^ 32) {m : Int32} (k : Nat) (hm : m.toBitVec.toNat = 2 ^ k - 1) : nI n &&& m = nI (n % 2 ^ k) := by
  rw [pk_and _ k hm, pk_tn h]
theorem pk_andE (x : Int32) {m : Int32} (k : Nat) (hm : m.toBitVec.toNat = 2 ^ k - 1) : ∃ j : Nat, j < 2 ^ k ∧ x &&& m = nI j := ⟨_, Nat.mod_lt _ (Nat.two_pow_pos k), pk_and x k hm⟩
theorem pk_andIn (x : Int32) {m : Int32} (k : Nat) (hm : m.toBitVec.toNat = 2 ^ k - 1) (hk : k ≤ 30) : vp_in (x &&& m) (2 ^ k) := by
  obtain ⟨j, hj, e⟩ := pk_andE x k hm
  rw [e]
  exact vp_in_nI hj (Nat.lt_of_le_of_lt (Nat.pow_le_pow_right (by decide) hk) (by decide))
theorem pk_shl (a s : Int32) (k : Nat) (hs : (s.toBitVec.smod 32).toNat = k) : (a <<< s).toBitVec.toNat = a.toBitVec.toNat * 2 ^ k % 2 ^ 32 := by
  show (a.toBitVec <<< (s.toBitVec.smod 32).toNat).toNat = _
  rw [hs, BitVec.toNat_shiftLeft, Nat.shiftLeft_eq]
theorem pk_shlN {n : Nat} (s : Int32) (k : Nat) (hs : (s.toBitVec.smod 32).toNat = k) (h : n * 2 ^ k < 2 ^ 32) : nI n <<< s = nI (n * 2 ^ k) := by
  apply Int32.toBitVec_inj.mp
  apply BitVec.eq_of_toNat_eq
  have hn : n < 2 ^ 32 := Nat.lt_of_le_of_lt (Nat.le_mul_of_pos_right n (Nat.two_pow_pos k)) h
  rw [pk_shl _ _ k hs, pk_tn hn, pk_tn h, Nat.mod_eq_of_lt h]
theorem pk_shr (a s : Int32) (k : Nat) (hs : (s.toBitVec.smod 32).toNat = k) : (a >>> s).toInt = a.toInt >>> k := by
  show (a.toBitVec.sshiftRight (s.toBitVec.smod 32).toNat).toInt = _
  rw [hs, BitVec.toInt_sshiftRight]
  rfl
theorem pk_shrN {n : Nat} (h : n < 2 ^ 31) (s : Int32) (k : Nat) (hs : (s.toBitVec.smod 32).toNat = k) : nI n >>> s = nI (n / 2 ^ k) := by
  apply Int32.toInt_inj.mp
  have h2 : n / 2 ^ k ≤ n := Nat.div_le_self _ _
  rw [pk_shr _ _ k hs, nI_toInt h, nI_toInt (by omega), Int.shiftRight_eq_div_pow]
  rfl
theorem pk_ushr (x s : Int32) (k : Nat) (hs : ((s.toUInt32 &&& Int32.toUInt32 31).toBitVec % 32).toNat = k) : (x.toUInt32 >>> (s.toUInt32 &&& Int32.toUInt32 31)).toInt32.toBitVec.toNat = x.toBitVec.toNat / 2 ^ k := by
  have e : (x.toUInt32 >>> (s.toUInt32 &&& Int32.toUInt32 31)).toInt32.toBitVec = x.toBitVec >>> k := by
    rw [← hs]
    exact UInt32.toBitVec_shiftRight _ _
  rw [e, BitVec.toNat_ushiftRight, Nat.shiftRight_eq_div_pow]
theorem pk_ushrN {n : Nat} (hn : n < 2 ^ 32) (s : Int32) (k : Nat) (hs : ((s.toUInt32 &&& Int32.toUInt32 31).toBitVec % 32).toNat = k) : ((nI n).toUInt32 >>> (s.toUInt32 &&& Int32.toUInt32 31)).toInt32 = nI (n / 2 ^ k) := by
  apply Int32.toBitVec_inj.mp
  apply BitVec.eq_of_toNat_eq
  rw [pk_ushr _ s k hs, pk_tn hn, pk_tn (Nat.lt_of_le_of_lt (Nat.div_le_self _ _) hn)]
theorem pk_nb (z : Int32) : narrow .byte (.int z.toInt8.toInt32) = .int z.toInt8.toInt32 := congrArg Value.int (by simp)
theorem pk_ns (z : Int32) : narrow .short (.int z.toInt16.toInt32) = .int z.toInt16.toInt32 := congrArg Value.int (by simp)
theorem pk_fb (r : Int32) : fits .byte (.int r.toInt8.toInt32) = true := by
  have ⟨a, b⟩ := lg_i2b_range r
  have h1 : (-128 : Int32).toInt = -128 := by decide
  have h2 : (127 : Int32).toInt = 127 := by decide
  simp only [fits, Bool.and_eq_true, decide_eq_true_eq, Int32.le_iff_toInt_le, h1, h2]
  omega
theorem pk_fs (r : Int32) : fits .short (.int r.toInt16.toInt32) = true := by
  have ⟨a, b⟩ := lg_i2s_range r
  have h1 : (-32768 : Int32).toInt = -32768 := by decide
  have h2 : (32767 : Int32).toInt = 32767 := by decide
  simp only [fits, Bool.and_eq_true, decide_eq_true_eq, Int32.le_iff_toInt_le, h1, h2]
  omega
theorem pk_charN {q : Nat} (hq : q < 65536) : narrow .char (.int (nI q)) = .int (nI q) ∧ fits .char (.int (nI q)) = true := by
  constructor
  · have e : (nI q).toUInt32.toUInt16.toUInt32.toInt32 = nI q := by
      apply Int32.toBitVec_inj.mp
      apply BitVec.eq_of_toNat_eq
      show (nI q).toUInt32.toUInt16.toUInt32.toNat = q % 2 ^ 32
      rw [UInt16.toNat_toUInt32, UInt32.toNat_toUInt16, show (nI q).toUInt32.toNat = q % 2 ^ 32 from rfl]
      omega
    exact congrArg Value.int e
  · have a : (0 : Int32) ≤ nI q := nI_pos' (by omega)
    have b : nI q ≤ 65535 := nI_le (b := 65535) (by omega) (by decide)
    show (decide ((0 : Int32) ≤ nI q) && decide (nI q ≤ 65535)) = true
    rw [decide_eq_true a, decide_eq_true b]
    rfl
theorem pk_char (x : Int32) : (x.toUInt32 % 65536).toInt32 = nI (x.toBitVec.toNat % 65536) := by
  apply Int32.toBitVec_inj.mp
  apply BitVec.eq_of_toNat_eq
  rw [pk_tn (by omega)]
  show (x.toUInt32 % 65536).toNat = _
  rw [UInt32.toNat_mod]
  rfl
theorem pk_nc (x : Int32) : narrow .char (.int (x.toUInt32 % 65536).toInt32) = .int (x.toUInt32 % 65536).toInt32 := by
  rw [pk_char]
  exact (pk_charN (Nat.mod_lt _ (by decide))).1
theorem pk_fc (x : Int32) : fits .char (.int (x.toUInt32 % 65536).toInt32) = true := by
  rw [pk_char]
  exact (pk_charN (Nat.mod_lt _ (by decide))).2
theorem pk_vb (z : Int32) : vp_nar .byte z.toInt8.toInt32 = z.toInt8.toInt32 := by rw [vp_nar_byte]; simp
theorem pk_vs (z : Int32) : vp_nar .short z.toInt16.toInt32 = z.toInt16.toInt32 := by rw [vp_nar_short]; simp
theorem pk_vc (z : Int32) : vp_nar .char (z.toUInt32 % 65536).toInt32 = (z.toUInt32 % 65536).toInt32 := Value.int.inj (pk_nc z)
theorem pk_lT {n : Nat} (h : n < 2 ^ 63) : (lN n).toInt = (n : Int) := lg_ofNat_toInt h
theorem pk_lLT {a b : Nat} (ha : a < 2 ^ 63) (hb : b < 2 ^ 63) : lN a < lN b ↔ a < b := by
  rw [Int64.lt_iff_toInt_lt, pk_lT ha, pk_lT hb]; omega
theorem pk_lLE {a b : Nat} (ha : a < 2 ^ 63) (hb : b < 2 ^ 63) : lN a ≤ lN b ↔ a ≤ b := by
  rw [Int64.le_iff_toInt_le, pk_lT ha, pk_lT hb]; omega
theorem pk_lEQ {a b : Nat} (ha : a < 2 ^ 63) (hb : b < 2 ^ 63) : lN a = lN b ↔ a = b := by
  rw [← Int64.toInt_inj, pk_lT ha, pk_lT hb]; omega
theorem pk_lOf {x : Int64} (h : ¬ x < 0) : ∃ k : Nat, k < 2 ^ 63 ∧ x = lN k := by
  rw [Int64.lt_iff_toInt_lt] at h
  have h0 : (0 : Int64).toInt = 0 := by decide
  have hx := Int64.toInt_lt x
  refine ⟨x.toInt.toNat, by omega, Int64.toInt_inj.mp ?_⟩
  rw [pk_lT (by omega)]
  omega
theorem pk_lDiv {a b : Nat} (ha : a < 2 ^ 63) (h0 : 0 < b) (hb : b < 2 ^ 63) : lN a / lN b = lN (a / b) := by
  apply Int64.toInt_inj.mp
  rw [lg_ldiv_nonneg (by rw [pk_lT ha]; omega) (by rw [pk_lT hb]; omega), pk_lT ha, pk_lT hb, pk_lT (Nat.lt_of_le_of_lt (Nat.div_le_self a b) ha)]
  rfl
theorem pk_lRem {a b : Nat} (ha : a < 2 ^ 63) (h0 : 0 < b) (hb : b < 2 ^ 63) : lN a - lN a / lN b * lN b = lN (a % b) := by
  rw [pk_lDiv ha h0 hb, lN_mul, lN_sub (Nat.div_mul_le_self a b)]
  exact congrArg lN (by have := Nat.div_add_mod' a b; omega)
theorem pk_loop {σ : Type} (W : Nat → Nat → σ → Prop) (I : Nat → σ → Prop) (e i0 : Nat) (s : σ) (hi : i0 ≤ e) (h0 : I i0 s) (hx : ∀ n s, I e s → W (n + 1) e s)
    (hs : ∀ n i s, i < e → I i s → (∀ s', I (i + 1) s' → W n (i + 1) s') → W (n + 1) i s) : ∃ n, W n i0 s :=
  ⟨e + 1, loop_i W I e hx hs (e + 1) i0 s hi (by omega) h0⟩
theorem pk_loopD {σ : Type} (W : Nat → Nat → σ → Prop) (I : Nat → σ → Prop) (hx : ∀ n s, I 0 s → W (n + 1) 0 s)
    (hs : ∀ n i s, I (i + 1) s → (∀ s', I i s' → W n i s') → W (n + 1) (i + 1) s) : ∀ (e : Nat) (s : σ), I e s → W (e + 1) e s := by
  intro e
  induction e with
  | zero => exact fun s h => hx 0 s h
  | succ e ih => exact fun s h => hs (e + 1) e s h (fun s' h' => ih s' h')
theorem lp1 {A1 : Type} (W : Nat → A1 → Prop) (I : A1 → Prop) (μ : A1 → Nat) (hs : ∀ (n : Nat) (a1 : A1), I a1 → (∀ (b1 : A1), I b1 → μ b1 < μ a1 → W n b1) → W (n + 1) a1) (a1 : A1) (h : I a1) : ∃ n, W n a1 :=
  loop_m (σ := A1) (fun n s => W n s) (fun s => I s) (fun s => μ s) (fun n s hI hk => hs n s hI (fun b1 h9 hm => hk b1 h9 hm)) a1 h
theorem lp2 {A1 A2 : Type} (W : Nat → A1 → A2 → Prop) (I : A1 → A2 → Prop) (μ : A1 → A2 → Nat) (hs : ∀ (n : Nat) (a1 : A1) (a2 : A2), I a1 a2 → (∀ (b1 : A1) (b2 : A2), I b1 b2 → μ b1 b2 < μ a1 a2 → W n b1 b2) → W (n + 1) a1 a2) (a1 : A1) (a2 : A2) (h : I a1 a2) : ∃ n, W n a1 a2 :=
  loop_m (σ := A1 × A2) (fun n s => W n s.1 s.2) (fun s => I s.1 s.2) (fun s => μ s.1 s.2) (fun n s hI hk => hs n s.1 s.2 hI (fun b1 b2 h9 hm => hk (b1, b2) h9 hm)) (a1, a2) h
theorem lp3 {A1 A2 A3 : Type} (W : Nat → A1 → A2 → A3 → Prop) (I : A1 → A2 → A3 → Prop) (μ : A1 → A2 → A3 → Nat) (hs : ∀ (n : Nat) (a1 : A1) (a2 : A2) (a3 : A3), I a1 a2 a3 → (∀ (b1 : A1) (b2 : A2) (b3 : A3), I b1 b2 b3 → μ b1 b2 b3 < μ a1 a2 a3 → W n b1 b2 b3) → W (n + 1) a1 a2 a3) (a1 : A1) (a2 : A2) (a3 : A3) (h : I a1 a2 a3) : ∃ n, W n a1 a2 a3 :=
  loop_m (σ := A1 × A2 × A3) (fun n s => W n s.1 s.2.1 s.2.2) (fun s => I s.1 s.2.1 s.2.2) (fun s => μ s.1 s.2.1 s.2.2) (fun n s hI hk => hs n s.1 s.2.1 s.2.2 hI (fun b1 b2 b3 h9 hm => hk (b1, b2, b3) h9 hm)) (a1, a2, a3) h
theorem lp4 {A1 A2 A3 A4 : Type} (W : Nat → A1 → A2 → A3 → A4 → Prop) (I : A1 → A2 → A3 → A4 → Prop) (μ : A1 → A2 → A3 → A4 → Nat) (hs : ∀ (n : Nat) (a1 : A1) (a2 : A2) (a3 : A3) (a4 : A4), I a1 a2 a3 a4 → (∀ (b1 : A1) (b2 : A2) (b3 : A3) (b4 : A4), I b1 b2 b3 b4 → μ b1 b2 b3 b4 < μ a1 a2 a3 a4 → W n b1 b2 b3 b4) → W (n + 1) a1 a2 a3 a4) (a1 : A1) (a2 : A2) (a3 : A3) (a4 : A4) (h : I a1 a2 a3 a4) : ∃ n, W n a1 a2 a3 a4 :=
  loop_m (σ := A1 × A2 × A3 × A4) (fun n s => W n s.1 s.2.1 s.2.2.1 s.2.2.2) (fun s => I s.1 s.2.1 s.2.2.1 s.2.2.2) (fun s => μ s.1 s.2.1 s.2.2.1 s.2.2.2) (fun n s hI hk => hs n s.1 s.2.1 s.2.2.1 s.2.2.2 hI (fun b1 b2 b3 b4 h9 hm => hk (b1, b2, b3, b4) h9 hm)) (a1, a2, a3, a4) h
theorem lp5 {A1 A2 A3 A4 A5 : Type} (W : Nat → A1 → A2 → A3 → A4 → A5 → Prop) (I : A1 → A2 → A3 → A4 → A5 → Prop) (μ : A1 → A2 → A3 → A4 → A5 → Nat) (hs : ∀ (n : Nat) (a1 : A1) (a2 : A2) (a3 : A3) (a4 : A4) (a5 : A5), I a1 a2 a3 a4 a5 → (∀ (b1 : A1) (b2 : A2) (b3 : A3) (b4 : A4) (b5 : A5), I b1 b2 b3 b4 b5 → μ b1 b2 b3 b4 b5 < μ a1 a2 a3 a4 a5 → W n b1 b2 b3 b4 b5) → W (n + 1) a1 a2 a3 a4 a5) (a1 : A1) (a2 : A2) (a3 : A3) (a4 : A4) (a5 : A5) (h : I a1 a2 a3 a4 a5) : ∃ n, W n a1 a2 a3 a4 a5 :=
  loop_m (σ := A1 × A2 × A3 × A4 × A5) (fun n s => W n s.1 s.2.1 s.2.2.1 s.2.2.2.1 s.2.2.2.2) (fun s => I s.1 s.2.1 s.2.2.1 s.2.2.2.1 s.2.2.2.2) (fun s => μ s.1 s.2.1 s.2.2.1 s.2.2.2.1 s.2.2.2.2) (fun n s hI hk => hs n s.1 s.2.1 s.2.2.1 s.2.2.2.1 s.2.2.2.2 hI (fun b1 b2 b3 b4 b5 h9 hm => hk (b1, b2, b3, b4, b5) h9 hm)) (a1, a2, a3, a4, a5) h
theorem lp6 {A1 A2 A3 A4 A5 A6 : Type} (W : Nat → A1 → A2 → A3 → A4 → A5 → A6 → Prop) (I : A1 → A2 → A3 → A4 → A5 → A6 → Prop) (μ : A1 → A2 → A3 → A4 → A5 → A6 → Nat) (hs : ∀ (n : Nat) (a1 : A1) (a2 : A2) (a3 : A3) (a4 : A4) (a5 : A5) (a6 : A6), I a1 a2 a3 a4 a5 a6 → (∀ (b1 : A1) (b2 : A2) (b3 : A3) (b4 : A4) (b5 : A5) (b6 : A6), I b1 b2 b3 b4 b5 b6 → μ b1 b2 b3 b4 b5 b6 < μ a1 a2 a3 a4 a5 a6 → W n b1 b2 b3 b4 b5 b6) → W (n + 1) a1 a2 a3 a4 a5 a6) (a1 : A1) (a2 : A2) (a3 : A3) (a4 : A4) (a5 : A5) (a6 : A6) (h : I a1 a2 a3 a4 a5 a6) : ∃ n, W n a1 a2 a3 a4 a5 a6 :=
  loop_m (σ := A1 × A2 × A3 × A4 × A5 × A6) (fun n s => W n s.1 s.2.1 s.2.2.1 s.2.2.2.1 s.2.2.2.2.1 s.2.2.2.2.2) (fun s => I s.1 s.2.1 s.2.2.1 s.2.2.2.1 s.2.2.2.2.1 s.2.2.2.2.2) (fun s => μ s.1 s.2.1 s.2.2.1 s.2.2.2.1 s.2.2.2.2.1 s.2.2.2.2.2) (fun n s hI hk => hs n s.1 s.2.1 s.2.2.1 s.2.2.2.1 s.2.2.2.2.1 s.2.2.2.2.2 hI (fun b1 b2 b3 b4 b5 b6 h9 hm => hk (b1, b2, b3, b4, b5, b6) h9 hm)) (a1, a2, a3, a4, a5, a6) h
theorem lp7 {A1 A2 A3 A4 A5 A6 A7 : Type} (W : Nat → A1 → A2 → A3 → A4 → A5 → A6 → A7 → Prop) (I : A1 → A2 → A3 → A4 → A5 → A6 → A7 → Prop) (μ : A1 → A2 → A3 → A4 → A5 → A6 → A7 → Nat) (hs : ∀ (n : Nat) (a1 : A1) (a2 : A2) (a3 : A3) (a4 : A4) (a5 : A5) (a6 : A6) (a7 : A7), I a1 a2 a3 a4 a5 a6 a7 → (∀ (b1 : A1) (b2 : A2) (b3 : A3) (b4 : A4) (b5 : A5) (b6 : A6) (b7 : A7), I b1 b2 b3 b4 b5 b6 b7 → μ b1 b2 b3 b4 b5 b6 b7 < μ a1 a2 a3 a4 a5 a6 a7 → W n b1 b2 b3 b4 b5 b6 b7) → W (n + 1) a1 a2 a3 a4 a5 a6 a7) (a1 : A1) (a2 : A2) (a3 : A3) (a4 : A4) (a5 : A5) (a6 : A6) (a7 : A7) (h : I a1 a2 a3 a4 a5 a6 a7) : ∃ n, W n a1 a2 a3 a4 a5 a6 a7 :=
  loop_m (σ := A1 × A2 × A3 × A4 × A5 × A6 × A7) (fun n s => W n s.1 s.2.1 s.2.2.1 s.2.2.2.1 s.2.2.2.2.1 s.2.2.2.2.2.1 s.2.2.2.2.2.2) (fun s => I s.1 s.2.1 s.2.2.1 s.2.2.2.1 s.2.2.2.2.1 s.2.2.2.2.2.1 s.2.2.2.2.2.2) (fun s => μ s.1 s.2.1 s.2.2.1 s.2.2.2.1 s.2.2.2.2.1 s.2.2.2.2.2.1 s.2.2.2.2.2.2) (fun n s hI hk => hs n s.1 s.2.1 s.2.2.1 s.2.2.2.1 s.2.2.2.2.1 s.2.2.2.2.2.1 s.2.2.2.2.2.2 hI (fun b1 b2 b3 b4 b5 b6 b7 h9 hm => hk (b1, b2, b3, b4, b5, b6, b7) h9 hm)) (a1, a2, a3, a4, a5, a6, a7) h
theorem lp8 {A1 A2 A3 A4 A5 A6 A7 A8 : Type} (W : Nat → A1 → A2 → A3 → A4 → A5 → A6 → A7 → A8 → Prop) (I : A1 → A2 → A3 → A4 → A5 → A6 → A7 → A8 → Prop) (μ : A1 → A2 → A3 → A4 → A5 → A6 → A7 → A8 → Nat) (hs : ∀ (n : Nat) (a1 : A1) (a2 : A2) (a3 : A3) (a4 : A4) (a5 : A5) (a6 : A6) (a7 : A7) (a8 : A8), I a1 a2 a3 a4 a5 a6 a7 a8 → (∀ (b1 : A1) (b2 : A2) (b3 : A3) (b4 : A4) (b5 : A5) (b6 : A6) (b7 : A7) (b8 : A8), I b1 b2 b3 b4 b5 b6 b7 b8 → μ b1 b2 b3 b4 b5 b6 b7 b8 < μ a1 a2 a3 a4 a5 a6 a7 a8 → W n b1 b2 b3 b4 b5 b6 b7 b8) → W (n + 1) a1 a2 a3 a4 a5 a6 a7 a8) (a1 : A1) (a2 : A2) (a3 : A3) (a4 : A4) (a5 : A5) (a6 : A6) (a7 : A7) (a8 : A8) (h : I a1 a2 a3 a4 a5 a6 a7 a8) : ∃ n, W n a1 a2 a3 a4 a5 a6 a7 a8 :=
  loop_m (σ := A1 × A2 × A3 × A4 × A5 × A6 × A7 × A8) (fun n s => W n s.1 s.2.1 s.2.2.1 s.2.2.2.1 s.2.2.2.2.1 s.2.2.2.2.2.1 s.2.2.2.2.2.2.1 s.2.2.2.2.2.2.2) (fun s => I s.1 s.2.1 s.2.2.1 s.2.2.2.1 s.2.2.2.2.1 s.2.2.2.2.2.1 s.2.2.2.2.2.2.1 s.2.2.2.2.2.2.2) (fun s => μ s.1 s.2.1 s.2.2.1 s.2.2.2.1 s.2.2.2.2.1 s.2.2.2.2.2.1 s.2.2.2.2.2.2.1 s.2.2.2.2.2.2.2) (fun n s hI hk => hs n s.1 s.2.1 s.2.2.1 s.2.2.2.1 s.2.2.2.2.1 s.2.2.2.2.2.1 s.2.2.2.2.2.2.1 s.2.2.2.2.2.2.2 hI (fun b1 b2 b3 b4 b5 b6 b7 b8 h9 hm => hk (b1, b2, b3, b4, b5, b6, b7, b8) h9 hm)) (a1, a2, a3, a4, a5, a6, a7, a8) h
theorem lp9 {A1 A2 A3 A4 A5 A6 A7 A8 A9 : Type} (W : Nat → A1 → A2 → A3 → A4 → A5 → A6 → A7 → A8 → A9 → Prop) (I : A1 → A2 → A3 → A4 → A5 → A6 → A7 → A8 → A9 → Prop) (μ : A1 → A2 → A3 → A4 → A5 → A6 → A7 → A8 → A9 → Nat) (hs : ∀ (n : Nat) (a1 : A1) (a2 : A2) (a3 : A3) (a4 : A4) (a5 : A5) (a6 : A6) (a7 : A7) (a8 : A8) (a9 : A9), I a1 a2 a3 a4 a5 a6 a7 a8 a9 → (∀ (b1 : A1) (b2 : A2) (b3 : A3) (b4 : A4) (b5 : A5) (b6 : A6) (b7 : A7) (b8 : A8) (b9 : A9), I b1 b2 b3 b4 b5 b6 b7 b8 b9 → μ b1 b2 b3 b4 b5 b6 b7 b8 b9 < μ a1 a2 a3 a4 a5 a6 a7 a8 a9 → W n b1 b2 b3 b4 b5 b6 b7 b8 b9) → W (n + 1) a1 a2 a3 a4 a5 a6 a7 a8 a9) (a1 : A1) (a2 : A2) (a3 : A3) (a4 : A4) (a5 : A5) (a6 : A6) (a7 : A7) (a8 : A8) (a9 : A9) (h : I a1 a2 a3 a4 a5 a6 a7 a8 a9) : ∃ n, W n a1 a2 a3 a4 a5 a6 a7 a8 a9 :=
  loop_m (σ := A1 × A2 × A3 × A4 × A5 × A6 × A7 × A8 × A9) (fun n s => W n s.1 s.2.1 s.2.2.1 s.2.2.2.1 s.2.2.2.2.1 s.2.2.2.2.2.1 s.2.2.2.2.2.2.1 s.2.2.2.2.2.2.2.1 s.2.2.2.2.2.2.2.2) (fun s => I s.1 s.2.1 s.2.2.1 s.2.2.2.1 s.2.2.2.2.1 s.2.2.2.2.2.1 s.2.2.2.2.2.2.1 s.2.2.2.2.2.2.2.1 s.2.2.2.2.2.2.2.2) (fun s => μ s.1 s.2.1 s.2.2.1 s.2.2.2.1 s.2.2.2.2.1 s.2.2.2.2.2.1 s.2.2.2.2.2.2.1 s.2.2.2.2.2.2.2.1 s.2.2.2.2.2.2.2.2) (fun n s hI hk => hs n s.1 s.2.1 s.2.2.1 s.2.2.2.1 s.2.2.2.2.1 s.2.2.2.2.2.1 s.2.2.2.2.2.2.1 s.2.2.2.2.2.2.2.1 s.2.2.2.2.2.2.2.2 hI (fun b1 b2 b3 b4 b5 b6 b7 b8 b9 h9 hm => hk (b1, b2, b3, b4, b5, b6, b7, b8, b9) h9 hm)) (a1, a2, a3, a4, a5, a6, a7, a8, a9) h
theorem lp10 {A1 A2 A3 A4 A5 A6 A7 A8 A9 A10 : Type} (W : Nat → A1 → A2 → A3 → A4 → A5 → A6 → A7 → A8 → A9 → A10 → Prop) (I : A1 → A2 → A3 → A4 → A5 → A6 → A7 → A8 → A9 → A10 → Prop) (μ : A1 → A2 → A3 → A4 → A5 → A6 → A7 → A8 → A9 → A10 → Nat) (hs : ∀ (n : Nat) (a1 : A1) (a2 : A2) (a3 : A3) (a4 : A4) (a5 : A5) (a6 : A6) (a7 : A7) (a8 : A8) (a9 : A9) (a10 : A10), I a1 a2 a3 a4 a5 a6 a7 a8 a9 a10 → (∀ (b1 : A1) (b2 : A2) (b3 : A3) (b4 : A4) (b5 : A5) (b6 : A6) (b7 : A7) (b8 : A8) (b9 : A9) (b10 : A10), I b1 b2 b3 b4 b5 b6 b7 b8 b9 b10 → μ b1 b2 b3 b4 b5 b6 b7 b8 b9 b10 < μ a1 a2 a3 a4 a5 a6 a7 a8 a9 a10 → W n b1 b2 b3 b4 b5 b6 b7 b8 b9 b10) → W (n + 1) a1 a2 a3 a4 a5 a6 a7 a8 a9 a10) (a1 : A1) (a2 : A2) (a3 : A3) (a4 : A4) (a5 : A5) (a6 : A6) (a7 : A7) (a8 : A8) (a9 : A9) (a10 : A10) (h : I a1 a2 a3 a4 a5 a6 a7 a8 a9 a10) : ∃ n, W n a1 a2 a3 a4 a5 a6 a7 a8 a9 a10 :=
  loop_m (σ := A1 × A2 × A3 × A4 × A5 × A6 × A7 × A8 × A9 × A10) (fun n s => W n s.1 s.2.1 s.2.2.1 s.2.2.2.1 s.2.2.2.2.1 s.2.2.2.2.2.1 s.2.2.2.2.2.2.1 s.2.2.2.2.2.2.2.1 s.2.2.2.2.2.2.2.2.1 s.2.2.2.2.2.2.2.2.2) (fun s => I s.1 s.2.1 s.2.2.1 s.2.2.2.1 s.2.2.2.2.1 s.2.2.2.2.2.1 s.2.2.2.2.2.2.1 s.2.2.2.2.2.2.2.1 s.2.2.2.2.2.2.2.2.1 s.2.2.2.2.2.2.2.2.2) (fun s => μ s.1 s.2.1 s.2.2.1 s.2.2.2.1 s.2.2.2.2.1 s.2.2.2.2.2.1 s.2.2.2.2.2.2.1 s.2.2.2.2.2.2.2.1 s.2.2.2.2.2.2.2.2.1 s.2.2.2.2.2.2.2.2.2) (fun n s hI hk => hs n s.1 s.2.1 s.2.2.1 s.2.2.2.1 s.2.2.2.2.1 s.2.2.2.2.2.1 s.2.2.2.2.2.2.1 s.2.2.2.2.2.2.2.1 s.2.2.2.2.2.2.2.2.1 s.2.2.2.2.2.2.2.2.2 hI (fun b1 b2 b3 b4 b5 b6 b7 b8 b9 b10 h9 hm => hk (b1, b2, b3, b4, b5, b6, b7, b8, b9, b10) h9 hm)) (a1, a2, a3, a4, a5, a6, a7, a8, a9, a10) h
theorem lp11 {A1 A2 A3 A4 A5 A6 A7 A8 A9 A10 A11 : Type} (W : Nat → A1 → A2 → A3 → A4 → A5 → A6 → A7 → A8 → A9 → A10 → A11 → Prop) (I : A1 → A2 → A3 → A4 → A5 → A6 → A7 → A8 → A9 → A10 → A11 → Prop) (μ : A1 → A2 → A3 → A4 → A5 → A6 → A7 → A8 → A9 → A10 → A11 → Nat) (hs : ∀ (n : Nat) (a1 : A1) (a2 : A2) (a3 : A3) (a4 : A4) (a5 : A5) (a6 : A6) (a7 : A7) (a8 : A8) (a9 : A9) (a10 : A10) (a11 : A11), I a1 a2 a3 a4 a5 a6 a7 a8 a9 a10 a11 → (∀ (b1 : A1) (b2 : A2) (b3 : A3) (b4 : A4) (b5 : A5) (b6 : A6) (b7 : A7) (b8 : A8) (b9 : A9) (b10 : A10) (b11 : A11), I b1 b2 b3 b4 b5 b6 b7 b8 b9 b10 b11 → μ b1 b2 b3 b4 b5 b6 b7 b8 b9 b10 b11 < μ a1 a2 a3 a4 a5 a6 a7 a8 a9 a10 a11 → W n b1 b2 b3 b4 b5 b6 b7 b8 b9 b10 b11) → W (n + 1) a1 a2 a3 a4 a5 a6 a7 a8 a9 a10 a11) (a1 : A1) (a2 : A2) (a3 : A3) (a4 : A4) (a5 : A5) (a6 : A6) (a7 : A7) (a8 : A8) (a9 : A9) (a10 : A10) (a11 : A11) (h : I a1 a2 a3 a4 a5 a6 a7 a8 a9 a10 a11) : ∃ n, W n a1 a2 a3 a4 a5 a6 a7 a8 a9 a10 a11 :=
  loop_m (σ := A1 × A2 × A3 × A4 × A5 × A6 × A7 × A8 × A9 × A10 × A11) (fun n s => W n s.1 s.2.1 s.2.2.1 s.2.2.2.1 s.2.2.2.2.1 s.2.2.2.2.2.1 s.2.2.2.2.2.2.1 s.2.2.2.2.2.2.2.1 s.2.2.2.2.2.2.2.2.1 s.2.2.2.2.2.2.2.2.2.1 s.2.2.2.2.2.2.2.2.2.2) (fun s => I s.1 s.2.1 s.2.2.1 s.2.2.2.1 s.2.2.2.2.1 s.2.2.2.2.2.1 s.2.2.2.2.2.2.1 s.2.2.2.2.2.2.2.1 s.2.2.2.2.2.2.2.2.1 s.2.2.2.2.2.2.2.2.2.1 s.2.2.2.2.2.2.2.2.2.2) (fun s => μ s.1 s.2.1 s.2.2.1 s.2.2.2.1 s.2.2.2.2.1 s.2.2.2.2.2.1 s.2.2.2.2.2.2.1 s.2.2.2.2.2.2.2.1 s.2.2.2.2.2.2.2.2.1 s.2.2.2.2.2.2.2.2.2.1 s.2.2.2.2.2.2.2.2.2.2) (fun n s hI hk => hs n s.1 s.2.1 s.2.2.1 s.2.2.2.1 s.2.2.2.2.1 s.2.2.2.2.2.1 s.2.2.2.2.2.2.1 s.2.2.2.2.2.2.2.1 s.2.2.2.2.2.2.2.2.1 s.2.2.2.2.2.2.2.2.2.1 s.2.2.2.2.2.2.2.2.2.2 hI (fun b1 b2 b3 b4 b5 b6 b7 b8 b9 b10 b11 h9 hm => hk (b1, b2, b3, b4, b5, b6, b7, b8, b9, b10, b11) h9 hm)) (a1, a2, a3, a4, a5, a6, a7, a8, a9, a10, a11) h
theorem lp12 {A1 A2 A3 A4 A5 A6 A7 A8 A9 A10 A11 A12 : Type} (W : Nat → A1 → A2 → A3 → A4 → A5 → A6 → A7 → A8 → A9 → A10 → A11 → A12 → Prop) (I : A1 → A2 → A3 → A4 → A5 → A6 → A7 → A8 → A9 → A10 → A11 → A12 → Prop) (μ : A1 → A2 → A3 → A4 → A5 → A6 → A7 → A8 → A9 → A10 → A11 → A12 → Nat) (hs : ∀ (n : Nat) (a1 : A1) (a2 : A2) (a3 : A3) (a4 : A4) (a5 : A5) (a6 : A6) (a7 : A7) (a8 : A8) (a9 : A9) (a10 : A10) (a11 : A11) (a12 : A12), I a1 a2 a3 a4 a5 a6 a7 a8 a9 a10 a11 a12 → (∀ (b1 : A1) (b2 : A2) (b3 : A3) (b4 : A4) (b5 : A5) (b6 : A6) (b7 : A7) (b8 : A8) (b9 : A9) (b10 : A10) (b11 : A11) (b12 : A12), I b1 b2 b3 b4 b5 b6 b7 b8 b9 b10 b11 b12 → μ b1 b2 b3 b4 b5 b6 b7 b8 b9 b10 b11 b12 < μ a1 a2 a3 a4 a5 a6 a7 a8 a9 a10 a11 a12 → W n b1 b2 b3 b4 b5 b6 b7 b8 b9 b10 b11 b12) → W (n + 1) a1 a2 a3 a4 a5 a6 a7 a8 a9 a10 a11 a12) (a1 : A1) (a2 : A2) (a3 : A3) (a4 : A4) (a5 : A5) (a6 : A6) (a7 : A7) (a8 : A8) (a9 : A9) (a10 : A10) (a11 : A11) (a12 : A12) (h : I a1 a2 a3 a4 a5 a6 a7 a8 a9 a10 a11 a12) : ∃ n, W n a1 a2 a3 a4 a5 a6 a7 a8 a9 a10 a11 a12 :=
  loop_m (σ := A1 × A2 × A3 × A4 × A5 × A6 × A7 × A8 × A9 × A10 × A11 × A12) (fun n s => W n s.1 s.2.1 s.2.2.1 s.2.2.2.1 s.2.2.2.2.1 s.2.2.2.2.2.1 s.2.2.2.2.2.2.1 s.2.2.2.2.2.2.2.1 s.2.2.2.2.2.2.2.2.1 s.2.2.2.2.2.2.2.2.2.1 s.2.2.2.2.2.2.2.2.2.2.1 s.2.2.2.2.2.2.2.2.2.2.2) (fun s => I s.1 s.2.1 s.2.2.1 s.2.2.2.1 s.2.2.2.2.1 s.2.2.2.2.2.1 s.2.2.2.2.2.2.1 s.2.2.2.2.2.2.2.1 s.2.2.2.2.2.2.2.2.1 s.2.2.2.2.2.2.2.2.2.1 s.2.2.2.2.2.2.2.2.2.2.1 s.2.2.2.2.2.2.2.2.2.2.2) (fun s => μ s.1 s.2.1 s.2.2.1 s.2.2.2.1 s.2.2.2.2.1 s.2.2.2.2.2.1 s.2.2.2.2.2.2.1 s.2.2.2.2.2.2.2.1 s.2.2.2.2.2.2.2.2.1 s.2.2.2.2.2.2.2.2.2.1 s.2.2.2.2.2.2.2.2.2.2.1 s.2.2.2.2.2.2.2.2.2.2.2) (fun n s hI hk => hs n s.1 s.2.1 s.2.2.1 s.2.2.2.1 s.2.2.2.2.1 s.2.2.2.2.2.1 s.2.2.2.2.2.2.1 s.2.2.2.2.2.2.2.1 s.2.2.2.2.2.2.2.2.1 s.2.2.2.2.2.2.2.2.2.1 s.2.2.2.2.2.2.2.2.2.2.1 s.2.2.2.2.2.2.2.2.2.2.2 hI (fun b1 b2 b3 b4 b5 b6 b7 b8 b9 b10 b11 b12 h9 hm => hk (b1, b2, b3, b4, b5, b6, b7, b8, b9, b10, b11, b12) h9 hm)) (a1, a2, a3, a4, a5, a6, a7, a8, a9, a10, a11, a12) h
theorem lp13 {A1 A2 A3 A4 A5 A6 A7 A8 A9 A10 A11 A12 A13 : Type} (W : Nat → A1 → A2 → A3 → A4 → A5 → A6 → A7 → A8 → A9 → A10 → A11 → A12 → A13 → Prop) (I : A1 → A2 → A3 → A4 → A5 → A6 → A7 → A8 → A9 → A10 → A11 → A12 → A13 → Prop) (μ : A1 → A2 → A3 → A4 → A5 → A6 → A7 → A8 → A9 → A10 → A11 → A12 → A13 → Nat) (hs : ∀ (n : Nat) (a1 : A1) (a2 : A2) (a3 : A3) (a4 : A4) (a5 : A5) (a6 : A6) (a7 : A7) (a8 : A8) (a9 : A9) (a10 : A10) (a11 : A11) (a12 : A12) (a13 : A13), I a1 a2 a3 a4 a5 a6 a7 a8 a9 a10 a11 a12 a13 → (∀ (b1 : A1) (b2 : A2) (b3 : A3) (b4 : A4) (b5 : A5) (b6 : A6) (b7 : A7) (b8 : A8) (b9 : A9) (b10 : A10) (b11 : A11) (b12 : A12) (b13 : A13), I b1 b2 b3 b4 b5 b6 b7 b8 b9 b10 b11 b12 b13 → μ b1 b2 b3 b4 b5 b6 b7 b8 b9 b10 b11 b12 b13 < μ a1 a2 a3 a4 a5 a6 a7 a8 a9 a10 a11 a12 a13 → W n b1 b2 b3 b4 b5 b6 b7 b8 b9 b10 b11 b12 b13) → W (n + 1) a1 a2 a3 a4 a5 a6 a7 a8 a9 a10 a11 a12 a13) (a1 : A1) (a2 : A2) (a3 : A3) (a4 : A4) (a5 : A5) (a6 : A6) (a7 : A7) (a8 : A8) (a9 : A9) (a10 : A10) (a11 : A11) (a12 : A12) (a13 : A13) (h : I a1 a2 a3 a4 a5 a6 a7 a8 a9 a10 a11 a12 a13) : ∃ n, W n a1 a2 a3 a4 a5 a6 a7 a8 a9 a10 a11 a12 a13 :=
  loop_m (σ := A1 × A2 × A3 × A4 × A5 × A6 × A7 × A8 × A9 × A10 × A11 × A12 × A13) (fun n s => W n s.1 s.2.1 s.2.2.1 s.2.2.2.1 s.2.2.2.2.1 s.2.2.2.2.2.1 s.2.2.2.2.2.2.1 s.2.2.2.2.2.2.2.1 s.2.2.2.2.2.2.2.2.1 s.2.2.2.2.2.2.2.2.2.1 s.2.2.2.2.2.2.2.2.2.2.1 s.2.2.2.2.2.2.2.2.2.2.2.1 s.2.2.2.2.2.2.2.2.2.2.2.2) (fun s => I s.1 s.2.1 s.2.2.1 s.2.2.2.1 s.2.2.2.2.1 s.2.2.2.2.2.1 s.2.2.2.2.2.2.1 s.2.2.2.2.2.2.2.1 s.2.2.2.2.2.2.2.2.1 s.2.2.2.2.2.2.2.2.2.1 s.2.2.2.2.2.2.2.2.2.2.1 s.2.2.2.2.2.2.2.2.2.2.2.1 s.2.2.2.2.2.2.2.2.2.2.2.2) (fun s => μ s.1 s.2.1 s.2.2.1 s.2.2.2.1 s.2.2.2.2.1 s.2.2.2.2.2.1 s.2.2.2.2.2.2.1 s.2.2.2.2.2.2.2.1 s.2.2.2.2.2.2.2.2.1 s.2.2.2.2.2.2.2.2.2.1 s.2.2.2.2.2.2.2.2.2.2.1 s.2.2.2.2.2.2.2.2.2.2.2.1 s.2.2.2.2.2.2.2.2.2.2.2.2) (fun n s hI hk => hs n s.1 s.2.1 s.2.2.1 s.2.2.2.1 s.2.2.2.2.1 s.2.2.2.2.2.1 s.2.2.2.2.2.2.1 s.2.2.2.2.2.2.2.1 s.2.2.2.2.2.2.2.2.1 s.2.2.2.2.2.2.2.2.2.1 s.2.2.2.2.2.2.2.2.2.2.1 s.2.2.2.2.2.2.2.2.2.2.2.1 s.2.2.2.2.2.2.2.2.2.2.2.2 hI (fun b1 b2 b3 b4 b5 b6 b7 b8 b9 b10 b11 b12 b13 h9 hm => hk (b1, b2, b3, b4, b5, b6, b7, b8, b9, b10, b11, b12, b13) h9 hm)) (a1, a2, a3, a4, a5, a6, a7, a8, a9, a10, a11, a12, a13) h
theorem lp14 {A1 A2 A3 A4 A5 A6 A7 A8 A9 A10 A11 A12 A13 A14 : Type} (W : Nat → A1 → A2 → A3 → A4 → A5 → A6 → A7 → A8 → A9 → A10 → A11 → A12 → A13 → A14 → Prop) (I : A1 → A2 → A3 → A4 → A5 → A6 → A7 → A8 → A9 → A10 → A11 → A12 → A13 → A14 → Prop) (μ : A1 → A2 → A3 → A4 → A5 → A6 → A7 → A8 → A9 → A10 → A11 → A12 → A13 → A14 → Nat) (hs : ∀ (n : Nat) (a1 : A1) (a2 : A2) (a3 : A3) (a4 : A4) (a5 : A5) (a6 : A6) (a7 : A7) (a8 : A8) (a9 : A9) (a10 : A10) (a11 : A11) (a12 : A12) (a13 : A13) (a14 : A14), I a1 a2 a3 a4 a5 a6 a7 a8 a9 a10 a11 a12 a13 a14 → (∀ (b1 : A1) (b2 : A2) (b3 : A3) (b4 : A4) (b5 : A5) (b6 : A6) (b7 : A7) (b8 : A8) (b9 : A9) (b10 : A10) (b11 : A11) (b12 : A12) (b13 : A13) (b14 : A14), I b1 b2 b3 b4 b5 b6 b7 b8 b9 b10 b11 b12 b13 b14 → μ b1 b2 b3 b4 b5 b6 b7 b8 b9 b10 b11 b12 b13 b14 < μ a1 a2 a3 a4 a5 a6 a7 a8 a9 a10 a11 a12 a13 a14 → W n b1 b2 b3 b4 b5 b6 b7 b8 b9 b10 b11 b12 b13 b14) → W (n + 1) a1 a2 a3 a4 a5 a6 a7 a8 a9 a10 a11 a12 a13 a14) (a1 : A1) (a2 : A2) (a3 : A3) (a4 : A4) (a5 : A5) (a6 : A6) (a7 : A7) (a8 : A8) (a9 : A9) (a10 : A10) (a11 : A11) (a12 : A12) (a13 : A13) (a14 : A14) (h : I a1 a2 a3 a4 a5 a6 a7 a8 a9 a10 a11 a12 a13 a14) : ∃ n, W n a1 a2 a3 a4 a5 a6 a7 a8 a9 a10 a11 a12 a13 a14 :=
  loop_m (σ := A1 × A2 × A3 × A4 × A5 × A6 × A7 × A8 × A9 × A10 × A11 × A12 × A13 × A14) (fun n s => W n s.1 s.2.1 s.2.2.1 s.2.2.2.1 s.2.2.2.2.1 s.2.2.2.2.2.1 s.2.2.2.2.2.2.1 s.2.2.2.2.2.2.2.1 s.2.2.2.2.2.2.2.2.1 s.2.2.2.2.2.2.2.2.2.1 s.2.2.2.2.2.2.2.2.2.2.1 s.2.2.2.2.2.2.2.2.2.2.2.1 s.2.2.2.2.2.2.2.2.2.2.2.2.1 s.2.2.2.2.2.2.2.2.2.2.2.2.2) (fun s => I s.1 s.2.1 s.2.2.1 s.2.2.2.1 s.2.2.2.2.1 s.2.2.2.2.2.1 s.2.2.2.2.2.2.1 s.2.2.2.2.2.2.2.1 s.2.2.2.2.2.2.2.2.1 s.2.2.2.2.2.2.2.2.2.1 s.2.2.2.2.2.2.2.2.2.2.1 s.2.2.2.2.2.2.2.2.2.2.2.1 s.2.2.2.2.2.2.2.2.2.2.2.2.1 s.2.2.2.2.2.2.2.2.2.2.2.2.2) (fun s => μ s.1 s.2.1 s.2.2.1 s.2.2.2.1 s.2.2.2.2.1 s.2.2.2.2.2.1 s.2.2.2.2.2.2.1 s.2.2.2.2.2.2.2.1 s.2.2.2.2.2.2.2.2.1 s.2.2.2.2.2.2.2.2.2.1 s.2.2.2.2.2.2.2.2.2.2.1 s.2.2.2.2.2.2.2.2.2.2.2.1 s.2.2.2.2.2.2.2.2.2.2.2.2.1 s.2.2.2.2.2.2.2.2.2.2.2.2.2) (fun n s hI hk => hs n s.1 s.2.1 s.2.2.1 s.2.2.2.1 s.2.2.2.2.1 s.2.2.2.2.2.1 s.2.2.2.2.2.2.1 s.2.2.2.2.2.2.2.1 s.2.2.2.2.2.2.2.2.1 s.2.2.2.2.2.2.2.2.2.1 s.2.2.2.2.2.2.2.2.2.2.1 s.2.2.2.2.2.2.2.2.2.2.2.1 s.2.2.2.2.2.2.2.2.2.2.2.2.1 s.2.2.2.2.2.2.2.2.2.2.2.2.2 hI (fun b1 b2 b3 b4 b5 b6 b7 b8 b9 b10 b11 b12 b13 b14 h9 hm => hk (b1, b2, b3, b4, b5, b6, b7, b8, b9, b10, b11, b12, b13, b14) h9 hm)) (a1, a2, a3, a4, a5, a6, a7, a8, a9, a10, a11, a12, a13, a14) h
theorem lp15 {A1 A2 A3 A4 A5 A6 A7 A8 A9 A10 A11 A12 A13 A14 A15 : Type} (W : Nat → A1 → A2 → A3 → A4 → A5 → A6 → A7 → A8 → A9 → A10 → A11 → A12 → A13 → A14 → A15 → Prop) (I : A1 → A2 → A3 → A4 → A5 → A6 → A7 → A8 → A9 → A10 → A11 → A12 → A13 → A14 → A15 → Prop) (μ : A1 → A2 → A3 → A4 → A5 → A6 → A7 → A8 → A9 → A10 → A11 → A12 → A13 → A14 → A15 → Nat) (hs : ∀ (n : Nat) (a1 : A1) (a2 : A2) (a3 : A3) (a4 : A4) (a5 : A5) (a6 : A6) (a7 : A7) (a8 : A8) (a9 : A9) (a10 : A10) (a11 : A11) (a12 : A12) (a13 : A13) (a14 : A14) (a15 : A15), I a1 a2 a3 a4 a5 a6 a7 a8 a9 a10 a11 a12 a13 a14 a15 → (∀ (b1 : A1) (b2 : A2) (b3 : A3) (b4 : A4) (b5 : A5) (b6 : A6) (b7 : A7) (b8 : A8) (b9 : A9) (b10 : A10) (b11 : A11) (b12 : A12) (b13 : A13) (b14 : A14) (b15 : A15), I b1 b2 b3 b4 b5 b6 b7 b8 b9 b10 b11 b12 b13 b14 b15 → μ b1 b2 b3 b4 b5 b6 b7 b8 b9 b10 b11 b12 b13 b14 b15 < μ a1 a2 a3 a4 a5 a6 a7 a8 a9 a10 a11 a12 a13 a14 a15 → W n b1 b2 b3 b4 b5 b6 b7 b8 b9 b10 b11 b12 b13 b14 b15) → W (n + 1) a1 a2 a3 a4 a5 a6 a7 a8 a9 a10 a11 a12 a13 a14 a15) (a1 : A1) (a2 : A2) (a3 : A3) (a4 : A4) (a5 : A5) (a6 : A6) (a7 : A7) (a8 : A8) (a9 : A9) (a10 : A10) (a11 : A11) (a12 : A12) (a13 : A13) (a14 : A14) (a15 : A15) (h : I a1 a2 a3 a4 a5 a6 a7 a8 a9 a10 a11 a12 a13 a14 a15) : ∃ n, W n a1 a2 a3 a4 a5 a6 a7 a8 a9 a10 a11 a12 a13 a14 a15 :=
  loop_m (σ := A1 × A2 × A3 × A4 × A5 × A6 × A7 × A8 × A9 × A10 × A11 × A12 × A13 × A14 × A15) (fun n s => W n s.1 s.2.1 s.2.2.1 s.2.2.2.1 s.2.2.2.2.1 s.2.2.2.2.2.1 s.2.2.2.2.2.2.1 s.2.2.2.2.2.2.2.1 s.2.2.2.2.2.2.2.2.1 s.2.2.2.2.2.2.2.2.2.1 s.2.2.2.2.2.2.2.2.2.2.1 s.2.2.2.2.2.2.2.2.2.2.2.1 s.2.2.2.2.2.2.2.2.2.2.2.2.1 s.2.2.2.2.2.2.2.2.2.2.2.2.2.1 s.2.2.2.2.2.2.2.2.2.2.2.2.2.2) (fun s => I s.1 s.2.1 s.2.2.1 s.2.2.2.1 s.2.2.2.2.1 s.2.2.2.2.2.1 s.2.2.2.2.2.2.1 s.2.2.2.2.2.2.2.1 s.2.2.2.2.2.2.2.2.1 s.2.2.2.2.2.2.2.2.2.1 s.2.2.2.2.2.2.2.2.2.2.1 s.2.2.2.2.2.2.2.2.2.2.2.1 s.2.2.2.2.2.2.2.2.2.2.2.2.1 s.2.2.2.2.2.2.2.2.2.2.2.2.2.1 s.2.2.2.2.2.2.2.2.2.2.2.2.2.2) (fun s => μ s.1 s.2.1 s.2.2.1 s.2.2.2.1 s.2.2.2.2.1 s.2.2.2.2.2.1 s.2.2.2.2.2.2.1 s.2.2.2.2.2.2.2.1 s.2.2.2.2.2.2.2.2.1 s.2.2.2.2.2.2.2.2.2.1 s.2.2.2.2.2.2.2.2.2.2.1 s.2.2.2.2.2.2.2.2.2.2.2.1 s.2.2.2.2.2.2.2.2.2.2.2.2.1 s.2.2.2.2.2.2.2.2.2.2.2.2.2.1 s.2.2.2.2.2.2.2.2.2.2.2.2.2.2) (fun n s hI hk => hs n s.1 s.2.1 s.2.2.1 s.2.2.2.1 s.2.2.2.2.1 s.2.2.2.2.2.1 s.2.2.2.2.2.2.1 s.2.2.2.2.2.2.2.1 s.2.2.2.2.2.2.2.2.1 s.2.2.2.2.2.2.2.2.2.1 s.2.2.2.2.2.2.2.2.2.2.1 s.2.2.2.2.2.2.2.2.2.2.2.1 s.2.2.2.2.2.2.2.2.2.2.2.2.1 s.2.2.2.2.2.2.2.2.2.2.2.2.2.1 s.2.2.2.2.2.2.2.2.2.2.2.2.2.2 hI (fun b1 b2 b3 b4 b5 b6 b7 b8 b9 b10 b11 b12 b13 b14 b15 h9 hm => hk (b1, b2, b3, b4, b5, b6, b7, b8, b9, b10, b11, b12, b13, b14, b15) h9 hm)) (a1, a2, a3, a4, a5, a6, a7, a8, a9, a10, a11, a12, a13, a14, a15) h
theorem lp16 {A1 A2 A3 A4 A5 A6 A7 A8 A9 A10 A11 A12 A13 A14 A15 A16 : Type} (W : Nat → A1 → A2 → A3 → A4 → A5 → A6 → A7 → A8 → A9 → A10 → A11 → A12 → A13 → A14 → A15 → A16 → Prop) (I : A1 → A2 → A3 → A4 → A5 → A6 → A7 → A8 → A9 → A10 → A11 → A12 → A13 → A14 → A15 → A16 → Prop) (μ : A1 → A2 → A3 → A4 → A5 → A6 → A7 → A8 → A9 → A10 → A11 → A12 → A13 → A14 → A15 → A16 → Nat) (hs : ∀ (n : Nat) (a1 : A1) (a2 : A2) (a3 : A3) (a4 : A4) (a5 : A5) (a6 : A6) (a7 : A7) (a8 : A8) (a9 : A9) (a10 : A10) (a11 : A11) (a12 : A12) (a13 : A13) (a14 : A14) (a15 : A15) (a16 : A16), I a1 a2 a3 a4 a5 a6 a7 a8 a9 a10 a11 a12 a13 a14 a15 a16 → (∀ (b1 : A1) (b2 : A2) (b3 : A3) (b4 : A4) (b5 : A5) (b6 : A6) (b7 : A7) (b8 : A8) (b9 : A9) (b10 : A10) (b11 : A11) (b12 : A12) (b13 : A13) (b14 : A14) (b15 : A15) (b16 : A16), I b1 b2 b3 b4 b5 b6 b7 b8 b9 b10 b11 b12 b13 b14 b15 b16 → μ b1 b2 b3 b4 b5 b6 b7 b8 b9 b10 b11 b12 b13 b14 b15 b16 < μ a1 a2 a3 a4 a5 a6 a7 a8 a9 a10 a11 a12 a13 a14 a15 a16 → W n b1 b2 b3 b4 b5 b6 b7 b8 b9 b10 b11 b12 b13 b14 b15 b16) → W (n + 1) a1 a2 a3 a4 a5 a6 a7 a8 a9 a10 a11 a12 a13 a14 a15 a16) (a1 : A1) (a2 : A2) (a3 : A3) (a4 : A4) (a5 : A5) (a6 : A6) (a7 : A7) (a8 : A8) (a9 : A9) (a10 : A10) (a11 : A11) (a12 : A12) (a13 : A13) (a14 : A14) (a15 : A15) (a16 : A16) (h : I a1 a2 a3 a4 a5 a6 a7 a8 a9 a10 a11 a12 a13 a14 a15 a16) : ∃ n, W n a1 a2 a3 a4 a5 a6 a7 a8 a9 a10 a11 a12 a13 a14 a15 a16 :=
  loop_m (σ := A1 × A2 × A3 × A4 × A5 × A6 × A7 × A8 × A9 × A10 × A11 × A12 × A13 × A14 × A15 × A16) (fun n s => W n s.1 s.2.1 s.2.2.1 s.2.2.2.1 s.2.2.2.2.1 s.2.2.2.2.2.1 s.2.2.2.2.2.2.1 s.2.2.2.2.2.2.2.1 s.2.2.2.2.2.2.2.2.1 s.2.2.2.2.2.2.2.2.2.1 s.2.2.2.2.2.2.2.2.2.2.1 s.2.2.2.2.2.2.2.2.2.2.2.1 s.2.2.2.2.2.2.2.2.2.2.2.2.1 s.2.2.2.2.2.2.2.2.2.2.2.2.2.1 s.2.2.2.2.2.2.2.2.2.2.2.2.2.2.1 s.2.2.2.2.2.2.2.2.2.2.2.2.2.2.2) (fun s => I s.1 s.2.1 s.2.2.1 s.2.2.2.1 s.2.2.2.2.1 s.2.2.2.2.2.1 s.2.2.2.2.2.2.1 s.2.2.2.2.2.2.2.1 s.2.2.2.2.2.2.2.2.1 s.2.2.2.2.2.2.2.2.2.1 s.2.2.2.2.2.2.2.2.2.2.1 s.2.2.2.2.2.2.2.2.2.2.2.1 s.2.2.2.2.2.2.2.2.2.2.2.2.1 s.2.2.2.2.2.2.2.2.2.2.2.2.2.1 s.2.2.2.2.2.2.2.2.2.2.2.2.2.2.1 s.2.2.2.2.2.2.2.2.2.2.2.2.2.2.2) (fun s => μ s.1 s.2.1 s.2.2.1 s.2.2.2.1 s.2.2.2.2.1 s.2.2.2.2.2.1 s.2.2.2.2.2.2.1 s.2.2.2.2.2.2.2.1 s.2.2.2.2.2.2.2.2.1 s.2.2.2.2.2.2.2.2.2.1 s.2.2.2.2.2.2.2.2.2.2.1 s.2.2.2.2.2.2.2.2.2.2.2.1 s.2.2.2.2.2.2.2.2.2.2.2.2.1 s.2.2.2.2.2.2.2.2.2.2.2.2.2.1 s.2.2.2.2.2.2.2.2.2.2.2.2.2.2.1 s.2.2.2.2.2.2.2.2.2.2.2.2.2.2.2) (fun n s hI hk => hs n s.1 s.2.1 s.2.2.1 s.2.2.2.1 s.2.2.2.2.1 s.2.2.2.2.2.1 s.2.2.2.2.2.2.1 s.2.2.2.2.2.2.2.1 s.2.2.2.2.2.2.2.2.1 s.2.2.2.2.2.2.2.2.2.1 s.2.2.2.2.2.2.2.2.2.2.1 s.2.2.2.2.2.2.2.2.2.2.2.1 s.2.2.2.2.2.2.2.2.2.2.2.2.1 s.2.2.2.2.2.2.2.2.2.2.2.2.2.1 s.2.2.2.2.2.2.2.2.2.2.2.2.2.2.1 s.2.2.2.2.2.2.2.2.2.2.2.2.2.2.2 hI (fun b1 b2 b3 b4 b5 b6 b7 b8 b9 b10 b11 b12 b13 b14 b15 b16 h9 hm => hk (b1, b2, b3, b4, b5, b6, b7, b8, b9, b10, b11, b12, b13, b14, b15, b16) h9 hm)) (a1, a2, a3, a4, a5, a6, a7, a8, a9, a10, a11, a12, a13, a14, a15, a16) h
theorem pk_least (P : Nat → Prop) (h : ∃ k, P k) : ∃ k, P k ∧ ∀ j, j < k → ¬ P j := by
  obtain ⟨k, hk⟩ := h
  induction k using Nat.strongRecOn with
  | ind k ih =>
    by_cases e : ∃ j, j < k ∧ P j
    · obtain ⟨j, hj, pj⟩ := e
      exact ih j hj pj
    · exact ⟨k, hk, fun j hj pj => e ⟨j, hj, pj⟩⟩
theorem rp1 {ρ A1 : Type} (W : Nat → (ρ → Prop) → A1 → Prop) (ok : A1 → Prop) (μ : A1 → Nat) (val : A1 → ρ)
    (hs : ∀ (d : Nat) (post : ρ → Prop) (a1 : A1), ok a1 → post (val a1) → (∀ (post' : ρ → Prop) (b1 : A1), ok b1 → μ b1 < μ a1 → post' (val b1) → W d post' b1) → W (d + 1) post a1) :
    ∀ (d : Nat) (post : ρ → Prop) (a1 : A1), ok a1 → μ a1 < d → post (val a1) → W d post a1 := by
  intro d
  induction d with
  | zero => intro post a1 _ h; omega
  | succ d ih =>
    intro post a1 ho hm hp
    exact hs d post a1 ho hp (fun post' b1 ho' hm' hp' => ih post' b1 ho' (by omega) hp')
theorem rp2 {ρ A1 A2 : Type} (W : Nat → (ρ → Prop) → A1 → A2 → Prop) (ok : A1 → A2 → Prop) (μ : A1 → A2 → Nat) (val : A1 → A2 → ρ)
    (hs : ∀ (d : Nat) (post : ρ → Prop) (a1 : A1) (a2 : A2), ok a1 a2 → post (val a1 a2) → (∀ (post' : ρ → Prop) (b1 : A1) (b2 : A2), ok b1 b2 → μ b1 b2 < μ a1 a2 → post' (val b1 b2) → W d post' b1 b2) → W (d + 1) post a1 a2) :
    ∀ (d : Nat) (post : ρ → Prop) (a1 : A1) (a2 : A2), ok a1 a2 → μ a1 a2 < d → post (val a1 a2) → W d post a1 a2 := by
  intro d
  induction d with
  | zero => intro post a1 a2 _ h; omega
  | succ d ih =>
    intro post a1 a2 ho hm hp
    exact hs d post a1 a2 ho hp (fun post' b1 b2 ho' hm' hp' => ih post' b1 b2 ho' (by omega) hp')
theorem rp3 {ρ A1 A2 A3 : Type} (W : Nat → (ρ → Prop) → A1 → A2 → A3 → Prop) (ok : A1 → A2 → A3 → Prop) (μ : A1 → A2 → A3 → Nat) (val : A1 → A2 → A3 → ρ)
    (hs : ∀ (d : Nat) (post : ρ → Prop) (a1 : A1) (a2 : A2) (a3 : A3), ok a1 a2 a3 → post (val a1 a2 a3) → (∀ (post' : ρ → Prop) (b1 : A1) (b2 : A2) (b3 : A3), ok b1 b2 b3 → μ b1 b2 b3 < μ a1 a2 a3 → post' (val b1 b2 b3) → W d post' b1 b2 b3) → W (d + 1) post a1 a2 a3) :
    ∀ (d : Nat) (post : ρ → Prop) (a1 : A1) (a2 : A2) (a3 : A3), ok a1 a2 a3 → μ a1 a2 a3 < d → post (val a1 a2 a3) → W d post a1 a2 a3 := by
  intro d
  induction d with
  | zero => intro post a1 a2 a3 _ h; omega
  | succ d ih =>
    intro post a1 a2 a3 ho hm hp
    exact hs d post a1 a2 a3 ho hp (fun post' b1 b2 b3 ho' hm' hp' => ih post' b1 b2 b3 ho' (by omega) hp')
theorem rp4 {ρ A1 A2 A3 A4 : Type} (W : Nat → (ρ → Prop) → A1 → A2 → A3 → A4 → Prop) (ok : A1 → A2 → A3 → A4 → Prop) (μ : A1 → A2 → A3 → A4 → Nat) (val : A1 → A2 → A3 → A4 → ρ)
    (hs : ∀ (d : Nat) (post : ρ → Prop) (a1 : A1) (a2 : A2) (a3 : A3) (a4 : A4), ok a1 a2 a3 a4 → post (val a1 a2 a3 a4) → (∀ (post' : ρ → Prop) (b1 : A1) (b2 : A2) (b3 : A3) (b4 : A4), ok b1 b2 b3 b4 → μ b1 b2 b3 b4 < μ a1 a2 a3 a4 → post' (val b1 b2 b3 b4) → W d post' b1 b2 b3 b4) → W (d + 1) post a1 a2 a3 a4) :
    ∀ (d : Nat) (post : ρ → Prop) (a1 : A1) (a2 : A2) (a3 : A3) (a4 : A4), ok a1 a2 a3 a4 → μ a1 a2 a3 a4 < d → post (val a1 a2 a3 a4) → W d post a1 a2 a3 a4 := by
  intro d
  induction d with
  | zero => intro post a1 a2 a3 a4 _ h; omega
  | succ d ih =>
    intro post a1 a2 a3 a4 ho hm hp
    exact hs d post a1 a2 a3 a4 ho hp (fun post' b1 b2 b3 b4 ho' hm' hp' => ih post' b1 b2 b3 b4 ho' (by omega) hp')
theorem rp5 {ρ A1 A2 A3 A4 A5 : Type} (W : Nat → (ρ → Prop) → A1 → A2 → A3 → A4 → A5 → Prop) (ok : A1 → A2 → A3 → A4 → A5 → Prop) (μ : A1 → A2 → A3 → A4 → A5 → Nat) (val : A1 → A2 → A3 → A4 → A5 → ρ)
    (hs : ∀ (d : Nat) (post : ρ → Prop) (a1 : A1) (a2 : A2) (a3 : A3) (a4 : A4) (a5 : A5), ok a1 a2 a3 a4 a5 → post (val a1 a2 a3 a4 a5) → (∀ (post' : ρ → Prop) (b1 : A1) (b2 : A2) (b3 : A3) (b4 : A4) (b5 : A5), ok b1 b2 b3 b4 b5 → μ b1 b2 b3 b4 b5 < μ a1 a2 a3 a4 a5 → post' (val b1 b2 b3 b4 b5) → W d post' b1 b2 b3 b4 b5) → W (d + 1) post a1 a2 a3 a4 a5) :
    ∀ (d : Nat) (post : ρ → Prop) (a1 : A1) (a2 : A2) (a3 : A3) (a4 : A4) (a5 : A5), ok a1 a2 a3 a4 a5 → μ a1 a2 a3 a4 a5 < d → post (val a1 a2 a3 a4 a5) → W d post a1 a2 a3 a4 a5 := by
  intro d
  induction d with
  | zero => intro post a1 a2 a3 a4 a5 _ h; omega
  | succ d ih =>
    intro post a1 a2 a3 a4 a5 ho hm hp
    exact hs d post a1 a2 a3 a4 a5 ho hp (fun post' b1 b2 b3 b4 b5 ho' hm' hp' => ih post' b1 b2 b3 b4 b5 ho' (by omega) hp')
theorem rp6 {ρ A1 A2 A3 A4 A5 A6 : Type} (W : Nat → (ρ → Prop) → A1 → A2 → A3 → A4 → A5 → A6 → Prop) (ok : A1 → A2 → A3 → A4 → A5 → A6 → Prop) (μ : A1 → A2 → A3 → A4 → A5 → A6 → Nat) (val : A1 → A2 → A3 → A4 → A5 → A6 → ρ)
    (hs : ∀ (d : Nat) (post : ρ → Prop) (a1 : A1) (a2 : A2) (a3 : A3) (a4 : A4) (a5 : A5) (a6 : A6), ok a1 a2 a3 a4 a5 a6 → post (val a1 a2 a3 a4 a5 a6) → (∀ (post' : ρ → Prop) (b1 : A1) (b2 : A2) (b3 : A3) (b4 : A4) (b5 : A5) (b6 : A6), ok b1 b2 b3 b4 b5 b6 → μ b1 b2 b3 b4 b5 b6 < μ a1 a2 a3 a4 a5 a6 → post' (val b1 b2 b3 b4 b5 b6) → W d post' b1 b2 b3 b4 b5 b6) → W (d + 1) post a1 a2 a3 a4 a5 a6) :
    ∀ (d : Nat) (post : ρ → Prop) (a1 : A1) (a2 : A2) (a3 : A3) (a4 : A4) (a5 : A5) (a6 : A6), ok a1 a2 a3 a4 a5 a6 → μ a1 a2 a3 a4 a5 a6 < d → post (val a1 a2 a3 a4 a5 a6) → W d post a1 a2 a3 a4 a5 a6 := by
  intro d
  induction d with
  | zero => intro post a1 a2 a3 a4 a5 a6 _ h; omega
  | succ d ih =>
    intro post a1 a2 a3 a4 a5 a6 ho hm hp
    exact hs d post a1 a2 a3 a4 a5 a6 ho hp (fun post' b1 b2 b3 b4 b5 b6 ho' hm' hp' => ih post' b1 b2 b3 b4 b5 b6 ho' (by omega) hp')
theorem rec_p {σ ρ : Type} (W : Nat → (ρ → Prop) → σ → Prop) (ok : σ → Prop) (μ : σ → Nat) (val : σ → ρ)
    (hs : ∀ d s post, ok s → post (val s) → (∀ s' post', ok s' → μ s' < μ s → post' (val s') → W d post' s') → W (d + 1) post s) :
    ∀ d s post, ok s → μ s < d → post (val s) → W d post s := by
  intro d
  induction d with
  | zero => intro s post _ h; omega
  | succ d ih =>
    intro s post ho hm hp
    exact hs d s post ho hp (fun s' post' ho' hm' hp' => ih s' post' ho' (by omega) hp')
theorem rec_q {σ ρ : Type} (W : Nat → (ρ → Prop) → σ → Prop) (ok : σ → Prop) (μ : σ → Nat) (Q : σ → ρ → Prop)
    (hs : ∀ d s post, ok s → (∀ r, Q s r → post r) → (∀ s' post', ok s' → μ s' < μ s → (∀ r, Q s' r → post' r) → W d post' s') → W (d + 1) post s) :
    ∀ d s post, ok s → μ s < d → (∀ r, Q s r → post r) → W d post s := by
  intro d
  induction d with
  | zero => intro s post _ h; omega
  | succ d ih =>
    intro s post ho hm hp
    exact hs d s post ho hp (fun s' post' ho' hm' hp' => ih s' post' ho' (by omega) hp')
def bx_sum (f : Nat → Int32) : Nat → Int32
  | 0 => 0
  | n + 1 => bx_sum f n + f n
theorem ek_u {A : Prop} {B : Nat → Prop} {k N : Nat} (hk : k < N) (h : B k) : (some k = none → A) ∧ (∀ y : Nat, some k = some y → (y < N ∧ B y)) :=
  ⟨fun z => absurd z (Option.some_ne_none k), fun _ e => (by cases e; exact ⟨hk, h⟩)⟩
theorem ek_nu {A : Prop} {B : Nat → Prop} (h : A) : ((none : Option Nat) = none → A) ∧ (∀ y : Nat, (none : Option Nat) = some y → B y) :=
  ⟨fun _ => h, fun _ e => (by cases e)⟩
theorem ek_if {c d A B : Prop} (e : c ↔ d) (f : d → A) (g : ¬ d → B) : (c → A) ∧ (¬ c → B) :=
  ⟨fun z => f (e.mp z), fun z => g (fun y => z (e.mpr y))⟩
theorem ek_v {α : Sort _} {P : α → Prop} {a b : α} (e : a = b) (h : P b) : P a := e ▸ h
theorem co_some {x : Option Nat} {A : Prop} {B : Nat → Prop} (i : Nat) (h : B i) (hx : x = some i := by rfl) : (x = none → A) ∧ (∀ y : Nat, x = some y → B y) := by
  subst hx
  exact ⟨fun e => (nomatch e), fun y e => Option.some.inj e ▸ h⟩
theorem co_none {x : Option Nat} {A : Prop} {B : Nat → Prop} (h : A) (hx : x = none := by rfl) : (x = none → A) ∧ (∀ y : Nat, x = some y → B y) := by
  subst hx
  exact ⟨fun _ => h, fun y e => (nomatch e)⟩
theorem co_any {x : Option Nat} {A : Prop} {B : Nat → Prop} (hn : x = none → A) (hs : ∀ i : Nat, x = some i → B i) : (x = none → A) ∧ (∀ y : Nat, x = some y → B y) := ⟨hn, hs⟩
theorem co_2 {P : Nat → Prop} (h0 : P 0) (h1 : P 1) {i : Nat} (hi : i < 2) : P i :=
  match i, hi with
  | 0, _ => h0
  | 1, _ => h1
theorem co_3 {P : Nat → Prop} (h0 : P 0) (h1 : P 1) (h2 : P 2) {i : Nat} (hi : i < 3) : P i :=
  match i, hi with
  | 0, _ => h0
  | 1, _ => h1
  | 2, _ => h2
theorem co_4 {P : Nat → Prop} (h0 : P 0) (h1 : P 1) (h2 : P 2) (h3 : P 3) {i : Nat} (hi : i < 4) : P i :=
  match i, hi with
  | 0, _ => h0
  | 1, _ => h1
  | 2, _ => h2
  | 3, _ => h3
theorem co_dec {N : Nat} {P : Nat → Prop} [DecidablePred P] (h : (List.range N).all (fun i => decide (P i)) = true) {i : Nat} (hi : i < N) : P i := by
  have := List.all_eq_true.mp h i (List.mem_range.mpr hi)
  exact of_decide_eq_true this
theorem co_tab {α : Type} {l : List α} {d : α} {P : α → Prop} (h : ∀ a, a ∈ l → P a) {i : Nat} (hi : i < l.length) : P (l.getD i d) := by
  rw [List.getD_eq_getElem?_getD, List.getElem?_eq_getElem hi]
  exact h _ (List.getElem_mem hi)
theorem pk_mu {x : Int32} {L : Nat} (h0 : ¬ x < 0) (h : ¬ nI L ≤ x) (hL : L < 2 ^ 31) : ∃ j : Nat, j < L ∧ x = nI j ∧ x + 1 = nI (j + 1) ∧ x.toNatClampNeg = j ∧ L - (x + 1).toNatClampNeg < L - x.toNatClampNeg := by
  obtain ⟨j, hj, rfl⟩ := nI_of h0
  have hl : j < L := Nat.not_le.mp fun q => h (nI_le q hj)
  refine ⟨j, hl, rfl, nI_1 j, nI_clamp hj, ?_⟩
  rw [nI_1, nI_clamp (by omega), nI_clamp hj]
  omega
theorem op_s {α : Type} {r : Option α} {A : Prop} {B : α → Prop} {y : α} (h : r = some y) (b : B y) : (r = none → A) ∧ ∀ z, r = some z → B z :=
  ⟨fun e => (by rw [h] at e; cases e), fun z e => (by rw [h] at e; cases e; exact b)⟩
def l_holds {α : Type} (a : Nat → Option Nat) (LP : List Nat) (p : Nat → α) (c : Nat) (b : Nat → α) : Prop :=
  ∀ j, j < c → ∃ y, a j = some y ∧ y ∈ LP ∧ p y = b j
theorem l_holds_0 {α : Type} {a : Nat → Option Nat} {LP : List Nat} {p b : Nat → α} : l_holds a LP p 0 b := fun j h => absurd h (Nat.not_lt_zero j)
theorem l_in_new (LP : List Nat) (q : Nat) : q ∈ LP ++ [q] := List.mem_append.mpr (Or.inr (List.mem_singleton.mpr rfl))
def l_sum (b : Nat → Int32) : Nat → Int32
  | 0 => 0
  | k + 1 => l_sum b k + b k
theorem sb_shr0 (x : Int32) : x >>> ((0 : Int32) &&& 31) = x := by
  rw [show ((0 : Int32) &&& 31) = 0 by decide]
  simp
theorem sb_shl0 (x : Int32) : x <<< ((0 : Int32) &&& 31) = x := by
  rw [show ((0 : Int32) &&& 31) = 0 by decide]
  simp
theorem sb_cl0 : (0 : Int32).toNatClampNeg = 0 := by decide
theorem sb_m1 {p : Nat} (h : 0 < p) : nI p + (-1) = nI (p - 1) := by
  obtain ⟨q, rfl⟩ : ∃ q, p = q + 1 := ⟨p - 1, by omega⟩
  exact pk_m1 q
def sb_b (c : Nat) : Int32 := (nI c).toInt8.toInt32
theorem sb_byte : ∀ c, c < 256 → sb_b c &&& 255 = nI c ∧ ((nI c).toUInt32 % 65536).toInt32 = nI c ∧ nI c ≤ 255 := by decide +kernel
def sb_Fit (a : Nat → Int32) : Prop := ∀ j, fits .byte (.int (a j)) = true
def sb_Lat (t : Nat → Nat) (n : Nat) (a : Nat → Int32) : Prop := ∀ j, j < n → t j < 256 ∧ a j = sb_b (t j)
theorem sb_fitB (c : Nat) : fits .byte (.int (sb_b c)) = true := pk_fb _
theorem sb_fit0 : sb_Fit (fun _ => 0) := fun _ => by
  show fits .byte (.int 0) = true
  decide
theorem sb_fitU {a : Nat → Int32} {k : Nat} {x : Int32} (h : sb_Fit a) (hx : fits .byte (.int x) = true) : sb_Fit (upd a k x) := by
  intro j
  by_cases e : j = k
  · subst e
    rw [pk_us]
    exact hx
  · rw [pk_un e]
    exact h j
def sb_cat (t : Nat → Nat) (n : Nat) (s : Nat → Nat) : Nat → Nat := fun j => if j < n then t j else s (j - n)
theorem sb_cat_lo {t s : Nat → Nat} {n j : Nat} (h : j < n) : sb_cat t n s j = t j := if_pos h
theorem sb_cat_hi {t s : Nat → Nat} {n j : Nat} : sb_cat t n s (n + j) = s j := by
  show (if n + j < n then t (n + j) else s (n + j - n)) = s j
  rw [if_neg (by omega), Nat.add_sub_cancel_left]
theorem sb_latPut {t s : Nat → Nat} {n w : Nat} {a a' : Nat → Int32} (h : sb_Lat t n a) (hk : ∀ j, j < n → a' j = a j) (hs : ∀ i, i < w → s i < 256 ∧ a' (n + i) = sb_b (s i)) : sb_Lat (sb_cat t n s) (n + w) a' := by
  intro j hj
  by_cases e : j < n
  · rw [sb_cat_lo e, hk j e]
    exact h j e
  · obtain ⟨i, rfl⟩ : ∃ i, j = n + i := ⟨j - n, by omega⟩
    rw [sb_cat_hi]
    exact hs i (by omega)
theorem sb_latKeep {t : Nat → Nat} {n : Nat} {a a' : Nat → Int32} (h : sb_Lat t n a) (hk : ∀ j, j < n → a' j = a j) : sb_Lat t n a' := fun j hj => by
  rw [hk j hj]
  exact h j hj
def sb_cap (q m : Nat) : Nat := if q ≤ m then m else if 2 * m + 2 < q then q else 2 * m + 2
def sb_Room (q m mc ms : Nat) : Prop := q ≤ m ∨ (1 ≤ mc ∧ sb_cap q m ≤ ms ∧ sb_cap q m ≤ 65536)
theorem sb_cap_ge (q m : Nat) : q ≤ sb_cap q m := by
  unfold sb_cap
  split
  · omega
  · split <;> omega
theorem sb_cap_gem (q m : Nat) : m ≤ sb_cap q m := by
  unfold sb_cap
  split
  · omega
  · split <;> omega
theorem sb_cap_le {q m mc ms : Nat} (hm : m ≤ 65536) (hr : sb_Room q m mc ms) : sb_cap q m ≤ 65536 := by
  rcases hr with h | h
  · rw [sb_cap, if_pos h]
    exact hm
  · exact h.2.2
theorem sb_at {P : Int32 → Prop} {x y : Int32} (e : x = y) (h : P y) : P x := e ▸ h
def sb_dg (w : Nat) : Nat := if w < 10 then 1 else if w < 100 then 2 else if w < 1000 then 3 else if w < 10000 then 4 else if w < 100000 then 5 else if w < 1000000 then 6 else if w < 10000000 then 7 else if w < 100000000 then 8 else if w < 1000000000 then 9 else 10
def sb_dec (v : Nat) : Nat → Nat := fun i => 48 + v / 10 ^ (sb_dg v - 1 - i) % 10
theorem sb_dg_in (w : Nat) : 1 ≤ sb_dg w ∧ sb_dg w ≤ 10 := by
  unfold sb_dg
  constructor <;> (repeat' split) <;> omega
theorem sb_dg100 {w : Nat} (h : 100 ≤ w) (hw : w < 2 ^ 31) : sb_dg w = sb_dg (w / 100) + 2 := by
  rw [sb_dg, sb_dg, if_neg (show ¬ w < 10 by omega), if_neg (show ¬ w < 100 by omega)]
  by_cases h3 : w < 1000
  · rw [if_pos h3, if_pos (show w / 100 < 10 by omega)]
  rw [if_neg h3, if_neg (show ¬ w / 100 < 10 by omega)]
  by_cases h4 : w < 10000
  · rw [if_pos h4, if_pos (show w / 100 < 100 by omega)]
  rw [if_neg h4, if_neg (show ¬ w / 100 < 100 by omega)]
  by_cases h5 : w < 100000
  · rw [if_pos h5, if_pos (show w / 100 < 1000 by omega)]
  rw [if_neg h5, if_neg (show ¬ w / 100 < 1000 by omega)]
  by_cases h6 : w < 1000000
  · rw [if_pos h6, if_pos (show w / 100 < 10000 by omega)]
  rw [if_neg h6, if_neg (show ¬ w / 100 < 10000 by omega)]
  by_cases h7 : w < 10000000
  · rw [if_pos h7, if_pos (show w / 100 < 100000 by omega)]
  rw [if_neg h7, if_neg (show ¬ w / 100 < 100000 by omega)]
  by_cases h8 : w < 100000000
  · rw [if_pos h8, if_pos (show w / 100 < 1000000 by omega)]
  rw [if_neg h8, if_neg (show ¬ w / 100 < 1000000 by omega)]
  by_cases h9 : w < 1000000000
  · rw [if_pos h9, if_pos (show w / 100 < 10000000 by omega)]
  rw [if_neg h9, if_neg (show ¬ w / 100 < 10000000 by omega)]
  rw [if_pos (show w / 100 < 100000000 by omega)]
theorem sb_negT {w : Nat} (h : w < 2 ^ 31) : (-nI w).toInt = -(w : Int) := by
  rw [Int32.toInt_neg, nI_toInt h]
  exact Int.bmod_eq_of_le (by omega) (by omega)
theorem sb_nle {a b : Nat} (ha : a < 2 ^ 31) (hb : b < 2 ^ 31) : -nI a ≤ -nI b ↔ b ≤ a := by
  rw [Int32.le_iff_toInt_le, sb_negT ha, sb_negT hb]
  omega
theorem sb_nlt {a b : Nat} (ha : a < 2 ^ 31) (hb : b < 2 ^ 31) : -nI a < -nI b ↔ b < a := by
  rw [Int32.lt_iff_toInt_lt, sb_negT ha, sb_negT hb]
  omega
theorem sb_cmp {A B : Prop} {x : Int32} (v c : Nat) (f : c ≤ v → A) (g : v < c → B) (hv : v < 2 ^ 31) (hx : x = -nI c := by rfl) (hc : c < 2 ^ 31 := by omega) : (-nI v ≤ x → A) ∧ (¬ -nI v ≤ x → B) := by
  subst hx
  rw [sb_nle hv hc]
  exact ⟨f, fun z => g (by omega)⟩
theorem sb_ndiv {w : Nat} (hw : w < 2 ^ 31) : (-nI w) / 100 = -nI (w / 100) := by
  apply Int32.toInt_inj.mp
  have h100 : (100 : Int32).toInt = 100 := by decide
  rw [Int32.toInt_div, sb_negT hw, h100, sb_negT (by omega), Int.neg_tdiv, Int.tdiv_eq_ediv_of_nonneg (by omega), Int.bmod_eq_of_le (by omega) (by omega)]
  omega
theorem sb_nrem {w : Nat} (hw : w < 2 ^ 31) : (-nI (w / 100)) * 100 - (-nI w) = nI (w % 100) := by
  have h := pk_rem (a := w) (d := 100) hw (by decide) (by decide)
  rw [pk_div hw (by decide) (by decide)] at h
  rw [← h]
  show (-nI (w / 100)) * nI 100 - (-nI w) = nI w - nI (w / 100) * nI 100
  rw [Int32.neg_mul, Int32.sub_neg, Int32.add_comm, ← Int32.sub_eq_add_neg]
end
section
/-! basics: choice by a Prop, updates, codes with 32 for none, least index, counts, folds -/
noncomputable def ms_ic {α : Type} (c : Prop) (a b : α) : α := @ite α c (Classical.propDecidable c) a b
theorem ms_ic_t {α : Type} {c : Prop} {a b : α} (h : c) : ms_ic c a b = a := by unfold ms_ic; rw [if_pos h]
theorem ms_ic_f {α : Type} {c : Prop} {a b : α} (h : ¬ c) : ms_ic c a b = b := by unfold ms_ic; rw [if_neg h]
theorem ms_ic_c {α : Type} {c d : Prop} {a b : α} (h : c ↔ d) : ms_ic c a b = ms_ic d a b := by
  rcases Classical.em c with z | z
  · rw [ms_ic_t z, ms_ic_t (h.mp z)]
  · rw [ms_ic_f z, ms_ic_f (fun y => z (h.mpr y))]
def ms_fu {α : Type} (f : Nat → α) (k : Nat) (v : α) : Nat → α := fun i => if i = k then v else f i
theorem ms_fu_s {α : Type} {f : Nat → α} {k : Nat} {v : α} : ms_fu f k v k = v := by simp [ms_fu]
theorem ms_fu_n {α : Type} {f : Nat → α} {k i : Nat} {v : α} (h : i ≠ k) : ms_fu f k v i = f i := by simp [ms_fu, h]
theorem ms_us {f : Nat → Int32} {k : Nat} {x : Int32} : upd f k x k = x := by simp [upd]
theorem ms_un' {f : Nat → Int32} {k j : Nat} {x : Int32} (h : j ≠ k) : upd f k x j = f j := by simp [upd, h]
theorem ms_b1 : vp_nar .boolean 1 = 1 := by decide
theorem ms_b0 : vp_nar .boolean 0 = 0 := by decide
theorem ms_10 : ¬ (1 : Int32) = 0 := by decide
/-! 32 is none -/
def ms_c (n : Nat) : Int32 := if n < 32 then nI n else -1
theorem ms_c_lt {n : Nat} (h : n < 32) : ms_c n = nI n := by unfold ms_c; rw [if_pos h]
theorem ms_c_ge {n : Nat} (h : ¬ n < 32) : ms_c n = -1 := by unfold ms_c; rw [if_neg h]
theorem ms_c_32 : ms_c 32 = -1 := ms_c_ge (by omega)
theorem ms_c_neg {n : Nat} : ms_c n < 0 ↔ ¬ n < 32 := by
  by_cases h : n < 32
  · rw [ms_c_lt h]; exact ⟨fun z => absurd z (nI_pos (by omega)), fun z => absurd h z⟩
  · rw [ms_c_ge h]; exact ⟨fun _ => h, fun _ => by decide⟩
theorem ms_c_le {n : Nat} : 0 ≤ ms_c n ↔ n < 32 := by
  by_cases h : n < 32
  · rw [ms_c_lt h]; exact ⟨fun _ => h, fun _ => nI_pos' (by omega)⟩
  · rw [ms_c_ge h]; exact ⟨fun z => absurd z (by decide), fun z => absurd z h⟩
theorem ms_c_m1 {n : Nat} : ms_c n = -1 ↔ ¬ n < 32 := by
  by_cases h : n < 32
  · rw [ms_c_lt h]
    refine ⟨fun z => ?_, fun z => absurd h z⟩
    have := nI_pos (n := n) (by omega)
    rw [z] at this
    exact absurd (by decide) this
  · rw [ms_c_ge h]; exact ⟨fun _ => h, fun _ => rfl⟩
theorem ms_c_eq {n m : Nat} (hm : m < 32) : ms_c n = nI m ↔ n = m := by
  by_cases h : n < 32
  · rw [ms_c_lt h]; exact nI_eq (by omega) (by omega)
  · rw [ms_c_ge h]
    refine ⟨fun z => ?_, fun z => absurd (z ▸ hm) h⟩
    have := nI_pos (n := m) (by omega)
    rw [← z] at this
    exact absurd (by decide) this
theorem ms_c_inj {n m : Nat} (hn : n ≤ 32) (hm : m ≤ 32) : ms_c n = ms_c m ↔ n = m := by
  by_cases h : m < 32
  · rw [ms_c_lt h]; exact ms_c_eq h
  · have e : m = 32 := by omega
    subst e
    rw [ms_c_32, ms_c_m1]
    omega
theorem ms_c_in {n : Nat} (h : n < 32) : vp_in (ms_c n) 32 := by rw [ms_c_lt h]; exact vp_in_nI h (by omega)
theorem ms_c_cl {n : Nat} (h : n < 32) : (ms_c n).toNatClampNeg = n := by rw [ms_c_lt h]; exact nI_clamp (by omega)
/-! the least index below N with P; 32 if there is none -/
noncomputable def ms_lo (P : Nat → Prop) : Nat → Nat
  | 0 => 32
  | n + 1 => if ms_lo P n < 32 then ms_lo P n else ms_ic (P n) n 32
theorem ms_lo_spec (P : Nat → Prop) : ∀ N, N ≤ 32 → (ms_lo P N = 32 ∧ ∀ j, j < N → ¬ P j) ∨ (ms_lo P N < N ∧ P (ms_lo P N) ∧ ∀ j, j < ms_lo P N → ¬ P j)
  | 0, _ => Or.inl ⟨rfl, fun j h => absurd h (Nat.not_lt_zero j)⟩
  | n + 1, h => by
    rcases ms_lo_spec P n (by omega) with ⟨e, a⟩ | ⟨e, a, b⟩
    · have q : ms_lo P (n + 1) = ms_ic (P n) n 32 := by
        show (if ms_lo P n < 32 then ms_lo P n else ms_ic (P n) n 32) = _
        rw [if_neg (by omega)]
      rcases Classical.em (P n) with z | z
      · rw [q, ms_ic_t z]
        exact Or.inr ⟨by omega, z, a⟩
      · rw [q, ms_ic_f z]
        exact Or.inl ⟨rfl, lt_s a z⟩
    · have q : ms_lo P (n + 1) = ms_lo P n := by
        show (if ms_lo P n < 32 then ms_lo P n else ms_ic (P n) n 32) = _
        rw [if_pos (by omega)]
      rw [q]
      exact Or.inr ⟨by omega, a, b⟩
theorem ms_lo_le {P : Nat → Prop} {N : Nat} (h : N ≤ 32) : ms_lo P N ≤ 32 := by
  rcases ms_lo_spec P N h with ⟨e, _⟩ | ⟨e, _⟩ <;> omega
theorem ms_lo_P {P : Nat → Prop} {N : Nat} (h : N ≤ 32) (hl : ms_lo P N < 32) : P (ms_lo P N) := by
  rcases ms_lo_spec P N h with ⟨e, _⟩ | ⟨_, e, _⟩
  · omega
  · exact e
theorem ms_lo_lt {P : Nat → Prop} {N : Nat} (h : N ≤ 32) (hl : ms_lo P N < 32) : ms_lo P N < N := by
  rcases ms_lo_spec P N h with ⟨e, _⟩ | ⟨e, _⟩
  · omega
  · exact e
theorem ms_lo_min {P : Nat → Prop} {N : Nat} (h : N ≤ 32) {j : Nat} (hj : j < N) (hl : j < ms_lo P N) : ¬ P j := by
  rcases ms_lo_spec P N h with ⟨_, e⟩ | ⟨_, _, e⟩
  · exact e j hj
  · exact e j hl
theorem ms_lo_none {P : Nat → Prop} {N : Nat} (h : N ≤ 32) (hn : ∀ j, j < N → ¬ P j) : ms_lo P N = 32 := by
  rcases ms_lo_spec P N h with ⟨e, _⟩ | ⟨e, z, _⟩
  · exact e
  · exact absurd z (hn _ e)
theorem ms_lo_no {P : Nat → Prop} {N : Nat} (h : N ≤ 32) (hn : ¬ ms_lo P N < 32) : ∀ j, j < N → ¬ P j := by
  rcases ms_lo_spec P N h with ⟨_, e⟩ | ⟨e, _⟩
  · exact e
  · omega
theorem ms_lo_is {P : Nat → Prop} {N i : Nat} (h : N ≤ 32) (hi : i < N) (hp : P i) (hn : ∀ j, j < i → ¬ P j) : ms_lo P N = i := by
  rcases ms_lo_spec P N h with ⟨_, e⟩ | ⟨_, z, e⟩
  · exact absurd hp (e i hi)
  · rcases Nat.lt_trichotomy (ms_lo P N) i with y | y | y
    · exact absurd z (hn _ y)
    · exact y
    · exact absurd hp (e i y)
theorem ms_lo_ex {P : Nat → Prop} {N i : Nat} (h : N ≤ 32) (hi : i < N) (hp : P i) : ms_lo P N < 32 := by
  rcases ms_lo_spec P N h with ⟨_, e⟩ | ⟨e, _⟩
  · exact absurd hp (e i hi)
  · omega
theorem ms_lo_congr {P Q : Nat → Prop} {N : Nat} (h : N ≤ 32) (e : ∀ j, j < N → (P j ↔ Q j)) : ms_lo P N = ms_lo Q N := by
  rcases ms_lo_spec P N h with ⟨a, b⟩ | ⟨a, b, c⟩
  · rw [a]
    exact (ms_lo_none h fun j hj z => b j hj ((e j hj).mpr z)).symm
  · exact (ms_lo_is h a ((e _ a).mp b) fun j hj z => c j hj ((e j (by omega)).mpr z)).symm
theorem ms_lo_cut {P : Nat → Prop} {N : Nat} (h : N ≤ 32) (e : ∀ j, N ≤ j → j < 32 → ¬ P j) : ms_lo P 32 = ms_lo P N := by
  rcases ms_lo_spec P N h with ⟨a, b⟩ | ⟨a, b, c⟩
  · rw [a]
    refine ms_lo_none (by omega) fun j hj => ?_
    rcases Nat.lt_or_ge j N with z | z
    · exact b j z
    · exact e j z hj
  · exact ms_lo_is (by omega) (by omega) b c
/-! counts -/
noncomputable def ms_b01 (P : Prop) : Nat := ms_ic P 1 0
theorem ms_b01_t {P : Prop} (h : P) : ms_b01 P = 1 := ms_ic_t h
theorem ms_b01_f {P : Prop} (h : ¬ P) : ms_b01 P = 0 := ms_ic_f h
theorem ms_b01_le (P : Prop) : ms_b01 P ≤ 1 := by
  rcases Classical.em P with h | h
  · rw [ms_b01_t h]; omega
  · rw [ms_b01_f h]; omega
theorem ms_b01_mono {P Q : Prop} (h : P → Q) : ms_b01 P ≤ ms_b01 Q := by
  rcases Classical.em P with hp | hp
  · rw [ms_b01_t hp, ms_b01_t (h hp)]; omega
  · rw [ms_b01_f hp]; omega
noncomputable def ms_cn (P : Nat → Prop) : Nat → Nat
  | 0 => 0
  | k + 1 => ms_cn P k + ms_b01 (P k)
theorem ms_cn_mono {P Q : Nat → Prop} : ∀ {N : Nat}, (∀ k, k < N → P k → Q k) → ms_cn P N ≤ ms_cn Q N
  | 0, _ => Nat.le_refl _
  | N + 1, h => by
    have a := ms_cn_mono (P := P) (Q := Q) (N := N) (fun k hk => h k (by omega))
    have b := ms_b01_mono (h N (by omega))
    simp only [ms_cn]; omega
theorem ms_cn_lt {P Q : Nat → Prop} {a : Nat} (hp : ¬ P a) (hq : Q a) : ∀ {N : Nat}, (∀ k, k < N → P k → Q k) → a < N → ms_cn P N < ms_cn Q N
  | 0, _, h => by omega
  | N + 1, h, ha => by
    simp only [ms_cn]
    rcases Nat.lt_or_ge a N with z | z
    · have x := ms_cn_lt hp hq (N := N) (fun k hk => h k (by omega)) z
      have b := ms_b01_mono (h N (by omega))
      omega
    · have e : a = N := by omega
      subst e
      have x := ms_cn_mono (P := P) (Q := Q) (N := a) (fun k hk => h k (by omega))
      rw [ms_b01_t hq, ms_b01_f hp]; omega
theorem ms_cn_le (P : Nat → Prop) : ∀ N, ms_cn P N ≤ N
  | 0 => Nat.le_refl _
  | N + 1 => by have := ms_cn_le P N; have := ms_b01_le (P N); simp only [ms_cn]; omega
theorem ms_cn_eq {P Q : Nat → Prop} {N : Nat} (h : ∀ k, k < N → (P k ↔ Q k)) : ms_cn P N = ms_cn Q N :=
  Nat.le_antisymm (ms_cn_mono fun k hk => (h k hk).mp) (ms_cn_mono fun k hk => (h k hk).mpr)
theorem ms_cn_add {P : Nat → Prop} {a : Nat} (hp : ¬ P a) : ∀ {N : Nat}, a < N → ms_cn (fun k => P k ∨ k = a) N = ms_cn P N + 1
  | 0, h => by omega
  | N + 1, h => by
    simp only [ms_cn]
    rcases Nat.lt_or_ge a N with z | z
    · rw [ms_cn_add hp z]
      have : ms_b01 (P N ∨ N = a) = ms_b01 (P N) := Nat.le_antisymm (ms_b01_mono fun q => q.elim id (fun e => by omega)) (ms_b01_mono Or.inl)
      omega
    · have e : a = N := by omega
      subst e
      rw [ms_cn_eq (P := fun k => P k ∨ k = a) (Q := P) (fun k hk => ⟨fun q => q.elim id (fun e => by omega), Or.inl⟩), ms_b01_t (Or.inr rfl), ms_b01_f hp]
theorem ms_cn_pos {P : Nat → Prop} {N i : Nat} (hi : i < N) (hp : P i) : 0 < ms_cn P N := by
  have z : ms_cn (fun _ => False) N < ms_cn P N := ms_cn_lt (a := i) (fun h => h) hp (fun _ _ h => h.elim) hi
  omega
theorem ms_cn_0 {P : Nat → Prop} {N : Nat} (h : ms_cn P N = 0) : ∀ i, i < N → ¬ P i := fun i hi hp => by
  have := ms_cn_pos hi hp
  omega
theorem ms_cn_no {P : Nat → Prop} {N : Nat} (h : ∀ i, i < N → ¬ P i) : ms_cn P N = 0 := by
  induction N with
  | zero => rfl
  | succ n ih =>
    simp only [ms_cn]
    rw [ih fun i hi => h i (by omega), ms_b01_f (h n (by omega))]
theorem ms_cn_1 {P : Nat → Prop} {N a b : Nat} (h : ms_cn P N = 1) (ha : a < N) (hb : b < N) (pa : P a) (pb : P b) : a = b := by
  rcases Nat.decEq a b with z | z
  · exfalso
    have h1 : ms_cn (fun k => k = a) N < ms_cn P N := ms_cn_lt (a := b) (fun e => z e.symm) pb (fun k _ e => e ▸ pa) hb
    have h2 := ms_cn_pos (P := fun k => k = a) ha rfl
    omega
  · exact z
theorem ms_cn_cut {P : Nat → Prop} {N K : Nat} (hNK : N ≤ K) (h : ∀ j, N ≤ j → j < K → ¬ P j) : ms_cn P K = ms_cn P N := by
  induction K with
  | zero =>
    have : N = 0 := by omega
    rw [this]
  | succ k ih =>
    rcases Nat.lt_or_ge k N with z | z
    · have : N = k + 1 := by omega
      rw [this]
    · simp only [ms_cn]
      rw [ih z fun j a b => h j a (by omega), ms_b01_f (h k z (by omega))]; rfl
theorem ms_cn_s {P : Nat → Prop} {N : Nat} : ms_cn P (N + 1) = ms_cn P N + ms_b01 (P N) := rfl
theorem ms_cn_st {P : Nat → Prop} {N : Nat} (h : P N) : ms_cn P (N + 1) = ms_cn P N + 1 := by rw [ms_cn_s, ms_b01_t h]
theorem ms_cn_sf {P : Nat → Prop} {N : Nat} (h : ¬ P N) : ms_cn P (N + 1) = ms_cn P N := by rw [ms_cn_s, ms_b01_f h]; rfl
theorem ms_cn_le' {P : Nat → Prop} {N K : Nat} (h : N ≤ K) : ms_cn P N ≤ ms_cn P K := by
  induction K with
  | zero =>
    have : N = 0 := by omega
    rw [this]; exact Nat.le_refl _
  | succ k ih =>
    rcases Nat.lt_or_ge k N with z | z
    · have : N = k + 1 := by omega
      rw [this]; exact Nat.le_refl _
    · have := ih z
      rw [ms_cn_s]; omega
theorem ms_pig {f : Nat → Nat} {N : Nat} : ∀ k, (∀ i, i < k → f i < N) → (∀ i j, i < k → j < k → f i = f j → i = j) → ms_cn (fun j => ∃ i, i < k ∧ f i = j) N = k
  | 0, _, _ => ms_cn_no fun i _ ⟨j, hj, _⟩ => absurd hj (Nat.not_lt_zero j)
  | k + 1, h, inj => by
    have ih := ms_pig k (fun i hi => h i (by omega)) (fun i j hi hj => inj i j (by omega) (by omega))
    rw [ms_cn_eq (Q := fun j => (∃ i, i < k ∧ f i = j) ∨ j = f k), ms_cn_add, ih]
    · rintro ⟨i, hi, e⟩
      have := inj i k (by omega) (by omega) e
      omega
    · exact h k (by omega)
    · intro j _
      constructor
      · rintro ⟨i, hi, e⟩
        rcases Nat.lt_or_ge i k with z | z
        · exact Or.inl ⟨i, z, e⟩
        · have : i = k := by omega
          subst this
          exact Or.inr e.symm
      · rintro (⟨i, hi, e⟩ | e)
        · exact ⟨i, by omega, e⟩
        · exact ⟨k, by omega, e.symm⟩
theorem ms_pig' {f : Nat → Nat} {N k : Nat} (h : ∀ i, i < k → f i < N) (inj : ∀ i j, i < k → j < k → f i = f j → i = j) : k ≤ N := by
  have := ms_pig k h inj
  have := ms_cn_le (fun j => ∃ i, i < k ∧ f i = j) N
  omega
/-! folds -/
def ms_fo {α : Type} (f : Nat → α → α) (a : α) : Nat → α
  | 0 => a
  | n + 1 => f n (ms_fo f a n)
theorem ms_fo_cut {α : Type} {f : Nat → α → α} {a : α} {N K : Nat} (hNK : N ≤ K) (h : ∀ i s, N ≤ i → i < K → f i s = s) : ms_fo f a K = ms_fo f a N := by
  induction K with
  | zero =>
    have : N = 0 := by omega
    rw [this]
  | succ k ih =>
    rcases Nat.lt_or_ge k N with z | z
    · have : N = k + 1 := by omega
      rw [this]
    · show f k (ms_fo f a k) = _
      rw [h k _ z (by omega)]
      exact ih z fun i s a b => h i s a (by omega)
theorem ms_fo_ind {α : Type} {f : Nat → α → α} {a : α} {N : Nat} (I : Nat → α → Prop) (h0 : I 0 a) (h : ∀ i s, i < N → I i s → I (i + 1) (f i s)) : ∀ i, i ≤ N → I i (ms_fo f a i)
  | 0, _ => h0
  | i + 1, hi => h i _ (by omega) (ms_fo_ind I h0 h i (by omega))
/-! bounded ranks: from any rank one below N -/
theorem ms_rank {f : Nat → Nat} {V : Nat → Prop} {N : Nat} {d : Nat → Nat} (h : ∀ i, i < N → V i → f i < N → V (f i) ∧ d (f i) < d i) :
    ∃ d' : Nat → Nat, (∀ i, i < N → V i → d' i < N) ∧ ∀ i, i < N → V i → f i < N → d' (f i) < d' i := by
  refine ⟨fun i => ms_cn (fun j => V j ∧ d j < d i) N, fun i hi hv => ?_, fun i hi hv hf => ?_⟩
  · have a : ms_cn (fun j => V j ∧ d j < d i) N < ms_cn (fun j => V j) N := ms_cn_lt (a := i) (fun z => Nat.lt_irrefl _ z.2) hv (fun _ _ z => z.1) hi
    have b := ms_cn_le (fun j => V j) N
    show ms_cn (fun j => V j ∧ d j < d i) N < N
    omega
  · obtain ⟨a, b⟩ := h i hi hv hf
    exact ms_cn_lt (a := f i) (fun z => Nat.lt_irrefl _ z.2) ⟨a, b⟩ (fun _ _ z => ⟨z.1, by omega⟩) hf
end
section
/-! the abstract state: used, fs, root, space, parent, point, group, master, unbindable; 32 is none -/
abbrev ms_AS : Type := (Nat → Prop) × (Nat → Int32) × (Nat → Nat) × (Nat → Nat) × (Nat → Nat) × (Nat → Nat) × (Nat → Nat) × (Nat → Nat) × (Nat → Int32)
def ms_U (A : ms_AS) : Nat → Prop := A.1
def ms_F (A : ms_AS) : Nat → Int32 := A.2.1
def ms_R (A : ms_AS) : Nat → Nat := A.2.2.1
def ms_S (A : ms_AS) : Nat → Nat := A.2.2.2.1
def ms_P (A : ms_AS) : Nat → Nat := A.2.2.2.2.1
def ms_Q (A : ms_AS) : Nat → Nat := A.2.2.2.2.2.1
def ms_G (A : ms_AS) : Nat → Nat := A.2.2.2.2.2.2.1
def ms_M (A : ms_AS) : Nat → Nat := A.2.2.2.2.2.2.2.1
def ms_B (A : ms_AS) : Nat → Int32 := A.2.2.2.2.2.2.2.2
section
variable {u : Nat → Prop} {f : Nat → Int32} {r s p q g m : Nat → Nat} {b : Nat → Int32}
theorem ms_U_mk : ms_U (u, f, r, s, p, q, g, m, b) = u := rfl
theorem ms_F_mk : ms_F (u, f, r, s, p, q, g, m, b) = f := rfl
theorem ms_R_mk : ms_R (u, f, r, s, p, q, g, m, b) = r := rfl
theorem ms_S_mk : ms_S (u, f, r, s, p, q, g, m, b) = s := rfl
theorem ms_P_mk : ms_P (u, f, r, s, p, q, g, m, b) = p := rfl
theorem ms_Q_mk : ms_Q (u, f, r, s, p, q, g, m, b) = q := rfl
theorem ms_G_mk : ms_G (u, f, r, s, p, q, g, m, b) = g := rfl
theorem ms_M_mk : ms_M (u, f, r, s, p, q, g, m, b) = m := rfl
theorem ms_B_mk : ms_B (u, f, r, s, p, q, g, m, b) = b := rfl
end
def ms_nw (A : ms_AS) (y : Nat) (f : Int32) (r s : Nat) : ms_AS := (fun i => i = y ∨ ms_U A i, ms_fu (ms_F A) y f, ms_fu (ms_R A) y r, ms_fu (ms_S A) y s, ms_fu (ms_P A) y 32, ms_fu (ms_Q A) y 32, ms_fu (ms_G A) y 32, ms_fu (ms_M A) y 32, ms_fu (ms_B A) y 0)
def ms_lk (A : ms_AS) (y p d : Nat) : ms_AS := (ms_U A, ms_F A, ms_R A, ms_S A, ms_fu (ms_P A) y p, ms_fu (ms_Q A) y d, ms_G A, ms_M A, ms_B A)
def ms_sG (A : ms_AS) (y l : Nat) : ms_AS := (ms_U A, ms_F A, ms_R A, ms_S A, ms_P A, ms_Q A, ms_fu (ms_G A) y l, ms_M A, ms_B A)
def ms_sM (A : ms_AS) (y l : Nat) : ms_AS := (ms_U A, ms_F A, ms_R A, ms_S A, ms_P A, ms_Q A, ms_G A, ms_fu (ms_M A) y l, ms_B A)
def ms_sB (A : ms_AS) (y : Nat) (b : Int32) : ms_AS := (ms_U A, ms_F A, ms_R A, ms_S A, ms_P A, ms_Q A, ms_G A, ms_M A, ms_fu (ms_B A) y b)
def ms_wM (A : ms_AS) (m : Nat → Nat) : ms_AS := (ms_U A, ms_F A, ms_R A, ms_S A, ms_P A, ms_Q A, ms_G A, m, ms_B A)
def ms_de (A : ms_AS) (x : Nat) : ms_AS := (fun i => ms_U A i ∧ i ≠ x, ms_F A, ms_R A, ms_S A, ms_P A, ms_Q A, ms_G A, ms_M A, ms_B A)
/-! the arrays of one side show the abstract state; e: the code of its labels -/
def ms_CR (e : Nat → Int32) (A : ms_AS) (us fs rt sp pa pt g m ub : Nat → Int32) : Prop :=
  ∀ i, i < 32 → (us i = 0 ↔ ¬ ms_U A i) ∧ fs i = ms_F A i ∧ rt i = nI (ms_R A i) ∧ sp i = nI (ms_S A i) ∧ (ms_U A i → pa i = ms_c (ms_P A i) ∧ pt i = ms_c (ms_Q A i)) ∧ g i = e (ms_G A i) ∧ m i = e (ms_M A i) ∧ ub i = ms_B A i
section
variable {e : Nat → Int32} {A : ms_AS} {us fs rt sp pa pt g m ub : Nat → Int32}
theorem ms_CR_u (h : ms_CR e A us fs rt sp pa pt g m ub) {i : Nat} (hi : i < 32) : us i = 0 ↔ ¬ ms_U A i := (h i hi).1
theorem ms_CR_f (h : ms_CR e A us fs rt sp pa pt g m ub) {i : Nat} (hi : i < 32) : fs i = ms_F A i := (h i hi).2.1
theorem ms_CR_r (h : ms_CR e A us fs rt sp pa pt g m ub) {i : Nat} (hi : i < 32) : rt i = nI (ms_R A i) := (h i hi).2.2.1
theorem ms_CR_s (h : ms_CR e A us fs rt sp pa pt g m ub) {i : Nat} (hi : i < 32) : sp i = nI (ms_S A i) := (h i hi).2.2.2.1
theorem ms_CR_p (h : ms_CR e A us fs rt sp pa pt g m ub) {i : Nat} (hi : i < 32) (hu : ms_U A i) : pa i = ms_c (ms_P A i) := ((h i hi).2.2.2.2.1 hu).1
theorem ms_CR_q (h : ms_CR e A us fs rt sp pa pt g m ub) {i : Nat} (hi : i < 32) (hu : ms_U A i) : pt i = ms_c (ms_Q A i) := ((h i hi).2.2.2.2.1 hu).2
theorem ms_CR_g (h : ms_CR e A us fs rt sp pa pt g m ub) {i : Nat} (hi : i < 32) : g i = e (ms_G A i) := (h i hi).2.2.2.2.2.1
theorem ms_CR_m (h : ms_CR e A us fs rt sp pa pt g m ub) {i : Nat} (hi : i < 32) : m i = e (ms_M A i) := (h i hi).2.2.2.2.2.2.1
theorem ms_CR_b (h : ms_CR e A us fs rt sp pa pt g m ub) {i : Nat} (hi : i < 32) : ub i = ms_B A i := (h i hi).2.2.2.2.2.2.2
theorem ms_CR_nw (h : ms_CR e A us fs rt sp pa pt g m ub) {z : Int32} (he : e 32 = z) (y : Nat) (f : Int32) (r s : Nat) :
    ms_CR e (ms_nw A y f r s) (upd us y (vp_nar .boolean 1)) (upd fs y f) (upd rt y (nI r)) (upd sp y (nI s)) (upd pa y (-1)) (upd pt y (-1)) (upd g y z) (upd m y z) (upd ub y 0) := by
  intro i hi
  obtain ⟨a1, a2, a3, a4, a5, a6, a7, a8⟩ := h i hi
  simp only [ms_nw, ms_U_mk, ms_F_mk, ms_R_mk, ms_S_mk, ms_P_mk, ms_Q_mk, ms_G_mk, ms_M_mk, ms_B_mk]
  by_cases w : i = y
  · subst w
    simp only [ms_us, ms_fu_s, ms_b1, ms_c_32, he]
    exact ⟨⟨fun q => absurd q ms_10, fun q => absurd (Or.inl trivial) q⟩, trivial, trivial, trivial, fun _ => ⟨trivial, trivial⟩, trivial, trivial, trivial⟩
  · simp only [ms_un' w, ms_fu_n w]
    exact ⟨⟨fun q => fun t => t.elim w (a1.mp q), fun q => a1.mpr fun t => q (Or.inr t)⟩, a2, a3, a4, fun t => a5 (t.elim (fun k => absurd k w) id), a6, a7, a8⟩
theorem ms_CR_lk (h : ms_CR e A us fs rt sp pa pt g m ub) (y p d : Nat) : ms_CR e (ms_lk A y p d) us fs rt sp (upd pa y (ms_c p)) (upd pt y (ms_c d)) g m ub := by
  intro i hi
  obtain ⟨a1, a2, a3, a4, a5, a6, a7, a8⟩ := h i hi
  simp only [ms_lk, ms_U_mk, ms_F_mk, ms_R_mk, ms_S_mk, ms_P_mk, ms_Q_mk, ms_G_mk, ms_M_mk, ms_B_mk]
  by_cases w : i = y
  · subst w
    simp only [ms_us, ms_fu_s]
    exact ⟨a1, a2, a3, a4, fun _ => ⟨trivial, trivial⟩, a6, a7, a8⟩
  · simp only [ms_un' w, ms_fu_n w]
    exact ⟨a1, a2, a3, a4, a5, a6, a7, a8⟩
theorem ms_CR_lk32 (h : ms_CR e A us fs rt sp pa pt g m ub) {y : Nat} (hy : ¬ y < 32) (p d : Nat) : ms_CR e (ms_lk A y p d) us fs rt sp pa pt g m ub := by
  intro i hi
  have w : i ≠ y := by omega
  obtain ⟨a1, a2, a3, a4, a5, a6, a7, a8⟩ := h i hi
  simp only [ms_lk, ms_U_mk, ms_F_mk, ms_R_mk, ms_S_mk, ms_P_mk, ms_Q_mk, ms_G_mk, ms_M_mk, ms_B_mk, ms_fu_n w]
  exact ⟨a1, a2, a3, a4, a5, a6, a7, a8⟩
theorem ms_CR_sG (h : ms_CR e A us fs rt sp pa pt g m ub) (y l : Nat) : ms_CR e (ms_sG A y l) us fs rt sp pa pt (upd g y (e l)) m ub := by
  intro i hi
  obtain ⟨a1, a2, a3, a4, a5, a6, a7, a8⟩ := h i hi
  simp only [ms_sG, ms_U_mk, ms_F_mk, ms_R_mk, ms_S_mk, ms_P_mk, ms_Q_mk, ms_G_mk, ms_M_mk, ms_B_mk]
  by_cases w : i = y
  · subst w
    simp only [ms_us, ms_fu_s]
    exact ⟨a1, a2, a3, a4, a5, trivial, a7, a8⟩
  · simp only [ms_un' w, ms_fu_n w]
    exact ⟨a1, a2, a3, a4, a5, a6, a7, a8⟩
theorem ms_CR_sM (h : ms_CR e A us fs rt sp pa pt g m ub) (y l : Nat) : ms_CR e (ms_sM A y l) us fs rt sp pa pt g (upd m y (e l)) ub := by
  intro i hi
  obtain ⟨a1, a2, a3, a4, a5, a6, a7, a8⟩ := h i hi
  simp only [ms_sM, ms_U_mk, ms_F_mk, ms_R_mk, ms_S_mk, ms_P_mk, ms_Q_mk, ms_G_mk, ms_M_mk, ms_B_mk]
  by_cases w : i = y
  · subst w
    simp only [ms_us, ms_fu_s]
    exact ⟨a1, a2, a3, a4, a5, a6, trivial, a8⟩
  · simp only [ms_un' w, ms_fu_n w]
    exact ⟨a1, a2, a3, a4, a5, a6, a7, a8⟩
theorem ms_CR_sB (h : ms_CR e A us fs rt sp pa pt g m ub) (y : Nat) (b : Int32) : ms_CR e (ms_sB A y b) us fs rt sp pa pt g m (upd ub y b) := by
  intro i hi
  obtain ⟨a1, a2, a3, a4, a5, a6, a7, a8⟩ := h i hi
  simp only [ms_sB, ms_U_mk, ms_F_mk, ms_R_mk, ms_S_mk, ms_P_mk, ms_Q_mk, ms_G_mk, ms_M_mk, ms_B_mk]
  by_cases w : i = y
  · subst w
    simp only [ms_us, ms_fu_s]
    exact ⟨a1, a2, a3, a4, a5, a6, a7, trivial⟩
  · simp only [ms_un' w, ms_fu_n w]
    exact ⟨a1, a2, a3, a4, a5, a6, a7, a8⟩
theorem ms_CR_wM (h : ms_CR e A us fs rt sp pa pt g m ub) {M' : Nat → Nat} {m' : Nat → Int32} (hm : ∀ i, i < 32 → m' i = e (M' i)) : ms_CR e (ms_wM A M') us fs rt sp pa pt g m' ub := by
  intro i hi
  obtain ⟨a1, a2, a3, a4, a5, a6, a7, a8⟩ := h i hi
  exact ⟨a1, a2, a3, a4, a5, a6, hm i hi, a8⟩
/-- a number goes out of use; what its parent and point hold then is of no account -/
theorem ms_CR_de (h : ms_CR e A us fs rt sp pa pt g m ub) (x : Nat) {pa' pt' : Nat → Int32} (h1 : ∀ i, i ≠ x → pa' i = pa i) (h2 : ∀ i, i ≠ x → pt' i = pt i) : ms_CR e (ms_de A x) (upd us x (vp_nar .boolean 0)) fs rt sp pa' pt' g m ub := by
  intro i hi
  obtain ⟨a1, a2, a3, a4, a5, a6, a7, a8⟩ := h i hi
  simp only [ms_de, ms_U_mk, ms_F_mk, ms_R_mk, ms_S_mk, ms_P_mk, ms_Q_mk, ms_G_mk, ms_M_mk, ms_B_mk]
  by_cases w : i = x
  · subst w
    simp only [ms_us, ms_b0]
    exact ⟨⟨fun _ t => t.2 rfl, fun _ => trivial⟩, a2, a3, a4, fun t => absurd rfl t.2, a6, a7, a8⟩
  · simp only [ms_un' w, h1 i w, h2 i w]
    exact ⟨⟨fun q t => a1.mp q t.1, fun q => a1.mpr fun t => q ⟨t, w⟩⟩, a2, a3, a4, fun t => a5 t.1, a6, a7, a8⟩
/-- equal below 32 is enough -/
theorem ms_CR_ext {A' : ms_AS} (h : ms_CR e A us fs rt sp pa pt g m ub) (hh : ∀ i, i < 32 → (ms_U A i ↔ ms_U A' i) ∧ ms_F A i = ms_F A' i ∧ ms_R A i = ms_R A' i ∧ ms_S A i = ms_S A' i ∧ (ms_U A i → ms_P A i = ms_P A' i ∧ ms_Q A i = ms_Q A' i) ∧ ms_G A i = ms_G A' i ∧ ms_M A i = ms_M A' i ∧ ms_B A i = ms_B A' i) : ms_CR e A' us fs rt sp pa pt g m ub := by
  intro i hi
  obtain ⟨a1, a2, a3, a4, a5, a6, a7, a8⟩ := h i hi
  obtain ⟨b1, b2, b3, b4, b5, b6, b7, b8⟩ := hh i hi
  refine ⟨a1.trans (not_congr b1), b2 ▸ a2, b3 ▸ a3, b4 ▸ a4, fun t => ?_, b6 ▸ a6, b7 ▸ a7, b8 ▸ a8⟩
  have t' := b1.mpr t
  obtain ⟨c1, c2⟩ := b5 t'
  rw [← c1, ← c2]
  exact a5 t'
end
/-! under: X's climb, Y's climb -/
def ms_ua (a : Nat) : Nat → Nat → Nat
  | 0, e => e
  | k + 1, e => if e ≤ a then e else ms_ua a k ((e - 1) / 2)
def ms_uy (a : Nat) : Nat → Nat → Nat
  | 0, e => e
  | k + 1, e => if e ≤ 0 then e else if e = a then e else ms_uy a k ((e - 1) / 2)
def ms_un (e a : Nat) : Prop := ms_ua a 15 e = a
theorem ms_un_y : ∀ e, e < 16 → ∀ a, a < 16 → (ms_ua a 15 e = a ↔ ms_uy a 15 e = a) := by decide +kernel
theorem ms_un_r : ∀ e, e < 16 → ms_ua e 15 e = e := by decide +kernel
theorem ms_un_u : ∀ e, e < 16 → ∀ a, a < 16 → ms_ua a 15 e = a → e ≠ a → ms_ua a 15 ((e - 1) / 2) = a := by decide +kernel
theorem ms_un_d1 : ∀ e, e < 7 → ∀ a, a < 16 → ms_ua a 15 e = a → ms_ua a 15 (2 * e + 1) = a := by decide +kernel
theorem ms_un_d2 : ∀ e, e < 7 → ∀ a, a < 16 → ms_ua a 15 e = a → ms_ua a 15 (2 * e + 2) = a := by decide +kernel
theorem ms_half : ∀ e, e < 16 → (nI e - 1) / 2 = nI ((e - 1) / 2) := by decide +kernel
/-! the invariants: the forest (FI), the labels (LI); what a code of labels must do (E) -/
def ms_FI (N : Nat) (lv : Nat → Prop) (rm : Nat → Nat) (A : ms_AS) : Prop :=
  (∀ i, i < 32 → ms_U A i → i < N ∧ ms_S A i < 4 ∧ lv (ms_S A i) ∧ ms_P A i ≤ 32 ∧ ms_Q A i ≤ 32) ∧
  (∀ i, i < 32 → ms_R A i < 15) ∧
  (∀ i, i < 32 → ms_U A i → ms_P A i < 32 → ms_U A (ms_P A i) ∧ ms_S A (ms_P A i) = ms_S A i ∧ ms_Q A i < 15 ∧ ms_un (ms_Q A i) (ms_R A (ms_P A i))) ∧
  (∀ s, s < 4 → lv s → rm s < 32 ∧ ms_U A (rm s) ∧ ms_S A (rm s) = s ∧ ms_P A (rm s) = 32 ∧ ∀ i, i < 32 → ms_U A i → ms_S A i = s → ms_P A i = 32 → i = rm s) ∧
  ∃ dp : Nat → Nat, ∀ i, i < 32 → ms_U A i → ms_P A i < 32 → dp (ms_P A i) < dp i
def ms_LI (A : ms_AS) : Prop :=
  (∀ i, i < 32 → ms_G A i ≤ 32 ∧ ms_M A i ≤ 32) ∧
  (∀ i, i < 32 → ¬ ms_U A i → ms_G A i = 32 ∧ ms_M A i = 32) ∧
  (∀ i, i < 32 → ms_M A i < 32 → ∃ j, j < 32 ∧ ms_G A j = ms_M A i) ∧
  (∀ i j, i < 32 → j < 32 → ms_G A i = ms_G A j → ms_G A i < 32 → ms_M A i = ms_M A j) ∧
  ∃ rk : Nat → Nat, ∀ i, i < 32 → ms_G A i < 32 → ms_M A i < 32 → rk (ms_M A i) < rk (ms_G A i)
/-- a label in use, or none -/
def ms_La (A : ms_AS) (l : Nat) : Prop := l = 32 ∨ ∃ j, j < 32 ∧ ms_G A j = l
def ms_E (e : Nat → Int32) (A : ms_AS) : Prop := ∀ a b, ms_La A a → ms_La A b → e a = e b → a = b
theorem ms_La_G {A : ms_AS} {i : Nat} (hi : i < 32) : ms_La A (ms_G A i) := Or.inr ⟨i, hi, rfl⟩
theorem ms_La_M {A : ms_AS} (h : ms_LI A) {i : Nat} (hi : i < 32) : ms_La A (ms_M A i) := by
  by_cases z : ms_M A i < 32
  · exact Or.inr (h.2.2.1 i hi z)
  · have := (h.1 i hi).2
    exact Or.inl (by omega)
theorem ms_La_le {A : ms_AS} (h : ms_LI A) {l : Nat} (hl : ms_La A l) : l ≤ 32 := by
  rcases hl with e | ⟨j, hj, e⟩
  · omega
  · have := (h.1 j hj).1
    omega
theorem ms_E_c {A : ms_AS} (h : ms_LI A) : ms_E ms_c A := fun _ _ ha hb e => (ms_c_inj (ms_La_le h ha) (ms_La_le h hb)).mp e
theorem ms_E_iff {e : Nat → Int32} {A : ms_AS} (h : ms_E e A) {a b : Nat} (ha : ms_La A a) (hb : ms_La A b) : e a = e b ↔ a = b := ⟨h a b ha hb, fun z => by rw [z]⟩
end
section
/-! the label operations keep LI -/
noncomputable def ms_lv (A : ms_AS) (x : Nat) : ms_AS :=
  ms_ic (ms_G A x = 32) A (ms_ic (∃ c, c < 32 ∧ c ≠ x ∧ ms_G A c = ms_G A x) (ms_sG A x 32) (ms_wM (ms_sG A x 32) (fun n => ms_ic (ms_M A n = ms_G A x) (ms_M A x) (ms_M A n))))
theorem ms_LI_lv {A : ms_AS} (h : ms_LI A) {x : Nat} (hx : x < 32) : ms_LI (ms_lv A x) := by
  unfold ms_lv
  by_cases z : ms_G A x = 32
  · rw [ms_ic_t z]; exact h
  rw [ms_ic_f z]
  obtain ⟨h1, h2, h3, h4, rk, h5⟩ := h
  have gx : ms_G A x < 32 := by have := (h1 x hx).1; omega
  have gn : ∀ i, i ≠ x → ms_fu (ms_G A) x 32 i = ms_G A i := fun i hi => ms_fu_n hi
  have gs : ms_fu (ms_G A) x 32 x = 32 := ms_fu_s
  by_cases w : ∃ c, c < 32 ∧ c ≠ x ∧ ms_G A c = ms_G A x
  · rw [ms_ic_t w]
    simp only [ms_LI, ms_sG, ms_U_mk, ms_G_mk, ms_M_mk]
    refine ⟨fun i hi => ?_, fun i hi hu => ?_, fun i hi hm => ?_, fun i j hi hj e hl => ?_, rk, fun i hi hg hm => ?_⟩
    · by_cases q : i = x
      · subst q; rw [gs]; exact ⟨Nat.le_refl _, (h1 i hi).2⟩
      · rw [gn i q]; exact h1 i hi
    · by_cases q : i = x
      · subst q; rw [gs]; exact ⟨rfl, (h2 i hi hu).2⟩
      · rw [gn i q]; exact h2 i hi hu
    · obtain ⟨j, hj, e⟩ := h3 i hi hm
      by_cases q : j = x
      · subst q
        obtain ⟨c, hc, hcx, ec⟩ := w
        exact ⟨c, hc, by rw [gn c hcx, ec, e]⟩
      · exact ⟨j, hj, by rw [gn j q, e]⟩
    · have qi : i ≠ x := fun q => by subst q; rw [gs] at hl; omega
      have qj : j ≠ x := fun q => by subst q; rw [e, gs] at hl; omega
      rw [gn i qi, gn j qj] at e
      rw [gn i qi] at hl
      exact h4 i j hi hj e hl
    · have qi : i ≠ x := fun q => by subst q; rw [gs] at hg; omega
      rw [gn i qi] at hg ⊢
      exact h5 i hi hg hm
  · rw [ms_ic_f w]
    simp only [ms_LI, ms_wM, ms_sG, ms_U_mk, ms_G_mk, ms_M_mk]
    have only : ∀ j, j < 32 → ms_G A j = ms_G A x → j = x := fun j hj e => Classical.byContradiction fun q => w ⟨j, hj, q, e⟩
    have mt : ∀ i, ms_M A i = ms_G A x → ms_ic (ms_M A i = ms_G A x) (ms_M A x) (ms_M A i) = ms_M A x := fun i q => ms_ic_t q
    have mf : ∀ i, ¬ ms_M A i = ms_G A x → ms_ic (ms_M A i = ms_G A x) (ms_M A x) (ms_M A i) = ms_M A i := fun i q => ms_ic_f q
    refine ⟨fun i hi => ⟨?_, ?_⟩, fun i hi hu => ⟨?_, ?_⟩, fun i hi hm => ?_, fun i j hi hj e hl => ?_, rk, fun i hi hg hm => ?_⟩
    · by_cases q : i = x
      · subst q; rw [gs]; exact Nat.le_refl _
      · rw [gn i q]; exact (h1 i hi).1
    · by_cases q : ms_M A i = ms_G A x
      · rw [mt i q]; exact (h1 x hx).2
      · rw [mf i q]; exact (h1 i hi).2
    · by_cases q : i = x
      · subst q; rw [gs]
      · rw [gn i q]; exact (h2 i hi hu).1
    · have q : ¬ ms_M A i = ms_G A x := fun q => by rw [(h2 i hi hu).2] at q; omega
      rw [mf i q]; exact (h2 i hi hu).2
    · by_cases q : ms_M A i = ms_G A x
      · rw [mt i q] at hm ⊢
        obtain ⟨j, hj, e⟩ := h3 x hx hm
        have jx : j ≠ x := fun r => by
          subst r
          have := h5 j hx gx hm
          rw [e] at this
          omega
        exact ⟨j, hj, by rw [gn j jx, e]⟩
      · rw [mf i q] at hm ⊢
        obtain ⟨j, hj, e⟩ := h3 i hi hm
        have jx : j ≠ x := fun r => by subst r; exact q e.symm
        exact ⟨j, hj, by rw [gn j jx, e]⟩
    · have qi : i ≠ x := fun q => by subst q; rw [gs] at hl; omega
      have qj : j ≠ x := fun q => by subst q; rw [e, gs] at hl; omega
      rw [gn i qi, gn j qj] at e
      rw [gn i qi] at hl
      rw [h4 i j hi hj e hl]
    · have qi : i ≠ x := fun q => by subst q; rw [gs] at hg; omega
      rw [gn i qi] at hg ⊢
      by_cases q : ms_M A i = ms_G A x
      · rw [mt i q] at hm ⊢
        have a := h5 x hx gx hm
        have b := h5 i hi hg (by omega)
        rw [q] at b
        omega
      · rw [mf i q] at hm ⊢
        exact h5 i hi hg hm
/-- a new label for x -/
noncomputable def ms_nl (A : ms_AS) : Nat := ms_lo (fun l => ∀ i, i < 32 → ms_G A i ≠ l) 32
theorem ms_nl_ok {A : ms_AS} {x : Nat} (hx : x < 32) (gx : ms_G A x = 32) : ms_nl A < 32 ∧ ∀ i, i < 32 → ms_G A i ≠ ms_nl A := by
  have key : ms_nl A < 32 := by
    apply Classical.byContradiction
    intro hn
    have no := ms_lo_no (N := 32) (Nat.le_refl _) hn
    have all : ∀ l, l < 32 → ms_lo (fun i => ms_G A i = l) 32 < 32 := by
      intro l hl
      have a := no l hl
      apply Classical.byContradiction
      intro b
      exact a fun i hi => ms_lo_no (N := 32) (Nat.le_refl _) b i hi
    have gf : ∀ l, l < 33 → ms_G A (ms_ic (l < 32) (ms_lo (fun i => ms_G A i = l) 32) x) = l := by
      intro l hl
      by_cases q : l < 32
      · rw [ms_ic_t q]; exact ms_lo_P (P := fun i => ms_G A i = l) (Nat.le_refl _) (all l q)
      · rw [ms_ic_f q, gx]; omega
    have := ms_pig' (f := fun l => ms_ic (l < 32) (ms_lo (fun i => ms_G A i = l) 32) x) (N := 32) (k := 33) (fun l hl => by
      show ms_ic (l < 32) (ms_lo (fun i => ms_G A i = l) 32) x < 32
      by_cases q : l < 32
      · rw [ms_ic_t q]; exact all l q
      · rw [ms_ic_f q]; exact hx) (fun a b ha hb e => by
      have e1 := gf a ha
      have e2 := gf b hb
      have e' : ms_ic (a < 32) (ms_lo (fun i => ms_G A i = a) 32) x = ms_ic (b < 32) (ms_lo (fun i => ms_G A i = b) 32) x := e
      rw [e', e2] at e1
      exact e1.symm)
    omega
  exact ⟨key, ms_lo_P (P := fun l => ∀ i, i < 32 → ms_G A i ≠ l) (Nat.le_refl _) key⟩
theorem ms_LI_new {A : ms_AS} (h : ms_LI A) {x l : Nat} (hx : x < 32) (ux : ms_U A x) (gx : ms_G A x = 32) (hl : l < 32) (fr : ∀ i, i < 32 → ms_G A i ≠ l) : ms_LI (ms_sG A x l) := by
  obtain ⟨h1, h2, h3, h4, rk, h5⟩ := h
  have gn : ∀ i, i ≠ x → ms_fu (ms_G A) x l i = ms_G A i := fun i hi => ms_fu_n hi
  have gs : ms_fu (ms_G A) x l x = l := ms_fu_s
  have ml : ∀ i, i < 32 → ms_M A i ≠ l := fun i hi e => by
    obtain ⟨j, hj, e'⟩ := h3 i hi (by omega)
    exact fr j hj (by omega)
  simp only [ms_LI, ms_sG, ms_U_mk, ms_G_mk, ms_M_mk]
  refine ⟨fun i hi => ⟨?_, (h1 i hi).2⟩, fun i hi hu => ?_, fun i hi hm => ?_, fun i j hi hj e hg => ?_, ms_fu rk l (rk (ms_M A x) + 1), fun i hi hg hm => ?_⟩
  · by_cases q : i = x
    · subst q; rw [gs]; omega
    · rw [gn i q]; exact (h1 i hi).1
  · have q : i ≠ x := fun q => hu (q ▸ ux)
    rw [gn i q]; exact h2 i hi hu
  · obtain ⟨j, hj, e⟩ := h3 i hi hm
    have q : j ≠ x := fun q => by subst q; omega
    exact ⟨j, hj, by rw [gn j q, e]⟩
  · by_cases qi : i = x
    · by_cases qj : j = x
      · rw [qi, qj]
      · subst qi
        rw [gs, gn j qj] at e
        exact absurd e.symm (fr j hj)
    · by_cases qj : j = x
      · subst qj
        rw [gs, gn i qi] at e
        exact absurd e (fr i hi)
      · rw [gn i qi, gn j qj] at e
        rw [gn i qi] at hg
        exact h4 i j hi hj e hg
  · rw [ms_fu_n (ml i hi)]
    by_cases q : i = x
    · subst q; rw [gs, ms_fu_s]; omega
    · rw [gn i q] at hg ⊢
      rw [ms_fu_n (fr i hi)]
      exact h5 i hi hg hm
/-- another master, for a mount without a group -/
theorem ms_LI_sM {A : ms_AS} (h : ms_LI A) {y l : Nat} (uy : ms_U A y ∨ l = 32) (gy : ms_G A y = 32) (hl : ms_La A l) : ms_LI (ms_sM A y l) := by
  have ll := ms_La_le h hl
  obtain ⟨h1, h2, h3, h4, rk, h5⟩ := h
  have mn : ∀ i, i ≠ y → ms_fu (ms_M A) y l i = ms_M A i := fun i hi => ms_fu_n hi
  have e : ms_fu (ms_M A) y l y = l := ms_fu_s
  simp only [ms_LI, ms_sM, ms_U_mk, ms_G_mk, ms_M_mk]
  refine ⟨fun i hi => ⟨(h1 i hi).1, ?_⟩, fun i hi hu => ⟨(h2 i hi hu).1, ?_⟩, fun i hi hm => ?_, fun i j hi hj e hg => ?_, rk, fun i hi hg hm => ?_⟩
  · by_cases q : i = y
    · subst q; rw [e]; exact ll
    · rw [mn i q]; exact (h1 i hi).2
  · by_cases q : i = y
    · subst q; rw [e]; exact uy.elim (fun z => absurd z hu) id
    · rw [mn i q]; exact (h2 i hi hu).2
  · by_cases q : i = y
    · subst q
      rw [e] at hm ⊢
      rcases hl with z | z
      · omega
      · exact z
    · rw [mn i q] at hm ⊢; exact h3 i hi hm
  · have qi : i ≠ y := fun q => by subst q; omega
    have qj : j ≠ y := fun q => by subst q; omega
    rw [mn i qi, mn j qj]
    exact h4 i j hi hj e hg
  · have qi : i ≠ y := fun q => by subst q; omega
    rw [mn i qi] at hm ⊢
    exact h5 i hi hg hm
/-- y takes z's group; both have one master -/
theorem ms_LI_sG {A : ms_AS} (h : ms_LI A) {y z : Nat} (hy : y < 32) (hz : z < 32) (uy : ms_U A y) (gy : ms_G A y = 32) (hm : ms_M A y = ms_M A z) : ms_LI (ms_sG A y (ms_G A z)) := by
  obtain ⟨h1, h2, h3, h4, rk, h5⟩ := h
  have gn : ∀ i, i ≠ y → ms_fu (ms_G A) y (ms_G A z) i = ms_G A i := fun i hi => ms_fu_n hi
  have gs : ms_fu (ms_G A) y (ms_G A z) y = ms_G A z := ms_fu_s
  simp only [ms_LI, ms_sG, ms_U_mk, ms_G_mk, ms_M_mk]
  refine ⟨fun i hi => ⟨?_, (h1 i hi).2⟩, fun i hi hu => ?_, fun i hi hm => ?_, fun i j hi hj e hg => ?_, rk, fun i hi hg hmm => ?_⟩
  · by_cases q : i = y
    · subst q; rw [gs]; exact (h1 z hz).1
    · rw [gn i q]; exact (h1 i hi).1
  · have q : i ≠ y := fun q => hu (q ▸ uy)
    rw [gn i q]; exact h2 i hi hu
  · obtain ⟨j, hj, e⟩ := h3 i hi hm
    have q : j ≠ y := fun q => by subst q; omega
    exact ⟨j, hj, by rw [gn j q, e]⟩
  · by_cases qi : i = y
    · by_cases qj : j = y
      · rw [qi, qj]
      · subst qi
        rw [gs, gn j qj] at e
        rw [gs] at hg
        rw [hm]
        exact h4 z j hz hj e hg
    · by_cases qj : j = y
      · subst qj
        rw [gs, gn i qi] at e
        rw [gn i qi] at hg
        rw [hm]
        exact h4 i z hi hz e hg
      · rw [gn i qi, gn j qj] at e
        rw [gn i qi] at hg
        exact h4 i j hi hj e hg
  · by_cases q : i = y
    · subst q
      rw [gs] at hg ⊢
      rw [hm] at hmm ⊢
      exact h5 z hz hg hmm
    · rw [gn i q] at hg ⊢
      exact h5 i hi hg hmm
/-- y takes z's group and master -/
theorem ms_LI_cp {A : ms_AS} (h : ms_LI A) {y z : Nat} (hy : y < 32) (hz : z < 32) (uy : ms_U A y) (gy : ms_G A y = 32) (hyz : y ≠ z) : ms_LI (ms_sM (ms_sG A y (ms_G A z)) y (ms_M A z)) := by
  have a := ms_LI_sM h (y := y) (l := ms_M A z) (Or.inl uy) gy (ms_La_M h hz)
  have b := ms_LI_sG a hy hz uy gy (by
    simp only [ms_sM, ms_M_mk]
    rw [ms_fu_s, ms_fu_n (fun q => hyz q.symm)])
  exact b
theorem ms_LI_ext {A A' : ms_AS} (h : ms_LI A) (hh : ∀ i, i < 32 → (ms_U A i → ms_U A' i ∨ (ms_G A i = 32 ∧ ms_M A i = 32)) ∧ ms_G A i = ms_G A' i ∧ ms_M A i = ms_M A' i) : ms_LI A' := by
  obtain ⟨h1, h2, h3, h4, rk, h5⟩ := h
  have g : ∀ i, i < 32 → ms_G A' i = ms_G A i := fun i hi => (hh i hi).2.1.symm
  have m : ∀ i, i < 32 → ms_M A' i = ms_M A i := fun i hi => (hh i hi).2.2.symm
  refine ⟨fun i hi => ?_, fun i hi hu => ?_, fun i hi hm => ?_, fun i j hi hj e hg => ?_, rk, fun i hi hg hm => ?_⟩
  · rw [g i hi, m i hi]; exact h1 i hi
  · rw [g i hi, m i hi]
    by_cases u : ms_U A i
    · exact ((hh i hi).1 u).elim (fun z => absurd z hu) id
    · exact h2 i hi u
  · rw [m i hi] at hm ⊢
    obtain ⟨j, hj, e⟩ := h3 i hi hm
    exact ⟨j, hj, by rw [g j hj, e]⟩
  · rw [g i hi, g j hj] at e
    rw [g i hi] at hg
    rw [m i hi, m j hj]
    exact h4 i j hi hj e hg
  · rw [g i hi] at hg ⊢
    rw [m i hi] at hm ⊢
    exact h5 i hi hg hm
theorem ms_lv_U {A : ms_AS} {x : Nat} : ms_U (ms_lv A x) = ms_U A := by
  unfold ms_lv
  by_cases z : ms_G A x = 32
  · rw [ms_ic_t z]
  · rw [ms_ic_f z]
    by_cases w : ∃ c, c < 32 ∧ c ≠ x ∧ ms_G A c = ms_G A x
    · rw [ms_ic_t w]; rfl
    · rw [ms_ic_f w]; rfl
theorem ms_lv_g {A : ms_AS} {x : Nat} : ms_G (ms_lv A x) x = 32 := by
  unfold ms_lv
  by_cases z : ms_G A x = 32
  · rw [ms_ic_t z]; exact z
  · rw [ms_ic_f z]
    by_cases w : ∃ c, c < 32 ∧ c ≠ x ∧ ms_G A c = ms_G A x
    · rw [ms_ic_t w]; exact ms_fu_s
    · rw [ms_ic_f w]; exact ms_fu_s
theorem ms_lv_G {A : ms_AS} {x i : Nat} (h : i ≠ x) : ms_G (ms_lv A x) i = ms_G A i := by
  unfold ms_lv
  by_cases z : ms_G A x = 32
  · rw [ms_ic_t z]
  · rw [ms_ic_f z]
    by_cases w : ∃ c, c < 32 ∧ c ≠ x ∧ ms_G A c = ms_G A x
    · rw [ms_ic_t w]; exact ms_fu_n h
    · rw [ms_ic_f w]; exact ms_fu_n h
/-- leaving keeps all but the labels -/
theorem ms_lv_k {A : ms_AS} {x : Nat} : ms_F (ms_lv A x) = ms_F A ∧ ms_R (ms_lv A x) = ms_R A ∧ ms_S (ms_lv A x) = ms_S A ∧ ms_P (ms_lv A x) = ms_P A ∧ ms_Q (ms_lv A x) = ms_Q A ∧ ms_B (ms_lv A x) = ms_B A := by
  unfold ms_lv
  by_cases z : ms_G A x = 32
  · rw [ms_ic_t z]; exact ⟨rfl, rfl, rfl, rfl, rfl, rfl⟩
  · rw [ms_ic_f z]
    by_cases w : ∃ c, c < 32 ∧ c ≠ x ∧ ms_G A c = ms_G A x
    · rw [ms_ic_t w]; exact ⟨rfl, rfl, rfl, rfl, rfl, rfl⟩
    · rw [ms_ic_f w]; exact ⟨rfl, rfl, rfl, rfl, rfl, rfl⟩
/-- a label that is in use after x has left -/
theorem ms_lv_La {A : ms_AS} {x l : Nat} (h : ms_La (ms_lv A x) l) : ms_La A l := by
  rcases h with e | ⟨j, hj, e⟩
  · exact Or.inl e
  · by_cases q : j = x
    · subst q; rw [ms_lv_g] at e; exact Or.inl e.symm
    · rw [ms_lv_G q] at e; exact Or.inr ⟨j, hj, e⟩
noncomputable def ms_rv (A : ms_AS) (x : Nat) : ms_AS := ms_de (ms_sM (ms_lv A x) x 32) x
theorem ms_LI_rv {A : ms_AS} (h : ms_LI A) {x : Nat} (hx : x < 32) : ms_LI (ms_rv A x) := by
  have a := ms_LI_sM (ms_LI_lv h hx) (y := x) (l := 32) (Or.inr rfl) ms_lv_g (Or.inl rfl)
  refine ms_LI_ext a fun i hi => ⟨fun u => ?_, rfl, rfl⟩
  by_cases q : i = x
  · subst q; exact Or.inr ⟨ms_lv_g, ms_fu_s⟩
  · exact Or.inl ⟨u, q⟩
/-! the kinds -/
noncomputable def ms_kd (A : ms_AS) (x : Nat) (k : Int32) : ms_AS :=
  if k = 1 then ms_ic (ms_G A x = 32) (ms_sB (ms_sG A x (ms_nl A)) x 0) A
  else if k = 2 then ms_ic (∃ c, c < 32 ∧ ms_G (ms_lv A x) c = ms_G A x ∧ ms_G A x < 32) (ms_sM (ms_lv A x) x (ms_G A x)) (ms_lv A x)
  else ms_sB (ms_sM (ms_lv A x) x 32) x (if k = 3 then 1 else 0)
theorem ms_LI_kd {A : ms_AS} (h : ms_LI A) {x : Nat} (hx : x < 32) (ux : ms_U A x) (k : Int32) : ms_LI (ms_kd A x k) := by
  unfold ms_kd
  by_cases k1 : k = 1
  · rw [if_pos k1]
    by_cases z : ms_G A x = 32
    · rw [ms_ic_t z]
      obtain ⟨a, b⟩ := ms_nl_ok hx z
      exact ms_LI_new h hx ux z a b
    · rw [ms_ic_f z]; exact h
  · rw [if_neg k1]
    by_cases k2 : k = 2
    · rw [if_pos k2]
      by_cases z : ∃ c, c < 32 ∧ ms_G (ms_lv A x) c = ms_G A x ∧ ms_G A x < 32
      · rw [ms_ic_t z]
        refine ms_LI_sM (ms_LI_lv h hx) (Or.inl ?_) ms_lv_g ?_
        · rw [ms_lv_U]; exact ux
        · obtain ⟨c, hc, e, _⟩ := z
          exact Or.inr ⟨c, hc, e⟩
      · rw [ms_ic_f z]; exact ms_LI_lv h hx
    · rw [if_neg k2]
      exact ms_LI_sM (ms_LI_lv h hx) (y := x) (l := 32) (Or.inr rfl) ms_lv_g (Or.inl rfl)
theorem ms_kd_k {A : ms_AS} {x : Nat} {k : Int32} : ms_U (ms_kd A x k) = ms_U A ∧ ms_F (ms_kd A x k) = ms_F A ∧ ms_R (ms_kd A x k) = ms_R A ∧ ms_S (ms_kd A x k) = ms_S A ∧ ms_P (ms_kd A x k) = ms_P A ∧ ms_Q (ms_kd A x k) = ms_Q A := by
  obtain ⟨l1, l2, l3, l4, l5, _⟩ := ms_lv_k (A := A) (x := x)
  have l0 := ms_lv_U (A := A) (x := x)
  unfold ms_kd
  by_cases k1 : k = 1
  · rw [if_pos k1]
    by_cases z : ms_G A x = 32
    · rw [ms_ic_t z]; exact ⟨rfl, rfl, rfl, rfl, rfl, rfl⟩
    · rw [ms_ic_f z]; exact ⟨rfl, rfl, rfl, rfl, rfl, rfl⟩
  · rw [if_neg k1]
    by_cases k2 : k = 2
    · rw [if_pos k2]
      by_cases z : ∃ c, c < 32 ∧ ms_G (ms_lv A x) c = ms_G A x ∧ ms_G A x < 32
      · rw [ms_ic_t z]; exact ⟨l0, l1, l2, l3, l4, l5⟩
      · rw [ms_ic_f z]; exact ⟨l0, l1, l2, l3, l4, l5⟩
    · rw [if_neg k2]; exact ⟨l0, l1, l2, l3, l4, l5⟩
/-- FI looks at neither labels nor kinds -/
theorem ms_FI_ext {N : Nat} {lv : Nat → Prop} {rm : Nat → Nat} {A A' : ms_AS} (h : ms_FI N lv rm A) (hh : ms_U A' = ms_U A ∧ ms_F A' = ms_F A ∧ ms_R A' = ms_R A ∧ ms_S A' = ms_S A ∧ ms_P A' = ms_P A ∧ ms_Q A' = ms_Q A) : ms_FI N lv rm A' := by
  obtain ⟨e1, _, e3, e4, e5, e6⟩ := hh
  unfold ms_FI
  rw [e1, e3, e4, e5, e6]
  exact h
end
section
/-! the forest operations keep FI -/
theorem ms_bd (f : Nat → Nat) : ∀ n, ∃ K, ∀ x, x < n → f x < K
  | 0 => ⟨0, fun x h => absurd h (Nat.not_lt_zero x)⟩
  | n + 1 => by
    obtain ⟨K, h⟩ := ms_bd f n
    refine ⟨K + f n + 1, fun x hx => ?_⟩
    rcases Nat.lt_or_ge x n with z | z
    · have := h x z; omega
    · have : x = n := by omega
      subst this; omega
/-- copies: ix i < 32 says that i is the new copy of ix i; y x is the copy of x -/
def ms_gf (A : ms_AS) (ix y rt' : Nat → Nat) (s t r d : Nat) (pa0 pt0 : Nat → Nat) (q : Nat) (G' M' : Nat → Nat) (B' : Nat → Int32) : ms_AS :=
  (fun i => ix i < 32 ∨ ms_U A i,
   fun i => if ix i < 32 then ms_F A (ix i) else ms_F A i,
   fun i => if ix i < 32 then rt' (ix i) else ms_R A i,
   fun i => if ix i < 32 then s else ms_S A i,
   fun i => if ix i < 32 then (if ix i = t then r else y (pa0 (ix i))) else if i = q then y t else ms_P A i,
   fun i => if ix i < 32 then (if ix i = t then d else pt0 (ix i)) else if i = q then rt' t else ms_Q A i,
   G', M', B')
def ms_Cm (N : Nat) (A : ms_AS) (T : Nat → Prop) (ix y : Nat → Nat) : Prop :=
  (∀ x, T x → y x < N ∧ y x < 32 ∧ ¬ ms_U A (y x) ∧ ix (y x) = x) ∧ ∀ i, i < 32 → ix i < 32 → T (ix i) ∧ y (ix i) = i
def ms_Tr (T : Nat → Prop) (t : Nat) (pa0 pt0 rt' : Nat → Nat) : Prop :=
  T t ∧ (∀ x, T x → x < 32 ∧ rt' x < 15) ∧ (∀ x, T x → x ≠ t → pa0 x < 32 ∧ T (pa0 x) ∧ pt0 x < 15 ∧ ms_un (pt0 x) (rt' (pa0 x))) ∧ ∃ dl : Nat → Nat, ∀ x, T x → x ≠ t → dl (pa0 x) < dl x
theorem ms_FI_gf {N : Nat} {lv : Nat → Prop} {rm : Nat → Nat} {A : ms_AS} {T : Nat → Prop} {ix y rt' : Nat → Nat} {s t r d : Nat} {pa0 pt0 : Nat → Nat} {q : Nat} {G' M' : Nat → Nat} {B' : Nat → Int32}
    (h : ms_FI N lv rm A) (hc : ms_Cm N A T ix y) (ht : ms_Tr T t pa0 pt0 rt') (hr : r < 32) (ur : ms_U A r) (sr : ms_S A r = s) (hd : d < 15) (und : ms_un d (ms_R A r)) (hq : q < 32 → ms_U A q ∧ ms_P A q = r) :
    ms_FI N lv rm (ms_gf A ix y rt' s t r d pa0 pt0 q G' M' B') := by
  obtain ⟨c1, c2⟩ := hc
  obtain ⟨t1, t2, t3, dl, t4⟩ := ht
  obtain ⟨h1, h2, h3, h4, dp, h5⟩ := h
  obtain ⟨yt1, yt2, yt3, yt4⟩ := c1 t t1
  obtain ⟨tt, tr⟩ := t2 t t1
  obtain ⟨rN, rs, rlv, _, _⟩ := h1 r hr ur
  have old : ∀ i, i < 32 → ms_U A i → ¬ ix i < 32 := fun i hi ui n => by
    obtain ⟨a, b⟩ := c2 i hi n
    obtain ⟨_, _, nu, _⟩ := c1 _ a
    rw [b] at nu
    exact nu ui
  have or := old r hr ur
  simp only [ms_FI, ms_gf, ms_U_mk, ms_S_mk, ms_P_mk, ms_Q_mk, ms_R_mk]
  refine ⟨fun i hi ui => ?_, fun i hi => ?_, fun i hi ui hp => ?_, fun s' hs' hl => ?_, ?_⟩
  · by_cases n : ix i < 32
    · obtain ⟨a, b⟩ := c2 i hi n
      obtain ⟨y1, y2, _, _⟩ := c1 _ a
      rw [b] at y1
      simp only [if_pos n]
      refine ⟨y1, by rw [← sr]; exact rs, by rw [← sr]; exact rlv, ?_, ?_⟩
      · by_cases w : ix i = t
        · rw [if_pos w]; omega
        · rw [if_neg w]
          have := (c1 _ (t3 _ a w).2.1).2.1
          omega
      · by_cases w : ix i = t
        · rw [if_pos w]; omega
        · rw [if_neg w]
          have := (t3 _ a w).2.2.1
          omega
    · have u := ui.elim (fun z => absurd z n) id
      obtain ⟨a1, a2, a3, a4, a5⟩ := h1 i hi u
      simp only [if_neg n]
      refine ⟨a1, a2, a3, ?_, ?_⟩
      · by_cases w : i = q
        · rw [if_pos w]; omega
        · rw [if_neg w]; exact a4
      · by_cases w : i = q
        · rw [if_pos w]; omega
        · rw [if_neg w]; exact a5
  · by_cases n : ix i < 32
    · rw [if_pos n]; exact (t2 _ (c2 i hi n).1).2
    · rw [if_neg n]; exact h2 i hi
  · by_cases n : ix i < 32
    · obtain ⟨a, b⟩ := c2 i hi n
      simp only [if_pos n] at hp ⊢
      by_cases w : ix i = t
      · simp only [if_pos w, if_neg or]
        exact ⟨Or.inr ur, sr, hd, und⟩
      · simp only [if_neg w]
        obtain ⟨p1, p2, p3, p4⟩ := t3 _ a w
        obtain ⟨z1, z2, z3, z4⟩ := c1 _ p2
        simp only [z4, if_pos p1]
        exact ⟨Or.inl p1, trivial, p3, p4⟩
    · have u := ui.elim (fun z => absurd z n) id
      simp only [if_neg n] at hp ⊢
      by_cases w : i = q
      · subst w
        obtain ⟨_, pq⟩ := hq hi
        have k := (h3 i hi u (by omega)).2.1
        rw [pq, sr] at k
        simp only [if_true, yt4, if_pos tt]
        exact ⟨Or.inl tt, k, tr, ms_un_r _ (by omega)⟩
      · simp only [if_neg w] at hp ⊢
        obtain ⟨b1, b2, b3, b4⟩ := h3 i hi u hp
        simp only [if_neg (old _ hp b1)]
        exact ⟨Or.inr b1, b2, b3, b4⟩
  · obtain ⟨m1, m2, m3, m4, m5⟩ := h4 s' hs' hl
    have o := old _ m1 m2
    have nq : ¬ rm s' = q := fun e => by
      have := (hq (e ▸ m1)).2
      rw [← e, m4] at this
      omega
    simp only [if_neg o, if_neg nq]
    refine ⟨m1, Or.inr m2, m3, m4, fun i hi ui si pi => ?_⟩
    by_cases n : ix i < 32
    · exfalso
      obtain ⟨a, b⟩ := c2 i hi n
      simp only [if_pos n] at pi
      by_cases w : ix i = t
      · rw [if_pos w] at pi; omega
      · rw [if_neg w] at pi
        have := (c1 _ (t3 _ a w).2.1).2.1
        omega
    · have u := ui.elim (fun z => absurd z n) id
      simp only [if_neg n] at si pi
      by_cases w : i = q
      · rw [if_pos w] at pi; omega
      · rw [if_neg w] at pi
        exact m5 i hi u si pi
  · obtain ⟨K, hK⟩ := ms_bd dl 32
    refine ⟨fun i => if ix i < 32 then (K + 1) * dp r + 1 + dl (ix i) else (K + 1) * dp i, fun i hi ui hp => ?_⟩
    dsimp only
    by_cases n : ix i < 32
    · obtain ⟨a, b⟩ := c2 i hi n
      simp only [if_pos n] at hp ⊢
      by_cases w : ix i = t
      · simp only [if_pos w, if_neg or]
        omega
      · simp only [if_neg w]
        obtain ⟨p1, p2, p3, p4⟩ := t3 _ a w
        obtain ⟨z1, z2, z3, z4⟩ := c1 _ p2
        simp only [z4, if_pos p1]
        have := t4 _ a w
        omega
    · have u := ui.elim (fun z => absurd z n) id
      simp only [if_neg n] at hp ⊢
      by_cases w : i = q
      · subst w
        obtain ⟨_, pq⟩ := hq hi
        have k := h5 i hi u (by omega)
        rw [pq] at k
        simp only [if_true, yt4, if_pos tt]
        have k1 : (K + 1) * (dp r + 1) ≤ (K + 1) * dp i := Nat.mul_le_mul_left _ k
        have k2 := hK t tt
        rw [Nat.mul_add, Nat.mul_one] at k1
        omega
      · simp only [if_neg w] at hp ⊢
        have b1 := (h3 i hi u hp).1
        simp only [if_neg (old _ hp b1)]
        exact Nat.mul_lt_mul_of_pos_left (h5 i hi u hp) (Nat.succ_pos K)
/-- one new mount, attached at once -/
theorem ms_FI_nw {N : Nat} {lv : Nat → Prop} {rm : Nat → Nat} {A : ms_AS} {y p d s : Nat} {f : Int32} (h : ms_FI N lv rm A) (yN : y < N) (y32 : y < 32) (uy : ¬ ms_U A y) (hp : p < 32) (up : ms_U A p) (sp : ms_S A p = s) (hd : d < 15) (und : ms_un d (ms_R A p)) :
    ms_FI N lv rm (ms_lk (ms_nw A y f 0 s) y p d) := by
  obtain ⟨h1, h2, h3, h4, dp, h5⟩ := h
  have py : p ≠ y := fun e => uy (e ▸ up)
  obtain ⟨pN, ps, plv, _, _⟩ := h1 p hp up
  simp only [ms_FI, ms_lk, ms_nw, ms_U_mk, ms_S_mk, ms_P_mk, ms_Q_mk, ms_R_mk]
  refine ⟨fun i hi ui => ?_, fun i hi => ?_, fun i hi ui hpp => ?_, fun s' hs' hl => ?_, ms_fu dp y (dp p + 1), fun i hi ui hpp => ?_⟩
  · by_cases w : i = y
    · subst w
      simp only [ms_fu_s]
      exact ⟨yN, by omega, by rw [← sp]; exact plv, by omega, by omega⟩
    · simp only [ms_fu_n w]
      exact h1 i hi (ui.elim (fun z => absurd z w) id)
  · by_cases w : i = y
    · subst w; rw [ms_fu_s]; omega
    · rw [ms_fu_n w]; exact h2 i hi
  · by_cases w : i = y
    · subst w
      simp only [ms_fu_s, ms_fu_n py]
      exact ⟨Or.inr up, sp, hd, und⟩
    · have u := ui.elim (fun z => absurd z w) id
      simp only [ms_fu_n w] at hpp ⊢
      obtain ⟨b1, b2, b3, b4⟩ := h3 i hi u hpp
      have w2 : ms_P A i ≠ y := fun e => uy (e ▸ b1)
      simp only [ms_fu_n w2]
      exact ⟨Or.inr b1, b2, b3, b4⟩
  · obtain ⟨m1, m2, m3, m4, m5⟩ := h4 s' hs' hl
    have w : rm s' ≠ y := fun e => uy (e ▸ m2)
    simp only [ms_fu_n w]
    refine ⟨m1, Or.inr m2, m3, m4, fun i hi ui si pi => ?_⟩
    by_cases w : i = y
    · subst w; rw [ms_fu_s] at pi; omega
    · simp only [ms_fu_n w] at si pi
      exact m5 i hi (ui.elim (fun z => absurd z w) id) si pi
  · by_cases w : i = y
    · subst w
      simp only [ms_fu_s, ms_fu_n py]
      omega
    · have u := ui.elim (fun z => absurd z w) id
      simp only [ms_fu_n w] at hpp ⊢
      have b1 := (h3 i hi u hpp).1
      have w2 : ms_P A i ≠ y := fun e => uy (e ▸ b1)
      rw [ms_fu_n w2]
      exact h5 i hi u hpp
/-- a tree is moved to a place outside it -/
theorem ms_FI_mv {N : Nat} {lv : Nat → Prop} {rm : Nat → Nat} {A : ms_AS} {T : Nat → Prop} {t p d : Nat} (h : ms_FI N lv rm A) (tt : t < 32) (ut : ms_U A t) (pt : ms_P A t < 32) (Tt : T t) (Tc : ∀ i, i < 32 → ms_U A i → ms_P A i < 32 → T (ms_P A i) → T i) (Tp : ∀ i, i < 32 → T i → i ≠ t → T (ms_P A i)) (hp : p < 32) (up : ms_U A p) (np : ¬ T p) (sp : ms_S A p = ms_S A t) (hd : d < 15) (und : ms_un d (ms_R A p)) :
    ms_FI N lv rm (ms_lk A t p d) := by
  obtain ⟨h1, h2, h3, h4, dp, h5⟩ := h
  simp only [ms_FI, ms_lk, ms_U_mk, ms_S_mk, ms_P_mk, ms_Q_mk, ms_R_mk]
  refine ⟨fun i hi ui => ?_, h2, fun i hi ui hpp => ?_, fun s' hs' hl => ?_, fun i => ms_ic (T i) (dp i + dp p + 1) (dp i), fun i hi ui hpp => ?_⟩
  · obtain ⟨a1, a2, a3, a4, a5⟩ := h1 i hi ui
    by_cases w : i = t
    · subst w; rw [ms_fu_s, ms_fu_s]; exact ⟨a1, a2, a3, by omega, by omega⟩
    · rw [ms_fu_n w, ms_fu_n w]; exact ⟨a1, a2, a3, a4, a5⟩
  · by_cases w : i = t
    · subst w; rw [ms_fu_s, ms_fu_s]; exact ⟨up, sp, hd, und⟩
    · rw [ms_fu_n w] at hpp ⊢; rw [ms_fu_n w]; exact h3 i hi ui hpp
  · obtain ⟨m1, m2, m3, m4, m5⟩ := h4 s' hs' hl
    have w : rm s' ≠ t := fun e => by rw [e] at m4; omega
    rw [ms_fu_n w]
    refine ⟨m1, m2, m3, m4, fun i hi ui si pi => ?_⟩
    by_cases w : i = t
    · subst w; rw [ms_fu_s] at pi; omega
    · rw [ms_fu_n w] at pi; exact m5 i hi ui si pi
  · dsimp only
    by_cases w : i = t
    · subst w
      rw [ms_fu_s, ms_ic_t Tt, ms_ic_f np]
      omega
    · rw [ms_fu_n w] at hpp ⊢
      have k := h5 i hi ui hpp
      by_cases z : T i
      · rw [ms_ic_t z, ms_ic_t (Tp i hi z w)]; omega
      · rw [ms_ic_f z, ms_ic_f (fun z' => z (Tc i hi ui hpp z'))]; exact k
/-- c goes, and its only child q, if there is one, takes its place -/
theorem ms_FI_rm {N : Nat} {lv : Nat → Prop} {rm : Nat → Nat} {A A' : ms_AS} {c q : Nat} (h : ms_FI N lv rm A) (hc : c < 32) (uc : ms_U A c) (pc : ms_P A c < 32) (oq : ∀ i, i < 32 → ms_U A i → ms_P A i = c → i = q) (hq : q < 32 → ms_U A q ∧ ms_P A q = c)
    (eU : ∀ i, ms_U A' i ↔ (ms_U A i ∧ i ≠ c)) (eR : ms_R A' = ms_R A) (eS : ms_S A' = ms_S A) (eP : ms_P A' = ms_fu (ms_P A) q (ms_P A c)) (eQ : ms_Q A' = ms_fu (ms_Q A) q (ms_Q A c)) :
    ms_FI N lv rm A' := by
  obtain ⟨h1, h2, h3, h4, dp, h5⟩ := h
  obtain ⟨c1, c2, c3, c4⟩ := h3 c hc uc pc
  have k1 := h5 c hc uc pc
  have npc : ms_P A c ≠ c := fun e => by rw [e] at k1; omega
  simp only [ms_FI, eU, eR, eS, eP, eQ]
  refine ⟨fun i hi ui => ?_, h2, fun i hi ui hpp => ?_, fun s' hs' hl => ?_, dp, fun i hi ui hpp => ?_⟩
  · obtain ⟨a1, a2, a3, a4, a5⟩ := h1 i hi ui.1
    by_cases w : i = q
    · subst w; rw [ms_fu_s, ms_fu_s]; exact ⟨a1, a2, a3, by omega, by omega⟩
    · rw [ms_fu_n w, ms_fu_n w]; exact ⟨a1, a2, a3, a4, a5⟩
  · by_cases w : i = q
    · subst w
      obtain ⟨_, z⟩ := hq hi
      have b2 := (h3 i hi ui.1 (by omega)).2.1
      rw [z] at b2
      rw [ms_fu_s, ms_fu_s]
      exact ⟨⟨c1, npc⟩, by rw [c2, b2], c3, c4⟩
    · rw [ms_fu_n w] at hpp ⊢
      rw [ms_fu_n w]
      obtain ⟨b1, b2, b3, b4⟩ := h3 i hi ui.1 hpp
      exact ⟨⟨b1, fun e => w (oq i hi ui.1 e)⟩, b2, b3, b4⟩
  · obtain ⟨m1, m2, m3, m4, m5⟩ := h4 s' hs' hl
    have w : rm s' ≠ q := fun e => by
      have := (hq (e ▸ m1)).2
      rw [← e, m4] at this
      omega
    rw [ms_fu_n w]
    refine ⟨m1, ⟨m2, fun e => ?_⟩, m3, m4, fun i hi ui si pi => ?_⟩
    · rw [e] at m4; omega
    · by_cases w : i = q
      · subst w; rw [ms_fu_s] at pi; omega
      · rw [ms_fu_n w] at pi; exact m5 i hi ui.1 si pi
  · by_cases w : i = q
    · subst w
      obtain ⟨_, z⟩ := hq hi
      have b := h5 i hi ui.1 (by omega)
      rw [z] at b
      rw [ms_fu_s]
      omega
    · rw [ms_fu_n w] at hpp ⊢
      exact h5 i hi ui.1 hpp
/-- a whole space goes -/
theorem ms_FI_dr {N : Nat} {lv : Nat → Prop} {rm : Nat → Nat} {A A' : ms_AS} {s : Nat} (h : ms_FI N lv rm A)
    (eU : ∀ i, i < 32 → (ms_U A' i ↔ (ms_U A i ∧ ms_S A i ≠ s))) (eR : ms_R A' = ms_R A) (eS : ms_S A' = ms_S A) (eP : ms_P A' = ms_P A) (eQ : ms_Q A' = ms_Q A) :
    ms_FI N (fun i => lv i ∧ i ≠ s) rm A' := by
  obtain ⟨h1, h2, h3, h4, dp, h5⟩ := h
  simp only [ms_FI, eR, eS, eP, eQ]
  refine ⟨fun i hi ui => ?_, h2, fun i hi ui hpp => ?_, fun s' hs' hl => ?_, dp, fun i hi ui hpp => ?_⟩
  · obtain ⟨u, v⟩ := (eU i hi).mp ui
    obtain ⟨a1, a2, a3, a4, a5⟩ := h1 i hi u
    exact ⟨a1, a2, ⟨a3, v⟩, a4, a5⟩
  · obtain ⟨u, v⟩ := (eU i hi).mp ui
    obtain ⟨b1, b2, b3, b4⟩ := h3 i hi u hpp
    exact ⟨(eU _ hpp).mpr ⟨b1, by rw [b2]; exact v⟩, b2, b3, b4⟩
  · obtain ⟨m1, m2, m3, m4, m5⟩ := h4 s' hs' hl.1
    exact ⟨m1, (eU _ m1).mpr ⟨m2, by rw [m3]; exact hl.2⟩, m3, m4, fun i hi ui si pi => m5 i hi ((eU i hi).mp ui).1 si pi⟩
  · exact h5 i hi ((eU i hi).mp ui).1 hpp
/-- a space is copied to a number not in use: T is what lies in it, t its root -/
theorem ms_FI_cl {N : Nat} {lv : Nat → Prop} {rm : Nat → Nat} {A : ms_AS} {T : Nat → Prop} {ix y : Nat → Nat} {s t : Nat} {G' M' : Nat → Nat} {B' : Nat → Int32}
    (h : ms_FI N lv rm A) (hc : ms_Cm N A T ix y) (ht : ms_Tr T t (ms_P A) (ms_Q A) (ms_R A)) (hs : s < 4) (ns : ¬ lv s) :
    ms_FI N (fun i => lv i ∨ i = s) (ms_fu rm s (y t)) (ms_gf A ix y (ms_R A) s t 32 32 (ms_P A) (ms_Q A) 32 G' M' B') := by
  obtain ⟨c1, c2⟩ := hc
  obtain ⟨t1, t2, t3, dl, t4⟩ := ht
  obtain ⟨h1, h2, h3, h4, dp, h5⟩ := h
  obtain ⟨yt1, yt2, yt3, yt4⟩ := c1 t t1
  obtain ⟨tt, tr⟩ := t2 t t1
  have old : ∀ i, i < 32 → ms_U A i → ¬ ix i < 32 := fun i hi ui n => by
    obtain ⟨a, b⟩ := c2 i hi n
    obtain ⟨_, _, nu, _⟩ := c1 _ a
    rw [b] at nu
    exact nu ui
  have q32 : ∀ i, i < 32 → ¬ i = 32 := fun i hi => by omega
  simp only [ms_FI, ms_gf, ms_U_mk, ms_S_mk, ms_P_mk, ms_Q_mk, ms_R_mk]
  refine ⟨fun i hi ui => ?_, fun i hi => ?_, fun i hi ui hp => ?_, fun s' hs' hl => ?_, ?_⟩
  · by_cases n : ix i < 32
    · obtain ⟨a, b⟩ := c2 i hi n
      obtain ⟨y1, y2, _, _⟩ := c1 _ a
      rw [b] at y1
      simp only [if_pos n]
      refine ⟨y1, hs, Or.inr trivial, ?_, ?_⟩
      · by_cases w : ix i = t
        · rw [if_pos w]; omega
        · rw [if_neg w]
          have := (c1 _ (t3 _ a w).2.1).2.1
          omega
      · by_cases w : ix i = t
        · rw [if_pos w]; omega
        · rw [if_neg w]
          have := (t3 _ a w).2.2.1
          omega
    · have u := ui.elim (fun z => absurd z n) id
      obtain ⟨a1, a2, a3, a4, a5⟩ := h1 i hi u
      simp only [if_neg n, if_neg (q32 i hi)]
      exact ⟨a1, a2, Or.inl a3, a4, a5⟩
  · by_cases n : ix i < 32
    · rw [if_pos n]; exact (t2 _ (c2 i hi n).1).2
    · rw [if_neg n]; exact h2 i hi
  · by_cases n : ix i < 32
    · obtain ⟨a, b⟩ := c2 i hi n
      simp only [if_pos n] at hp ⊢
      by_cases w : ix i = t
      · simp only [if_pos w] at hp
        omega
      · simp only [if_neg w]
        obtain ⟨p1, p2, p3, p4⟩ := t3 _ a w
        obtain ⟨z1, z2, z3, z4⟩ := c1 _ p2
        simp only [z4, if_pos p1]
        exact ⟨Or.inl p1, trivial, p3, p4⟩
    · have u := ui.elim (fun z => absurd z n) id
      simp only [if_neg n, if_neg (q32 i hi)] at hp ⊢
      obtain ⟨b1, b2, b3, b4⟩ := h3 i hi u hp
      simp only [if_neg (old _ hp b1)]
      exact ⟨Or.inr b1, b2, b3, b4⟩
  · by_cases es : s' = s
    · subst es
      simp only [ms_fu_s, yt4, if_pos tt, if_true]
      refine ⟨yt2, Or.inl tt, trivial, trivial, fun i hi ui si pi => ?_⟩
      by_cases n : ix i < 32
      · obtain ⟨a, b⟩ := c2 i hi n
        simp only [if_pos n] at pi
        by_cases w : ix i = t
        · rw [← b, w]
        · rw [if_neg w] at pi
          have := (c1 _ (t3 _ a w).2.1).2.1
          omega
      · have u := ui.elim (fun z => absurd z n) id
        simp only [if_neg n] at si
        have := (h1 i hi u).2.2.1
        rw [si] at this
        exact absurd this ns
    · have hl' := hl.elim id (fun z => absurd z es)
      obtain ⟨m1, m2, m3, m4, m5⟩ := h4 s' hs' hl'
      rw [ms_fu_n es]
      simp only [if_neg (old _ m1 m2), if_neg (q32 _ m1)]
      refine ⟨m1, Or.inr m2, m3, m4, fun i hi ui si pi => ?_⟩
      by_cases n : ix i < 32
      · simp only [if_pos n] at si
        exact absurd si.symm es
      · have u := ui.elim (fun z => absurd z n) id
        simp only [if_neg n, if_neg (q32 i hi)] at si pi
        exact m5 i hi u si pi
  · refine ⟨fun i => if ix i < 32 then dl (ix i) else dp i, fun i hi ui hp => ?_⟩
    dsimp only
    by_cases n : ix i < 32
    · obtain ⟨a, b⟩ := c2 i hi n
      simp only [if_pos n] at hp ⊢
      by_cases w : ix i = t
      · simp only [if_pos w] at hp
        omega
      · simp only [if_neg w]
        obtain ⟨p1, p2, p3, p4⟩ := t3 _ a w
        obtain ⟨z1, z2, z3, z4⟩ := c1 _ p2
        simp only [z4, if_pos p1]
        exact t4 _ a w
    · have u := ui.elim (fun z => absurd z n) id
      simp only [if_neg n, if_neg (q32 i hi)] at hp ⊢
      have b1 := (h3 i hi u hp).1
      simp only [if_neg (old _ hp b1)]
      exact h5 i hi u hp
end
section
/-! numbers for copies: the lowest free ones, in the order of what is copied -/
noncomputable def ms_AU (N : Nat) (U T : Nat → Prop) : Nat → Nat → Prop
  | 0 => U
  | x + 1 => fun i => ms_AU N U T x i ∨ (T x ∧ i = ms_lo (fun j => ¬ ms_AU N U T x j) N)
noncomputable def ms_yn (N : Nat) (U T : Nat → Prop) (x : Nat) : Nat := ms_lo (fun j => ¬ ms_AU N U T x j) N
noncomputable def ms_ix (N : Nat) (U T : Nat → Prop) (i : Nat) : Nat := ms_lo (fun x => T x ∧ ms_yn N U T x = i) 32
section
variable {N : Nat} {U T : Nat → Prop}
theorem ms_AU_le {i : Nat} : ∀ {x x' : Nat}, x ≤ x' → ms_AU N U T x i → ms_AU N U T x' i := by
  intro x x' h
  induction h with
  | refl => exact id
  | step _ ih => exact fun a => Or.inl (ih a)
theorem ms_AU_cn (hN : N ≤ 32) (room : ms_cn T 32 ≤ ms_cn (fun i => ¬ U i) N) : ∀ x, x ≤ 32 → ms_cn (fun i => ¬ ms_AU N U T x i) N + ms_cn T x = ms_cn (fun i => ¬ U i) N
  | 0, _ => rfl
  | x + 1, hx => by
    have ih := ms_AU_cn hN room x (by omega)
    by_cases t : T x
    · rw [ms_cn_st t]
      have a : ms_cn T (x + 1) ≤ ms_cn T 32 := ms_cn_le' hx
      rw [ms_cn_st t] at a
      have pos : ms_lo (fun j => ¬ ms_AU N U T x j) N < 32 := by
        apply Classical.byContradiction
        intro n
        have := ms_cn_no (ms_lo_no hN n)
        omega
      have lt := ms_lo_lt hN pos
      have fr := ms_lo_P (P := fun j => ¬ ms_AU N U T x j) hN pos
      have e : ms_cn (fun i => ¬ ms_AU N U T x i) N = ms_cn (fun i => ¬ ms_AU N U T (x + 1) i) N + 1 := by
        rw [← ms_cn_add (P := fun i => ¬ ms_AU N U T (x + 1) i) (a := ms_lo (fun j => ¬ ms_AU N U T x j) N) (fun z => z (Or.inr ⟨t, rfl⟩)) lt]
        refine ms_cn_eq fun k _ => ⟨fun q => ?_, fun q => ?_⟩
        · by_cases w : k = ms_lo (fun j => ¬ ms_AU N U T x j) N
          · exact Or.inr w
          · exact Or.inl fun z => z.elim q fun z => w z.2
        · rcases q with q | q
          · exact fun z => q (Or.inl z)
          · rw [q]; exact fr
      omega
    · rw [ms_cn_sf t]
      have e : ms_cn (fun i => ¬ ms_AU N U T (x + 1) i) N = ms_cn (fun i => ¬ ms_AU N U T x i) N :=
        ms_cn_eq fun k _ => ⟨fun q z => q (Or.inl z), fun q z => z.elim q fun z => t z.1⟩
      omega
theorem ms_yn_ok (hN : N ≤ 32) (room : ms_cn T 32 ≤ ms_cn (fun i => ¬ U i) N) {x : Nat} (hx : x < 32) (t : T x) : ms_yn N U T x < N ∧ ms_yn N U T x < 32 ∧ ¬ ms_AU N U T x (ms_yn N U T x) ∧ ms_AU N U T (x + 1) (ms_yn N U T x) := by
  have ih := ms_AU_cn hN room x (by omega)
  have a : ms_cn T (x + 1) ≤ ms_cn T 32 := ms_cn_le' hx
  rw [ms_cn_st t] at a
  have pos : ms_yn N U T x < 32 := by
    apply Classical.byContradiction
    intro n
    have := ms_cn_no (ms_lo_no hN n)
    omega
  exact ⟨ms_lo_lt hN pos, pos, ms_lo_P (P := fun j => ¬ ms_AU N U T x j) hN pos, Or.inr ⟨t, rfl⟩⟩
theorem ms_yn_inj (hN : N ≤ 32) (room : ms_cn T 32 ≤ ms_cn (fun i => ¬ U i) N) {x x' : Nat} (hx : x < 32) (t : T x) (hx' : x' < 32) (t' : T x') (e : ms_yn N U T x = ms_yn N U T x') : x = x' := by
  obtain ⟨_, _, a3, a4⟩ := ms_yn_ok hN room hx t
  obtain ⟨_, _, b3, b4⟩ := ms_yn_ok hN room hx' t'
  rcases Nat.lt_trichotomy x x' with w | w | w
  · rw [← e] at b3
    exact absurd (ms_AU_le w a4) b3
  · exact w
  · rw [e] at a3
    exact absurd (ms_AU_le w b4) a3
theorem ms_ix_yn (hN : N ≤ 32) (room : ms_cn T 32 ≤ ms_cn (fun i => ¬ U i) N) {x : Nat} (hx : x < 32) (t : T x) : ms_ix N U T (ms_yn N U T x) = x :=
  ms_lo_is (Nat.le_refl _) hx ⟨t, rfl⟩ fun j hj z => by
    have := ms_yn_inj hN room (by omega) z.1 hx t z.2
    omega
theorem ms_ix_ok {i : Nat} (h : ms_ix N U T i < 32) : T (ms_ix N U T i) ∧ ms_yn N U T (ms_ix N U T i) = i := ms_lo_P (P := fun x => T x ∧ ms_yn N U T x = i) (Nat.le_refl _) h
theorem ms_ix_le {i : Nat} : ms_ix N U T i ≤ 32 := ms_lo_le (Nat.le_refl _)
theorem ms_AU_ix (hN : N ≤ 32) (room : ms_cn T 32 ≤ ms_cn (fun i => ¬ U i) N) (i : Nat) : ∀ x, x ≤ 32 → (ms_AU N U T x i ↔ (U i ∨ ms_ix N U T i < x))
  | 0, _ => ⟨Or.inl, fun z => z.elim id fun z => absurd z (Nat.not_lt_zero _)⟩
  | x + 1, hx => by
    have ih := ms_AU_ix hN room i x (by omega)
    constructor
    · intro z
      rcases z with z | ⟨t, z⟩
      · rcases ih.mp z with w | w
        · exact Or.inl w
        · exact Or.inr (by omega)
      · have : i = ms_yn N U T x := z
        rw [this, ms_ix_yn hN room (by omega) t]
        exact Or.inr (by omega)
    · intro z
      rcases z with z | z
      · exact Or.inl (ih.mpr (Or.inl z))
      · rcases Nat.lt_or_ge (ms_ix N U T i) x with w | w
        · exact Or.inl (ih.mpr (Or.inr w))
        · have e : ms_ix N U T i = x := by omega
          obtain ⟨a, b⟩ := ms_ix_ok (N := N) (U := U) (T := T) (i := i) (by omega)
          rw [e] at a b
          exact Or.inr ⟨a, b.symm⟩
/-- a copied one is old: what is free isn't in use -/
theorem ms_yn_nU (hN : N ≤ 32) (room : ms_cn T 32 ≤ ms_cn (fun i => ¬ U i) N) {x : Nat} (hx : x < 32) (t : T x) : ¬ U (ms_yn N U T x) := fun z =>
  (ms_yn_ok hN room hx t).2.2.1 (ms_AU_le (Nat.zero_le x) z)
theorem ms_Cm_yn {A : ms_AS} (hN : N ≤ 32) (room : ms_cn T 32 ≤ ms_cn (fun i => ¬ ms_U A i) N) (ht : ∀ x, T x → x < 32) : ms_Cm N A T (ms_ix N (ms_U A) T) (ms_yn N (ms_U A) T) := by
  refine ⟨fun x t => ?_, fun i _ h => ms_ix_ok h⟩
  obtain ⟨a1, a2, _, _⟩ := ms_yn_ok hN room (ht x t) t
  exact ⟨a1, a2, ms_yn_nU hN room (ht x t) t, ms_ix_yn hN room (ht x t) t⟩
/-- what is free behind a full round of copies -/
theorem ms_ix_cn (hN : N ≤ 32) (room : ms_cn T 32 ≤ ms_cn (fun i => ¬ U i) N) : ms_cn (fun i => ¬ (ms_ix N U T i < 32 ∨ U i)) N + ms_cn T 32 = ms_cn (fun i => ¬ U i) N := by
  rw [← ms_AU_cn hN room 32 (Nat.le_refl _)]
  have : ms_cn (fun i => ¬ (ms_ix N U T i < 32 ∨ U i)) N = ms_cn (fun i => ¬ ms_AU N U T 32 i) N := by
    refine ms_cn_eq fun i _ => not_congr ?_
    rw [ms_AU_ix hN room i 32 (Nat.le_refl _)]
    exact Or.comm
  omega
end
end
section
/-! least closed sets, and the passes that reach them -/
def ms_Cl (R : Nat → Nat → Prop) (p x : Nat) : Prop := ∀ S : Nat → Prop, S p → (∀ a b, S a → R a b → S b) → S x
theorem ms_Cl_r {R : Nat → Nat → Prop} {p : Nat} : ms_Cl R p p := fun _ h _ => h
theorem ms_Cl_s {R : Nat → Nat → Prop} {p a b : Nat} (h : ms_Cl R p a) (r : R a b) : ms_Cl R p b := fun S h1 h2 => h2 a b (h S h1 h2) r
theorem ms_Cl_i {R : Nat → Nat → Prop} {p x : Nat} (S : Nat → Prop) (h1 : S p) (h2 : ∀ a b, S a → R a b → S b) (h : ms_Cl R p x) : S x := h S h1 h2
/-- closed below 32 -/
def ms_cd (R : Nat → Nat → Prop) (s : Nat → Prop) : Prop := ∀ a b, a < 32 → b < 32 → R a b → s a → s b
/-- within a pass that began with s0: what stands in s; Td: the pairs looked at -/
def ms_PP (R : Nat → Nat → Prop) (p N : Nat) (s0 : Nat → Prop) (Td : Nat → Nat → Prop) (s : Nat → Prop) : Prop :=
  (∀ i, i < 32 → s i → ms_Cl R p i) ∧ (∀ i, i < 32 → s0 i → s i) ∧ (ms_cn s0 N < ms_cn s N ∨ ((∀ i, i < 32 → s i → s0 i) ∧ ∀ a b, a < 32 → b < 32 → Td a b → R a b → s a → s b))
def ms_PQ (R : Nat → Nat → Prop) (p N k : Nat) (s : Nat → Prop) : Prop := s p ∧ (∀ i, i < 32 → s i → ms_Cl R p i) ∧ (ms_cd R s ∨ k + 1 ≤ ms_cn s N)
section
variable {R : Nat → Nat → Prop} {p N : Nat} {s0 s s' : Nat → Prop} {Td Td' : Nat → Nat → Prop}
theorem ms_PP_0 (h : ∀ i, i < 32 → s i → ms_Cl R p i) : ms_PP R p N s (fun _ _ => False) s := ⟨h, fun _ _ z => z, Or.inr ⟨fun _ _ z => z, fun _ _ _ _ z => z.elim⟩⟩
theorem ms_PP_k (h : ms_PP R p N s0 Td s) (ht : ∀ a b, a < 32 → b < 32 → Td' a b → R a b → s a → Td a b ∨ s b) : ms_PP R p N s0 Td' s := by
  obtain ⟨a, b, c⟩ := h
  refine ⟨a, b, c.elim Or.inl fun c => Or.inr ⟨c.1, fun x y hx hy t r sx => ?_⟩⟩
  rcases ht x y hx hy t r sx with z | z
  · exact c.2 x y hx hy z r sx
  · exact z
theorem ms_PP_a (h : ms_PP R p N s0 Td s) {a b : Nat} (ha : a < 32) (hb : b < N) (hN : N ≤ 32) (sa : s a) (r : R a b) (hs : ∀ i, i < 32 → (s' i ↔ (s i ∨ i = b)))
    (ht : ∀ x y, x < 32 → y < 32 → Td' x y → R x y → s x → Td x y ∨ s y ∨ y = b) : ms_PP R p N s0 Td' s' := by
  obtain ⟨h1, h2, h3⟩ := h
  have cl : ∀ i, i < 32 → s' i → ms_Cl R p i := fun i hi z => by
    rcases (hs i hi).mp z with w | w
    · exact h1 i hi w
    · rw [w]; exact ms_Cl_s (h1 a ha sa) r
  have up : ∀ i, i < 32 → s0 i → s' i := fun i hi z => (hs i hi).mpr (Or.inl (h2 i hi z))
  refine ⟨cl, up, ?_⟩
  by_cases w : s b
  · have e : ∀ i, i < 32 → (s' i ↔ s i) := fun i hi => (hs i hi).trans ⟨fun z => z.elim id fun z => z ▸ w, Or.inl⟩
    rcases h3 with h3 | ⟨h3, h4⟩
    · refine Or.inl ?_
      rw [ms_cn_eq (P := s') (Q := s) fun k hk => e k (by omega)]
      exact h3
    · refine Or.inr ⟨fun i hi z => h3 i hi ((e i hi).mp z), fun x y hx hy t rr sx => (e y hy).mpr ?_⟩
      rcases ht x y hx hy t rr ((e x hx).mp sx) with z | z | z
      · exact h4 x y hx hy z rr ((e x hx).mp sx)
      · exact z
      · rw [z]; exact w
  · refine Or.inl ?_
    have c1 : ms_cn s0 N ≤ ms_cn s N := ms_cn_mono fun k hk => h2 k (by omega)
    have c2 : ms_cn s N < ms_cn s' N := ms_cn_lt (a := b) w ((hs b (by omega)).mpr (Or.inr rfl)) (fun k hk z => (hs k (by omega)).mpr (Or.inl z)) hb
    omega
theorem ms_PQ_0 (h : s p) (hp : p < N) (hc : ∀ i, i < 32 → s i → ms_Cl R p i) : ms_PQ R p N 0 s := ⟨h, hc, Or.inr (ms_cn_pos hp h)⟩
theorem ms_PQ_s {k : Nat} (hN : N ≤ 32) (hp : p < N) (hR : ∀ a b, R a b → a < 32 ∧ b < 32) (h0 : ms_PQ R p N k s0) (h : ms_PP R p N s0 Td s) (ht : ∀ a b, a < 32 → b < 32 → R a b → s a → Td a b ∨ s b) : ms_PQ R p N (k + 1) s := by
  obtain ⟨a1, a2, a3⟩ := h0
  obtain ⟨b1, b2, b3⟩ := h
  refine ⟨b2 p (by omega) a1, b1, ?_⟩
  rcases a3 with a3 | a3
  · have sub : ∀ i, i < 32 → s i → s0 i := fun i hi z => ms_Cl_i (fun x => s0 x) a1 (fun a b sa r => a3 a b (hR a b r).1 (hR a b r).2 r sa) (b1 i hi z)
    exact Or.inl fun a b ha hb r sa => b2 b hb (a3 a b ha hb r (sub a ha sa))
  · rcases b3 with b3 | ⟨b3, b4⟩
    · exact Or.inr (by omega)
    · exact Or.inl fun a b ha hb r sa => (ht a b ha hb r sa).elim (fun t => b4 a b ha hb t r sa) id
theorem ms_PQ_e {k : Nat} (hk : N ≤ k) (hR : ∀ a b, R a b → a < 32 ∧ b < 32) (h : ms_PQ R p N k s) : ∀ i, i < 32 → (s i ↔ ms_Cl R p i) := by
  obtain ⟨a1, a2, a3⟩ := h
  have cd : ms_cd R s := a3.elim id fun z => by
    have := ms_cn_le s N
    omega
  exact fun i hi => ⟨a2 i hi, ms_Cl_i (fun x => s x) a1 fun a b sa r => cd a b (hR a b r).1 (hR a b r).2 r sa⟩
end
/-! trees: what is found upwards, with a guard W -/
noncomputable def ms_tz (A : ms_AS) (W : Nat → Prop) (t : Nat) : Nat → Nat → Nat
  | 0, z => z
  | k + 1, z => if z < 32 ∧ z ≠ t then ms_ic (W z) (ms_tz A W t k (ms_P A z)) 33 else z
def ms_Rt (A : ms_AS) (W : Nat → Prop) (a b : Nat) : Prop := a < 32 ∧ b < 32 ∧ ms_U A b ∧ ms_P A b = a ∧ W b
section
variable {A : ms_AS} {W : Nat → Prop} {t : Nat}
theorem ms_tz_t : ∀ k, ms_tz A W t k t = t
  | 0 => rfl
  | k + 1 => by
    show (if t < 32 ∧ t ≠ t then _ else t) = t
    rw [if_neg (fun z => z.2 rfl)]
theorem ms_tz_n {z : Nat} (h : ¬ z < 32) : ∀ k, ms_tz A W t k z = z
  | 0 => rfl
  | k + 1 => by
    show (if z < 32 ∧ z ≠ t then _ else z) = z
    rw [if_neg (fun w => h w.1)]
theorem ms_tz_s {z k : Nat} (h : z < 32) (n : z ≠ t) : ms_tz A W t (k + 1) z = ms_ic (W z) (ms_tz A W t k (ms_P A z)) 33 := by
  show (if z < 32 ∧ z ≠ t then _ else z) = _
  rw [if_pos ⟨h, n⟩]
theorem ms_tz_up (tt : t < 32) : ∀ k z, ms_tz A W t k z = t → ms_tz A W t (k + 1) z = t
  | 0, z, h => by
    have : z = t := h
    rw [this]; exact ms_tz_t _
  | k + 1, z, h => by
    by_cases n : z < 32 ∧ z ≠ t
    · rw [ms_tz_s n.1 n.2] at h ⊢
      by_cases w : W z
      · rw [ms_ic_t w] at h ⊢
        exact ms_tz_up tt k _ h
      · rw [ms_ic_f w] at h; omega
    · by_cases m : z = t
      · rw [m]; exact ms_tz_t _
      · have m' : ¬ z < 32 := fun w => n ⟨w, m⟩
        rw [ms_tz_n m'] at h; omega
theorem ms_tz_st {d : Nat → Nat} (hu : ∀ i, i < 32 → ms_U A i → ms_P A i < 32 → ms_U A (ms_P A i)) (hd : ∀ i, i < 32 → ms_U A i → ms_P A i < 32 → d (ms_P A i) < d i) : ∀ k z, z < 32 → ms_U A z → d z < k → ms_tz A W t (k + 1) z = ms_tz A W t k z
  | 0, z, _, _, h => by omega
  | k + 1, z, hz, uz, h => by
    by_cases m : z = t
    · rw [m, ms_tz_t, ms_tz_t]
    · rw [ms_tz_s hz m, ms_tz_s hz m]
      by_cases w : W z
      · rw [ms_ic_t w, ms_ic_t w]
        by_cases p : ms_P A z < 32
        · have := hd z hz uz p
          exact ms_tz_st hu hd k _ p (hu z hz uz p) (by omega)
        · rw [ms_tz_n p, ms_tz_n p]
      · rw [ms_ic_f w, ms_ic_f w]
theorem ms_tz_Cl {N : Nat} {lv : Nat → Prop} {rm : Nat → Nat} (h : ms_FI N lv rm A) (tt : t < 32) {x : Nat} (hx : x < 32) (ux : ms_U A x) : ms_tz A W t 32 x = t ↔ ms_Cl (ms_Rt A W) t x := by
  obtain ⟨h1, h2, h3, h4, dp, h5⟩ := h
  obtain ⟨d, d1, d2⟩ := ms_rank (f := ms_P A) (V := ms_U A) (N := 32) (d := dp) fun i hi ui pi => ⟨(h3 i hi ui pi).1, h5 i hi ui pi⟩
  constructor
  · have key : ∀ k z, z < 32 → ms_U A z → ms_tz A W t k z = t → ms_Cl (ms_Rt A W) t z := by
      intro k
      induction k with
      | zero =>
        intro z _ _ e
        have : z = t := e
        rw [this]; exact ms_Cl_r
      | succ k ih =>
        intro z hz uz e
        by_cases m : z = t
        · rw [m]; exact ms_Cl_r
        · rw [ms_tz_s hz m] at e
          by_cases w : W z
          · rw [ms_ic_t w] at e
            by_cases p : ms_P A z < 32
            · exact ms_Cl_s (ih _ p (h3 z hz uz p).1 e) ⟨p, hz, uz, rfl, w⟩
            · rw [ms_tz_n p] at e; omega
          · rw [ms_ic_f w] at e; omega
    exact key 32 x hx ux
  · intro c
    have ex : ∃ k, ms_tz A W t k x = t := by
      refine ms_Cl_i (fun z => ∃ k, ms_tz A W t k z = t) ⟨0, rfl⟩ (fun a b ⟨k, e⟩ r => ?_) c
      obtain ⟨_, hb, _, pb, w⟩ := r
      by_cases m : b = t
      · exact ⟨0, m⟩
      · refine ⟨k + 1, ?_⟩
        rw [ms_tz_s hb m, ms_ic_t w, pb]
        exact e
    obtain ⟨k, e⟩ := ex
    have a : ∀ j, ms_tz A W t (k + j) x = t := by
      intro j
      induction j with
      | zero => exact e
      | succ j ih => exact ms_tz_up tt _ _ ih
    have b : ∀ j, ms_tz A W t (32 + j) x = ms_tz A W t 32 x := by
      intro j
      induction j with
      | zero => rfl
      | succ j ih =>
        rw [← ih]
        exact ms_tz_st (fun i hi ui pi => (h3 i hi ui pi).1) d2 (32 + j) x hx ux (by have := d1 x hx ux; omega)
    have a' := a 32
    have b' := b k
    rw [Nat.add_comm 32 k] at b'
    rw [← b', a']
/-- what is below t: in use, in one space, closed -/
theorem ms_Cl_U (ut : ms_U A t) {x : Nat} (h : ms_Cl (ms_Rt A W) t x) : ms_U A x := ms_Cl_i (ms_U A) ut (fun _ _ _ r => r.2.2.1) h
theorem ms_Cl_32 (tt : t < 32) {x : Nat} (h : ms_Cl (ms_Rt A W) t x) : x < 32 := ms_Cl_i (fun x => x < 32) tt (fun _ _ _ r => r.2.1) h
theorem ms_Cl_p {x : Nat} (h : ms_Cl (ms_Rt A W) t x) (n : x ≠ t) : ms_P A x < 32 ∧ ms_Cl (ms_Rt A W) t (ms_P A x) ∧ W x := by
  have : x = t ∨ (ms_P A x < 32 ∧ ms_Cl (ms_Rt A W) t (ms_P A x) ∧ W x ∧ ms_Cl (ms_Rt A W) t x) := by
    refine ms_Cl_i (fun x => x = t ∨ (ms_P A x < 32 ∧ ms_Cl (ms_Rt A W) t (ms_P A x) ∧ W x ∧ ms_Cl (ms_Rt A W) t x)) (Or.inl rfl) (fun a b sa r => ?_) h
    have ca : ms_Cl (ms_Rt A W) t a := by
      rcases sa with e | e
      · rw [e]; exact ms_Cl_r
      · exact e.2.2.2
    obtain ⟨r1, r2, r3, r4, r5⟩ := r
    exact Or.inr ⟨by rw [r4]; exact r1, by rw [r4]; exact ca, r5, ms_Cl_s ca ⟨r1, r2, r3, r4, r5⟩⟩
  rcases this with e | e
  · exact absurd e n
  · exact ⟨e.1, e.2.1, e.2.2.1⟩
end
end
section
/-! the spread of p, its receivers, and the way up from a receiver to p's group -/
def ms_Rs (A : ms_AS) (a b : Nat) : Prop := a < 32 ∧ b < 32 ∧ ms_G A a < 32 ∧ (ms_G A b = ms_G A a ∨ ms_M A b = ms_G A a)
def ms_Sp (A : ms_AS) (p x : Nat) : Prop := ms_Cl (ms_Rs A) p x
def ms_Rc (A : ms_AS) (p d x : Nat) : Prop := ms_Sp A p x ∧ ms_un d (ms_R A x)
theorem ms_Rs_32 {A : ms_AS} : ∀ a b, ms_Rs A a b → a < 32 ∧ b < 32 := fun _ _ h => ⟨h.1, h.2.1⟩
theorem ms_Rs_U {A : ms_AS} (h : ms_LI A) {a b : Nat} (r : ms_Rs A a b) : ms_U A b := Classical.byContradiction fun n => by
  obtain ⟨_, hb, ga, e⟩ := r
  obtain ⟨g, m⟩ := h.2.1 b hb n
  omega
theorem ms_Sp_U {A : ms_AS} (h : ms_LI A) {p x : Nat} (up : ms_U A p) (hx : ms_Sp A p x) : ms_U A x := ms_Cl_i (ms_U A) up (fun _ _ _ r => ms_Rs_U h r) hx
theorem ms_Sp_32 {A : ms_AS} {p x : Nat} (hp : p < 32) (hx : ms_Sp A p x) : x < 32 := ms_Cl_i (fun x => x < 32) hp (fun _ _ _ r => r.2.1) hx
/-- without a group nothing spreads -/
theorem ms_Sp_1 {A : ms_AS} {p x : Nat} (g : ¬ ms_G A p < 32) (hx : ms_Sp A p x) : x = p := ms_Cl_i (fun x => x = p) rfl (fun a b e r => by
  have e' : a = p := e
  have := r.2.2.1
  rw [e'] at this
  exact absurd this g) hx
/-- the master of a group -/
noncomputable def ms_mo (A : ms_AS) (l : Nat) : Nat := if l < 32 ∧ ms_lo (fun i => ms_G A i = l) 32 < 32 then ms_M A (ms_lo (fun i => ms_G A i = l) 32) else 32
theorem ms_mo_32 {A : ms_AS} {l : Nat} (h : ¬ l < 32) : ms_mo A l = 32 := by unfold ms_mo; rw [if_neg (fun z => h z.1)]
theorem ms_mo_is {A : ms_AS} (h : ms_LI A) {y : Nat} (hy : y < 32) (g : ms_G A y < 32) : ms_mo A (ms_G A y) = ms_M A y := by
  have a : ms_lo (fun i => ms_G A i = ms_G A y) 32 < 32 := ms_lo_ex (P := fun i => ms_G A i = ms_G A y) (Nat.le_refl _) hy rfl
  have b := ms_lo_P (P := fun i => ms_G A i = ms_G A y) (Nat.le_refl _) a
  unfold ms_mo
  rw [if_pos ⟨g, a⟩]
  exact h.2.2.2.1 _ _ a hy b (by rw [b]; exact g)
def ms_it (f : Nat → Nat) : Nat → Nat → Nat
  | 0, x => x
  | k + 1, x => ms_it f k (f x)
theorem ms_it_32 {A : ms_AS} : ∀ k, ms_it (ms_mo A) k 32 = 32
  | 0 => rfl
  | k + 1 => by
    show ms_it (ms_mo A) k (ms_mo A 32) = 32
    rw [ms_mo_32 (by omega)]
    exact ms_it_32 k
theorem ms_way {A : ms_AS} (h : ms_LI A) {p r : Nat} (hp : p < 32) (hr : ms_Sp A p r) : ms_G A r = ms_G A p ∨ ∃ k, ms_it (ms_mo A) k (ms_M A r) = ms_G A p := by
  refine ms_Cl_i (fun x => ms_G A x = ms_G A p ∨ ∃ k, ms_it (ms_mo A) k (ms_M A x) = ms_G A p) (Or.inl rfl) (fun a b sa r => ?_) hr
  obtain ⟨ha, hb, ga, e⟩ := r
  rcases e with e | e
  · rcases sa with s | ⟨k, s⟩
    · exact Or.inl (e.trans s)
    · refine Or.inr ⟨k, ?_⟩
      rw [h.2.2.2.1 b a hb ha e (by omega)]
      exact s
  · rcases sa with s | ⟨k, s⟩
    · exact Or.inr ⟨0, e.trans s⟩
    · refine Or.inr ⟨k + 1, ?_⟩
      show ms_it (ms_mo A) k (ms_mo A (ms_M A b)) = _
      rw [e, ms_mo_is h ha ga]
      exact s
/-- the way is short -/
theorem ms_short {A : ms_AS} (h : ms_LI A) {g : Nat} (hg : g < 32) {k l : Nat} (hl : l < 32) (lv : ∃ j, j < 32 ∧ ms_G A j = l) (e : ms_it (ms_mo A) k l = g) : k < 32 := by
  obtain ⟨rk, h5⟩ := h.2.2.2.2
  obtain ⟨d, d1, d2⟩ := ms_rank (f := ms_mo A) (V := fun l => ∃ j, j < 32 ∧ ms_G A j = l) (N := 32) (d := rk) (by
    rintro l hl ⟨j, hj, e⟩ hm
    subst e
    have em := ms_mo_is h hj hl
    rw [em] at hm ⊢
    exact ⟨h.2.2.1 j hj hm, h5 j hj hl hm⟩)
  have key : ∀ k l, l < 32 → (∃ j, j < 32 ∧ ms_G A j = l) → ms_it (ms_mo A) k l = g → k ≤ d l := by
    intro k
    induction k with
    | zero => intro l _ _ _; exact Nat.zero_le _
    | succ k ih =>
      intro l hl lv e
      have e' : ms_it (ms_mo A) k (ms_mo A l) = g := e
      by_cases m : ms_mo A l < 32
      · have lv' : ∃ j, j < 32 ∧ ms_G A j = ms_mo A l := by
          obtain ⟨j, hj, q⟩ := lv
          rw [← q] at m hl ⊢
          rw [ms_mo_is h hj hl] at m ⊢
          exact h.2.2.1 j hj m
        have a := ih _ m lv' e'
        have b := d2 l hl lv m
        omega
      · have le : ms_mo A l ≤ 32 := by
          obtain ⟨j, hj, q⟩ := lv
          rw [← q] at hl ⊢
          rw [ms_mo_is h hj hl]
          exact (h.1 j hj).2
        have : ms_mo A l = 32 := by omega
        rw [this, ms_it_32] at e'
        omega
  have a := key k l hl lv e
  have b := d1 l hl lv
  omega
/-- the nearest group above with a receiver (H), or the top one -/
noncomputable def ms_nm (A : ms_AS) (H : Nat → Prop) (gp : Nat) : Nat → Nat → Nat
  | 0, l => l
  | k + 1, l => ms_ic (l < 32 ∧ l ≠ gp ∧ ¬ H l) (ms_nm A H gp k (ms_mo A l)) l
/-- the same as the reference looks for it: H' holds for the top group too -/
noncomputable def ms_ny (A : ms_AS) (H' : Nat → Prop) : Nat → Nat → Nat
  | 0, l => l
  | k + 1, l => ms_ic (¬ H' l) (ms_ny A H' k (ms_mo A l)) l
theorem ms_nm_ok {A : ms_AS} {H : Nat → Prop} {gp : Nat} (hg : gp < 32) : ∀ k F l, k ≤ F → ms_it (ms_mo A) k l = gp → ms_nm A H gp F l = gp ∨ (ms_nm A H gp F l < 32 ∧ ms_nm A H gp F l ≠ gp ∧ H (ms_nm A H gp F l))
  | 0, F, l, _, e => by
    have e' : l = gp := e
    subst e'
    left
    cases F with
    | zero => rfl
    | succ F => exact ms_ic_f fun z => z.2.1 rfl
  | k + 1, F, l, hF, e => by
    cases F with
    | zero => omega
    | succ F =>
      show ms_ic _ _ _ = gp ∨ (ms_ic _ _ _ < 32 ∧ ms_ic _ _ _ ≠ gp ∧ H (ms_ic _ _ _))
      by_cases w : l < 32 ∧ l ≠ gp ∧ ¬ H l
      · rw [ms_ic_t w]
        exact ms_nm_ok hg k F _ (by omega) e
      · rw [ms_ic_f w]
        by_cases a : l = gp
        · exact Or.inl a
        · by_cases b : l < 32
          · exact Or.inr ⟨b, a, Classical.byContradiction fun c => w ⟨b, a, c⟩⟩
          · exfalso
            have e' : ms_it (ms_mo A) k (ms_mo A l) = gp := e
            rw [ms_mo_32 b, ms_it_32] at e'
            omega
theorem ms_ny_nm {A : ms_AS} {H H' : Nat → Prop} {gp : Nat} (hg : gp < 32) (hH : ∀ l, l < 32 → (H' l ↔ (H l ∨ l = gp))) : ∀ k F l, k ≤ F → ms_it (ms_mo A) k l = gp → ms_ny A H' F l = ms_nm A H gp F l
  | 0, F, l, _, e => by
    have e' : l = gp := e
    subst e'
    cases F with
    | zero => rfl
    | succ F =>
      show ms_ic _ _ _ = ms_ic _ _ _
      rw [ms_ic_f (fun z => z ((hH l hg).mpr (Or.inr rfl))), ms_ic_f (fun z => z.2.1 rfl)]
  | k + 1, F, l, hF, e => by
    cases F with
    | zero => omega
    | succ F =>
      by_cases b : l < 32
      · show ms_ic _ _ _ = ms_ic _ _ _
        have e' : ms_it (ms_mo A) k (ms_mo A l) = gp := e
        rw [ms_ny_nm hg hH k F _ (by omega) e']
        refine ms_ic_c ?_
        rw [hH l b]
        exact ⟨fun z => ⟨b, fun q => z (Or.inr q), fun q => z (Or.inl q)⟩, fun z q => q.elim z.2.2 z.2.1⟩
      · exfalso
        have e' : ms_it (ms_mo A) k (ms_mo A l) = gp := e
        rw [ms_mo_32 b, ms_it_32] at e'
        omega
/-- a way within the nearest search: ranks fall -/
theorem ms_nm_rk {A : ms_AS} (h : ms_LI A) {H : Nat → Prop} {gp : Nat} {rk : Nat → Nat} (hr : ∀ i, i < 32 → ms_G A i < 32 → ms_M A i < 32 → rk (ms_M A i) < rk (ms_G A i)) : ∀ F l, ms_La A l → ms_nm A H gp F l < 32 → l < 32 ∧ rk (ms_nm A H gp F l) ≤ rk l
  | 0, l, _, e => ⟨e, Nat.le_refl _⟩
  | F + 1, l, lv, e => by
    have e0 : ms_nm A H gp (F + 1) l = ms_ic (l < 32 ∧ l ≠ gp ∧ ¬ H l) (ms_nm A H gp F (ms_mo A l)) l := rfl
    by_cases w : l < 32 ∧ l ≠ gp ∧ ¬ H l
    · rw [e0, ms_ic_t w] at e ⊢
      rcases lv with q | ⟨j, hj, q⟩
      · omega
      · subst q
        have em := ms_mo_is h hj w.1
        rw [em] at e ⊢
        obtain ⟨a, b⟩ := ms_nm_rk h hr F _ (ms_La_M h hj) e
        have c := hr j hj w.1 a
        exact ⟨w.1, by omega⟩
    · rw [e0, ms_ic_f w] at e ⊢
      exact ⟨e, Nat.le_refl _⟩
/-- what the nearest search finds for a receiver outside p's group -/
theorem ms_near {A : ms_AS} (h : ms_LI A) {p r : Nat} (hp : p < 32) (gp : ms_G A p < 32) (hr : ms_Sp A p r) (ne : ms_G A r ≠ ms_G A p) : ∃ k, k ≤ 32 ∧ ms_it (ms_mo A) k (ms_M A r) = ms_G A p := by
  rcases ms_way h hp hr with e | ⟨k, e⟩
  · exact absurd e ne
  · have r32 := ms_Sp_32 hp hr
    by_cases m : ms_M A r < 32
    · exact ⟨k, Nat.le_of_lt (ms_short h gp m (h.2.2.1 r r32 m) e), e⟩
    · have : ms_M A r = 32 := by have := (h.1 r r32).2; omega
      rw [this, ms_it_32] at e
      omega
end
section
/-! walks: a position is 16 * m + e -/
noncomputable def ms_at (N : Nat) (A : ms_AS) (m e : Nat) : Nat := ms_lo (fun c => ms_U A c ∧ ms_P A c = m ∧ ms_Q A c = e) N
noncomputable def ms_cr (N : Nat) (A : ms_AS) : Nat → Nat → Nat → Nat
  | 0, m, e => 16 * m + e
  | k + 1, m, e => if ms_at N A m e < 32 then ms_cr N A k (ms_at N A m e) (ms_R A (ms_at N A m e)) else 16 * m + e
def ms_up (A : ms_AS) : Nat → Nat → Nat → Nat × Nat
  | 0, m, e => (m, e)
  | k + 1, m, e => if e = ms_R A m ∧ ms_P A m < 32 then ms_up A k (ms_P A m) (ms_Q A m) else (m, e)
noncomputable def ms_sV (N : Nat) (A : ms_AS) (p : Nat × Nat) : Nat := ms_cr N A 32 p.1 (if p.2 = ms_R A p.1 then p.2 else (p.2 - 1) / 2)
noncomputable def ms_sU (N : Nat) (A : ms_AS) (q : Nat) : Nat := ms_sV N A (ms_up A 32 (q / 16) (q % 16))
noncomputable def ms_sD (N D : Nat) (A : ms_AS) (q t : Nat) : Option Nat := if 2 * (q % 16) + t < D then some (ms_cr N A 32 (q / 16) (2 * (q % 16) + t)) else none
def ms_tk (x : Int32) (i : Nat) : Int32 := ((x.toUInt32 >>> ((2 * nI i).toUInt32 &&& Int32.toUInt32 31)).toInt32) &&& 3
noncomputable def ms_st (N D : Nat) (A : ms_AS) (q : Nat) (t : Int32) : Option Nat := if t = 3 then some (ms_sU N A q) else if t = 0 then some q else if t = 1 then ms_sD N D A q 1 else ms_sD N D A q 2
noncomputable def ms_wk (N D : Nat) (A : ms_AS) (x : Int32) : Nat → Nat → Option Nat
  | 0, q => some q
  | k + 1, q => (ms_st N D A q (ms_tk x (15 - k))).bind (ms_wk N D A x k)
def ms_o : Option Nat → Int32
  | none => -1
  | some q => nI q
theorem ms_tk_c (x : Int32) (i : Nat) : ms_tk x i = 0 ∨ ms_tk x i = 1 ∨ ms_tk x i = 2 ∨ ms_tk x i = 3 := by
  unfold ms_tk
  obtain ⟨j, hj, e⟩ := pk_andE ((x.toUInt32 >>> ((2 * nI i).toUInt32 &&& Int32.toUInt32 31)).toInt32) (m := 3) 2 (by decide)
  rw [e]
  have : j = 0 ∨ j = 1 ∨ j = 2 ∨ j = 3 := by omega
  rcases this with z | z | z | z <;> subst z
  · exact Or.inl (by decide)
  · exact Or.inr (Or.inl (by decide))
  · exact Or.inr (Or.inr (Or.inl (by decide)))
  · exact Or.inr (Or.inr (Or.inr (by decide)))
/-- a position within the space s -/
def ms_gd (A : ms_AS) (s m e : Nat) : Prop := m < 32 ∧ ms_U A m ∧ ms_S A m = s ∧ e < 15 ∧ ms_un e (ms_R A m)
section
variable {N D : Nat} {lv : Nat → Prop} {rm : Nat → Nat} {A : ms_AS} {s : Nat}
theorem ms_at_ok (hN : N ≤ 32) {m e : Nat} (h : ms_at N A m e < 32) : ms_U A (ms_at N A m e) ∧ ms_P A (ms_at N A m e) = m ∧ ms_Q A (ms_at N A m e) = e := ms_lo_P (P := fun c => ms_U A c ∧ ms_P A c = m ∧ ms_Q A c = e) hN h
theorem ms_gd_at (h : ms_FI N lv rm A) (hN : N ≤ 32) {m e : Nat} (g : ms_gd A s m e) (a : ms_at N A m e < 32) : ms_gd A s (ms_at N A m e) (ms_R A (ms_at N A m e)) := by
  obtain ⟨b1, b2, _⟩ := ms_at_ok hN a
  have c := (h.2.2.1 _ a b1 (by rw [b2]; exact g.1)).2.1
  have d := h.2.1 _ a
  rw [b2] at c
  exact ⟨a, b1, by rw [← c]; exact g.2.2.1, d, ms_un_r _ (by omega)⟩
theorem ms_gd_cr (h : ms_FI N lv rm A) (hN : N ≤ 32) : ∀ k m e, ms_gd A s m e → ms_gd A s (ms_cr N A k m e / 16) (ms_cr N A k m e % 16)
  | 0, m, e, g => by
    have he := g.2.2.2.1
    show ms_gd A s ((16 * m + e) / 16) ((16 * m + e) % 16)
    rw [show (16 * m + e) / 16 = m by omega, show (16 * m + e) % 16 = e by omega]
    exact g
  | k + 1, m, e, g => by
    by_cases a : ms_at N A m e < 32
    · have : ms_cr N A (k + 1) m e = ms_cr N A k (ms_at N A m e) (ms_R A (ms_at N A m e)) := if_pos a
      rw [this]
      exact ms_gd_cr h hN k _ _ (ms_gd_at h hN g a)
    · have : ms_cr N A (k + 1) m e = 16 * m + e := if_neg a
      have he := g.2.2.2.1
      rw [this, show (16 * m + e) / 16 = m by omega, show (16 * m + e) % 16 = e by omega]
      exact g
theorem ms_gd_up (h : ms_FI N lv rm A) : ∀ k m e, ms_gd A s m e → ms_gd A s (ms_up A k m e).1 (ms_up A k m e).2
  | 0, _, _, g => g
  | k + 1, m, e, g => by
    by_cases a : e = ms_R A m ∧ ms_P A m < 32
    · have : ms_up A (k + 1) m e = ms_up A k (ms_P A m) (ms_Q A m) := if_pos a
      rw [this]
      obtain ⟨b1, b2, b3, b4⟩ := h.2.2.1 m g.1 g.2.1 a.2
      exact ms_gd_up h k _ _ ⟨a.2, b1, by rw [b2]; exact g.2.2.1, b3, b4⟩
    · have : ms_up A (k + 1) m e = (m, e) := if_neg a
      rw [this]; exact g
theorem ms_gd_half (h : ms_FI N lv rm A) {m e : Nat} (g : ms_gd A s m e) : ms_gd A s m (if e = ms_R A m then e else (e - 1) / 2) := by
  by_cases a : e = ms_R A m
  · rw [if_pos a]; exact g
  · rw [if_neg a]
    obtain ⟨g1, g2, g3, g4, g5⟩ := g
    have := h.2.1 m g1
    exact ⟨g1, g2, g3, by omega, ms_un_u e (by omega) _ (by omega) g5 a⟩
theorem ms_gd_sU (h : ms_FI N lv rm A) (hN : N ≤ 32) {q : Nat} (g : ms_gd A s (q / 16) (q % 16)) : ms_gd A s (ms_sU N A q / 16) (ms_sU N A q % 16) :=
  ms_gd_cr h hN 32 _ _ (ms_gd_half h (ms_gd_up h 32 _ _ g))
theorem ms_gd_sD (h : ms_FI N lv rm A) (hN : N ≤ 32) (hD : D ≤ 15) {q t q' : Nat} (ht : t = 1 ∨ t = 2) (g : ms_gd A s (q / 16) (q % 16)) (e : ms_sD N D A q t = some q') : ms_gd A s (q' / 16) (q' % 16) := by
  unfold ms_sD at e
  by_cases a : 2 * (q % 16) + t < D
  · rw [if_pos a] at e
    cases e
    obtain ⟨g1, g2, g3, g4, g5⟩ := g
    have := h.2.1 _ g1
    refine ms_gd_cr h hN 32 _ _ ⟨g1, g2, g3, by omega, ?_⟩
    rcases ht with e | e
    · subst e; exact ms_un_d1 (q % 16) (by omega) _ (by omega) g5
    · subst e; exact ms_un_d2 (q % 16) (by omega) _ (by omega) g5
  · rw [if_neg a] at e; cases e
theorem ms_gd_st (h : ms_FI N lv rm A) (hN : N ≤ 32) (hD : D ≤ 15) {q q' : Nat} {t : Int32} (g : ms_gd A s (q / 16) (q % 16)) (e : ms_st N D A q t = some q') : ms_gd A s (q' / 16) (q' % 16) := by
  unfold ms_st at e
  by_cases a : t = 3
  · rw [if_pos a] at e; cases e; exact ms_gd_sU h hN g
  · rw [if_neg a] at e
    by_cases b : t = 0
    · rw [if_pos b] at e; cases e; exact g
    · rw [if_neg b] at e
      by_cases c : t = 1
      · rw [if_pos c] at e; exact ms_gd_sD h hN hD (Or.inl rfl) g e
      · rw [if_neg c] at e; exact ms_gd_sD h hN hD (Or.inr rfl) g e
theorem ms_gd_wk (h : ms_FI N lv rm A) (hN : N ≤ 32) (hD : D ≤ 15) {x : Int32} : ∀ k q q', ms_gd A s (q / 16) (q % 16) → ms_wk N D A x k q = some q' → ms_gd A s (q' / 16) (q' % 16)
  | 0, q, q', g, e => by
    have e' : some q = some q' := e
    cases e'; exact g
  | k + 1, q, q', g, e => by
    have e' : (ms_st N D A q (ms_tk x (15 - k))).bind (ms_wk N D A x k) = some q' := e
    cases hs : ms_st N D A q (ms_tk x (15 - k)) with
    | none => rw [hs] at e'; cases e'
    | some z =>
      rw [hs] at e'
      exact ms_gd_wk h hN hD k z q' (ms_gd_st h hN hD g hs) e'
end
end
section
/-! attach: the groups of the copies, one pair (r, x) at a time; then the masters -/
def ms_CF (A3 : ms_AS) (T Rv : Nat → Prop) (cp : Nat → Nat → Nat) : Prop :=
  (∀ r x, Rv r → T x → r < 32 ∧ x < 32 ∧ cp r x < 32 ∧ ms_U A3 (cp r x) ∧ ms_G A3 (cp r x) = 32 ∧ ms_M A3 (cp r x) = 32) ∧
  (∀ r x r' x', Rv r → T x → Rv r' → T x' → cp r x = cp r' x' → r = r' ∧ x = x') ∧
  (∀ r x x', Rv r → T x → T x' → cp r x ≠ x')
def ms_Cy (T Rv : Nat → Prop) (cp : Nat → Nat → Nat) (i : Nat) : Prop := ∃ r x, Rv r ∧ T x ∧ i = cp r x
noncomputable def ms_fr (G0 : Nat → Nat) (Rv : Nat → Prop) (h : Nat) : Nat := ms_lo (fun c => Rv c ∧ G0 c = h) 32
noncomputable def ms_gs (G0 : Nat → Nat) (gp : Nat) (Rv : Nat → Prop) (cp : Nat → Nat → Nat) (r x : Nat) (A : ms_AS) : ms_AS :=
  if G0 r = 32 then A else if G0 r = gp then ms_sM (ms_sG A (cp r x) (ms_G A x)) (cp r x) (ms_M A x)
  else if ms_fr G0 Rv (G0 r) = r then ms_sG A (cp r x) (ms_nl A) else ms_sG A (cp r x) (ms_G A (cp (ms_fr G0 Rv (G0 r)) x))
/-- all but the labels alike -/
def ms_sm (A B : ms_AS) : Prop := ms_U A = ms_U B ∧ ms_F A = ms_F B ∧ ms_R A = ms_R B ∧ ms_S A = ms_S B ∧ ms_P A = ms_P B ∧ ms_Q A = ms_Q B ∧ ms_B A = ms_B B
def ms_PC (G0 : Nat → Nat) (gp : Nat) (A3 : ms_AS) (T Rv : Nat → Prop) (cp : Nat → Nat → Nat) (Pd : Nat → Nat → Prop) (A : ms_AS) : Prop :=
  ms_LI A ∧ ms_sm A A3 ∧
  (∀ i, i < 32 → ¬ ms_Cy T Rv cp i → ms_G A i = ms_G A3 i ∧ ms_M A i = ms_M A3 i) ∧
  (∀ r x, Rv r → T x → (¬ Pd r x ∨ G0 r = 32) → ms_G A (cp r x) = 32 ∧ ms_M A (cp r x) = 32) ∧
  (∀ r x, Rv r → T x → Pd r x → G0 r = gp → ms_G A (cp r x) = ms_G A3 x ∧ ms_M A (cp r x) = ms_M A3 x) ∧
  (∀ r x, Rv r → T x → Pd r x → G0 r ≠ 32 → G0 r ≠ gp → ms_M A (cp r x) = 32 ∧ ms_G A (cp r x) < 32 ∧ ∀ i, i < 32 → ¬ ms_Cy T Rv cp i → ms_G A3 i ≠ ms_G A (cp r x)) ∧
  (∀ r x r' x', Rv r → T x → Pd r x → G0 r ≠ 32 → G0 r ≠ gp → Rv r' → T x' → Pd r' x' → G0 r' ≠ 32 → G0 r' ≠ gp → (ms_G A (cp r x) = ms_G A (cp r' x') ↔ (x = x' ∧ G0 r = G0 r')))
section
variable {G0 : Nat → Nat} {gp : Nat} {A3 A : ms_AS} {T Rv : Nat → Prop} {cp : Nat → Nat → Nat} {Pd Pd' : Nat → Nat → Prop}
theorem ms_sm_r : ms_sm A A := ⟨rfl, rfl, rfl, rfl, rfl, rfl, rfl⟩
theorem ms_fr_ok {r : Nat} (hr : r < 32) (v : Rv r) : ms_fr G0 Rv (G0 r) < 32 ∧ Rv (ms_fr G0 Rv (G0 r)) ∧ G0 (ms_fr G0 Rv (G0 r)) = G0 r ∧ ms_fr G0 Rv (G0 r) ≤ r := by
  have a : ms_fr G0 Rv (G0 r) < 32 := ms_lo_ex (P := fun c => Rv c ∧ G0 c = G0 r) (Nat.le_refl _) hr ⟨v, rfl⟩
  have b := ms_lo_P (P := fun c => Rv c ∧ G0 c = G0 r) (Nat.le_refl _) a
  refine ⟨a, b.1, b.2, ?_⟩
  apply Classical.byContradiction
  intro n
  exact ms_lo_min (P := fun c => Rv c ∧ G0 c = G0 r) (N := 32) (Nat.le_refl _) hr (Nat.lt_of_not_le n) ⟨v, rfl⟩
theorem ms_PC_0 (h : ms_LI A3) (cf : ms_CF A3 T Rv cp) (hp : ∀ r x, ¬ Pd r x) : ms_PC G0 gp A3 T Rv cp Pd A3 :=
  ⟨h, ms_sm_r, fun _ _ _ => ⟨rfl, rfl⟩, fun r x a b _ => (cf.1 r x a b).2.2.2.2, fun r x _ _ z => absurd z (hp r x), fun r x _ _ z => absurd z (hp r x), fun r x _ _ _ _ z => absurd z (hp r x)⟩
theorem ms_PC_k (h : ms_PC G0 gp A3 T Rv cp Pd A) (hp : ∀ r x, Rv r → T x → (Pd' r x ↔ Pd r x)) : ms_PC G0 gp A3 T Rv cp Pd' A := by
  obtain ⟨h1, h2, h3, h4, h5, h6, h7⟩ := h
  refine ⟨h1, h2, h3, fun r x a b c => h4 r x a b (c.imp (fun z w => z ((hp r x a b).mpr w)) id), fun r x a b c => h5 r x a b ((hp r x a b).mp c), fun r x a b c => h6 r x a b ((hp r x a b).mp c), fun r x r' x' a b c d e a' b' c' => h7 r x r' x' a b ((hp r x a b).mp c) d e a' b' ((hp r' x' a' b').mp c')⟩
theorem ms_PC_s (hg : gp < 32) (cf : ms_CF A3 T Rv cp) (h : ms_PC G0 gp A3 T Rv cp Pd A) {r x : Nat} (vr : Rv r) (tx : T x) (np : ¬ Pd r x) (hp : ∀ r' x', Pd' r' x' ↔ (Pd r' x' ∨ (r' = r ∧ x' = x)))
    (f1 : ms_fr G0 Rv (G0 r) = r → ∀ r', Rv r' → G0 r' = G0 r → ¬ Pd r' x) (f2 : ms_fr G0 Rv (G0 r) ≠ r → Pd (ms_fr G0 Rv (G0 r)) x) :
    ms_PC G0 gp A3 T Rv cp Pd' (ms_gs G0 gp Rv cp r x A) := by
  obtain ⟨h1, h2, h3, h4, h5, h6, h7⟩ := h
  obtain ⟨cf1, cf2, cf3⟩ := cf
  obtain ⟨r32, x32, y32, yU, _, _⟩ := cf1 r x vr tx
  obtain ⟨yg, ym⟩ := h4 r x vr tx (Or.inl np)
  have uy : ms_U A (cp r x) := by rw [h2.1]; exact yU
  have xn : ¬ ms_Cy T Rv cp x := fun ⟨r', x', a, b, e⟩ => cf3 r' x' x a b tx e.symm
  have cy : ∀ i, ¬ ms_Cy T Rv cp i → i ≠ cp r x := fun i n e => n ⟨r, x, vr, tx, e⟩
  have cyp : ∀ r' x', Rv r' → T x' → ¬ (r' = r ∧ x' = x) → cp r' x' ≠ cp r x := fun r' x' a b n e => n (cf2 r' x' r x a b vr tx e)
  unfold ms_gs
  by_cases g32 : G0 r = 32
  · rw [if_pos g32]
    refine ⟨h1, h2, h3, fun r' x' a b c => h4 r' x' a b ?_, fun r' x' a b c e => h5 r' x' a b ?_ e, fun r' x' a b c d e => h6 r' x' a b ?_ d e, fun r1 x1 r2 x2 a b c d e a' b' c' d' e' => h7 r1 x1 r2 x2 a b ?_ d e a' b' ?_ d' e'⟩
    · exact c.imp (fun z w => z ((hp _ _).mpr (Or.inl w))) id
    · rcases (hp _ _).mp c with z | z
      · exact z
      · rw [z.1, g32] at e; omega
    · rcases (hp _ _).mp c with z | z
      · exact z
      · rw [z.1] at d; exact absurd g32 d
    · rcases (hp _ _).mp c with z | z
      · exact z
      · rw [z.1] at d; exact absurd g32 d
    · rcases (hp _ _).mp c' with z | z
      · exact z
      · rw [z.1] at d'; exact absurd g32 d'
  rw [if_neg g32]
  by_cases gt : G0 r = gp
  · rw [if_pos gt]
    have G' : ∀ i, i ≠ cp r x → ms_G (ms_sM (ms_sG A (cp r x) (ms_G A x)) (cp r x) (ms_M A x)) i = ms_G A i := fun i n => ms_fu_n n
    have M' : ∀ i, i ≠ cp r x → ms_M (ms_sM (ms_sG A (cp r x) (ms_G A x)) (cp r x) (ms_M A x)) i = ms_M A i := fun i n => ms_fu_n n
    have Gs : ms_G (ms_sM (ms_sG A (cp r x) (ms_G A x)) (cp r x) (ms_M A x)) (cp r x) = ms_G A x := ms_fu_s
    have Ms : ms_M (ms_sM (ms_sG A (cp r x) (ms_G A x)) (cp r x) (ms_M A x)) (cp r x) = ms_M A x := ms_fu_s
    refine ⟨ms_LI_cp h1 y32 x32 uy yg (cf3 r x x vr tx tx), h2, fun i hi n => ?_, fun r' x' a b c => ?_, fun r' x' a b c e => ?_, fun r' x' a b c d e => ?_, fun r1 x1 r2 x2 a b c d e a' b' c' d' e' => ?_⟩
    · rw [G' i (cy i n), M' i (cy i n)]; exact h3 i hi n
    · have n : ¬ (r' = r ∧ x' = x) := fun z => by
        rcases c with c | c
        · exact c ((hp _ _).mpr (Or.inr z))
        · rw [z.1] at c; exact g32 c
      rw [G' _ (cyp r' x' a b n), M' _ (cyp r' x' a b n)]
      exact h4 r' x' a b (c.imp (fun z w => z ((hp _ _).mpr (Or.inl w))) id)
    · by_cases n : r' = r ∧ x' = x
      · rw [n.1, n.2, Gs, Ms]; exact h3 x x32 xn
      · rw [G' _ (cyp r' x' a b n), M' _ (cyp r' x' a b n)]
        exact h5 r' x' a b (((hp _ _).mp c).elim id fun z => absurd z n) e
    · have n : ¬ (r' = r ∧ x' = x) := fun z => by rw [z.1] at e; exact e gt
      rw [G' _ (cyp r' x' a b n), M' _ (cyp r' x' a b n)]
      exact h6 r' x' a b (((hp _ _).mp c).elim id fun z => absurd z n) d e
    · have n : ¬ (r1 = r ∧ x1 = x) := fun z => by rw [z.1] at e; exact e gt
      have n' : ¬ (r2 = r ∧ x2 = x) := fun z => by rw [z.1] at e'; exact e' gt
      rw [G' _ (cyp r1 x1 a b n), G' _ (cyp r2 x2 a' b' n')]
      exact h7 r1 x1 r2 x2 a b (((hp _ _).mp c).elim id fun z => absurd z n) d e a' b' (((hp _ _).mp c').elim id fun z => absurd z n') d' e'
  rw [if_neg gt]
  -- both further cases set one label l
  have both : ∀ l, ms_LI (ms_sG A (cp r x) l) → l < 32 → (∀ i, i < 32 → ¬ ms_Cy T Rv cp i → ms_G A3 i ≠ l) → (∀ r' x', Rv r' → T x' → Pd r' x' → G0 r' ≠ 32 → G0 r' ≠ gp → (l = ms_G A (cp r' x') ↔ (x = x' ∧ G0 r = G0 r'))) → ms_PC G0 gp A3 T Rv cp Pd' (ms_sG A (cp r x) l) := by
    intro l hl l32 lf lk
    have G' : ∀ i, i ≠ cp r x → ms_G (ms_sG A (cp r x) l) i = ms_G A i := fun i n => ms_fu_n n
    have M' : ∀ i, ms_M (ms_sG A (cp r x) l) i = ms_M A i := fun i => rfl
    have Gs : ms_G (ms_sG A (cp r x) l) (cp r x) = l := ms_fu_s
    refine ⟨hl, h2, fun i hi n => ?_, fun r' x' a b c => ?_, fun r' x' a b c e => ?_, fun r' x' a b c d e => ?_, fun r1 x1 r2 x2 a b c d e a' b' c' d' e' => ?_⟩
    · rw [G' i (cy i n), M' i]; exact h3 i hi n
    · have n : ¬ (r' = r ∧ x' = x) := fun z => by
        rcases c with c | c
        · exact c ((hp _ _).mpr (Or.inr z))
        · rw [z.1] at c; exact g32 c
      rw [G' _ (cyp r' x' a b n), M']
      exact h4 r' x' a b (c.imp (fun z w => z ((hp _ _).mpr (Or.inl w))) id)
    · have n : ¬ (r' = r ∧ x' = x) := fun z => by rw [z.1] at e; exact gt e
      rw [G' _ (cyp r' x' a b n), M']
      exact h5 r' x' a b (((hp _ _).mp c).elim id fun z => absurd z n) e
    · by_cases n : r' = r ∧ x' = x
      · rw [n.1, n.2, Gs, M']; exact ⟨ym, l32, lf⟩
      · rw [G' _ (cyp r' x' a b n), M']
        exact h6 r' x' a b (((hp _ _).mp c).elim id fun z => absurd z n) d e
    · by_cases n : r1 = r ∧ x1 = x
      · by_cases n' : r2 = r ∧ x2 = x
        · rw [n.1, n.2, n'.1, n'.2]; exact ⟨fun _ => ⟨rfl, rfl⟩, fun _ => rfl⟩
        · rw [n.1, n.2, Gs, G' _ (cyp r2 x2 a' b' n')]
          exact lk r2 x2 a' b' (((hp _ _).mp c').elim id fun z => absurd z n') d' e'
      · by_cases n' : r2 = r ∧ x2 = x
        · rw [n'.1, n'.2, Gs, G' _ (cyp r1 x1 a b n)]
          have k := lk r1 x1 a b (((hp _ _).mp c).elim id fun z => absurd z n) d e
          exact ⟨fun z => ⟨(k.mp z.symm).1.symm, (k.mp z.symm).2.symm⟩, fun z => (k.mpr ⟨z.1.symm, z.2.symm⟩).symm⟩
        · rw [G' _ (cyp r1 x1 a b n), G' _ (cyp r2 x2 a' b' n')]
          exact h7 r1 x1 r2 x2 a b (((hp _ _).mp c).elim id fun z => absurd z n) d e a' b' (((hp _ _).mp c').elim id fun z => absurd z n') d' e'
  by_cases ff : ms_fr G0 Rv (G0 r) = r
  · rw [if_pos ff]
    obtain ⟨l32, fresh⟩ := ms_nl_ok y32 yg
    refine both _ (ms_LI_new h1 y32 uy yg l32 fresh) l32 (fun i hi n => ?_) (fun r' x' a b c d e => ?_)
    · rw [← (h3 i hi n).1]; exact fresh i hi
    · refine ⟨fun z => absurd z.symm (fresh _ (cf1 r' x' a b).2.2.1), fun z => ?_⟩
      rw [← z.1] at c
      exact absurd c (f1 ff r' a z.2.symm)
  · rw [if_neg ff]
    obtain ⟨fr1, fr2, fr3, fr4⟩ := ms_fr_ok (G0 := G0) r32 vr
    have pf := f2 ff
    obtain ⟨z1, z2, z3⟩ := h6 _ x fr2 tx pf (by rw [fr3]; exact g32) (by rw [fr3]; exact gt)
    have zz := (cf1 _ x fr2 tx).2.2.1
    refine both _ (ms_LI_sG h1 y32 zz uy yg (by rw [ym, z1])) z2 z3 (fun r' x' a b c d e => ?_)
    have k := h7 _ x r' x' fr2 tx pf (by rw [fr3]; exact g32) (by rw [fr3]; exact gt) a b c d e
    rw [fr3] at k
    exact k
end
end
section
/-! the masters of the copies, all at once -/
noncomputable def ms_ir (T Rv : Nat → Prop) (cp : Nat → Nat → Nat) (i : Nat) : Nat := ms_lo (fun r => ∃ x, Rv r ∧ T x ∧ cp r x = i) 32
noncomputable def ms_iy (T Rv : Nat → Prop) (cp : Nat → Nat → Nat) (i : Nat) : Nat := ms_lo (fun x => ∃ r, Rv r ∧ T x ∧ cp r x = i) 32
def ms_Hr (A0 : ms_AS) (Rv : Nat → Prop) (l : Nat) : Prop := ∃ c, c < 32 ∧ Rv c ∧ ms_G A0 c = l
noncomputable def ms_nn (A0 : ms_AS) (gp : Nat) (Rv : Nat → Prop) (r : Nat) : Nat := ms_nm A0 (ms_Hr A0 Rv) gp 32 (ms_M A0 r)
noncomputable def ms_tg (A0 : ms_AS) (gp : Nat) (Rv : Nat → Prop) (cp : Nat → Nat → Nat) (A : ms_AS) (r x : Nat) : Nat :=
  if ms_nn A0 gp Rv r = gp then ms_G A x else ms_G A (cp (ms_fr (ms_G A0) Rv (ms_nn A0 gp Rv r)) x)
noncomputable def ms_M5 (A0 : ms_AS) (gp : Nat) (T Rv : Nat → Prop) (cp : Nat → Nat → Nat) (A : ms_AS) (i : Nat) : Nat :=
  ms_ic (ms_Cy T Rv cp i ∧ ms_G A0 (ms_ir T Rv cp i) ≠ gp) (ms_tg A0 gp Rv cp A (ms_ir T Rv cp i) (ms_iy T Rv cp i)) (ms_M A i)
section
variable {A0 A3 A : ms_AS} {gp p : Nat} {T Rv : Nat → Prop} {cp : Nat → Nat → Nat}
theorem ms_ir_is (cf : ms_CF A3 T Rv cp) {r x : Nat} (vr : Rv r) (tx : T x) : ms_ir T Rv cp (cp r x) = r :=
  ms_lo_is (Nat.le_refl _) (cf.1 r x vr tx).1 ⟨x, vr, tx, rfl⟩ fun j hj ⟨x', a, b, e⟩ => by
    have := (cf.2.1 j x' r x a b vr tx e).1
    omega
theorem ms_iy_is (cf : ms_CF A3 T Rv cp) {r x : Nat} (vr : Rv r) (tx : T x) : ms_iy T Rv cp (cp r x) = x :=
  ms_lo_is (Nat.le_refl _) (cf.1 r x vr tx).2.1 ⟨r, vr, tx, rfl⟩ fun j hj ⟨r', a, b, e⟩ => by
    have := (cf.2.1 r' j r x a b vr tx e).2
    omega
theorem ms_ir_no {i : Nat} (n : ¬ ms_Cy T Rv cp i) : ms_ir T Rv cp i = 32 := ms_lo_none (Nat.le_refl _) fun j _ ⟨x, a, b, e⟩ => n ⟨j, x, a, b, e.symm⟩
theorem ms_iy_no {i : Nat} (n : ¬ ms_Cy T Rv cp i) : ms_iy T Rv cp i = 32 := ms_lo_none (Nat.le_refl _) fun j _ ⟨r, a, b, e⟩ => n ⟨r, j, a, b, e.symm⟩
theorem ms_M5_c (cf : ms_CF A3 T Rv cp) {r x : Nat} (vr : Rv r) (tx : T x) (g : ms_G A0 r ≠ gp) : ms_M5 A0 gp T Rv cp A (cp r x) = ms_tg A0 gp Rv cp A r x := by
  unfold ms_M5
  rw [ms_ir_is cf vr tx, ms_iy_is cf vr tx, ms_ic_t ⟨⟨r, x, vr, tx, rfl⟩, g⟩]
theorem ms_M5_t (cf : ms_CF A3 T Rv cp) {r x : Nat} (vr : Rv r) (tx : T x) (g : ms_G A0 r = gp) : ms_M5 A0 gp T Rv cp A (cp r x) = ms_M A (cp r x) := by
  unfold ms_M5
  rw [ms_ir_is cf vr tx, ms_iy_is cf vr tx, ms_ic_f fun z => z.2 g]
theorem ms_M5_n {i : Nat} (n : ¬ ms_Cy T Rv cp i) : ms_M5 A0 gp T Rv cp A i = ms_M A i := ms_ic_f fun z => n z.1
theorem ms_fr_H {l : Nat} (h : ms_Hr A0 Rv l) : ms_fr (ms_G A0) Rv l < 32 ∧ Rv (ms_fr (ms_G A0) Rv l) ∧ ms_G A0 (ms_fr (ms_G A0) Rv l) = l := by
  obtain ⟨c, hc, vc, e⟩ := h
  subst e
  obtain ⟨a, b, d, _⟩ := ms_fr_ok (G0 := ms_G A0) hc vc
  exact ⟨a, b, d⟩
theorem ms_nn_ok (h0 : ms_LI A0) (hp : p < 32) (eg : ms_G A0 p = gp) (hg : gp < 32) {r : Nat} (sp : ms_Sp A0 p r) (g : ms_G A0 r ≠ gp) : ms_nn A0 gp Rv r = gp ∨ (ms_nn A0 gp Rv r < 32 ∧ ms_nn A0 gp Rv r ≠ gp ∧ ms_Hr A0 Rv (ms_nn A0 gp Rv r)) := by
  subst eg
  obtain ⟨k, hk, e⟩ := ms_near h0 hp hg sp g
  exact ms_nm_ok hg k 32 _ hk e
theorem ms_LI_5 (h0 : ms_LI A0) (h3 : ms_LI A3) (hp : p < 32) (eg : ms_G A0 p = gp) (hg : gp < 32) (hv : ∀ r, Rv r → ms_Sp A0 p r) (cf : ms_CF A3 T Rv cp) (pc : ms_PC (ms_G A0) gp A3 T Rv cp (fun _ _ => True) A) :
    ms_LI (ms_wM A (ms_M5 A0 gp T Rv cp A)) := by
  obtain ⟨h1, h2, n1, c0, ct, cn, ce⟩ := pc
  obtain ⟨rk0, r0⟩ := h0.2.2.2.2
  obtain ⟨rk, r4⟩ := h1.2.2.2.2
  have tn : ∀ x, T x → ¬ ms_Cy T Rv cp x := fun x tx ⟨r', x', a, b, e⟩ => cf.2.2 r' x' x a b tx e.symm
  have near : ∀ r, Rv r → ms_G A0 r ≠ gp → ms_nn A0 gp Rv r = gp ∨ (ms_nn A0 gp Rv r < 32 ∧ ms_nn A0 gp Rv r ≠ gp ∧ ms_Hr A0 Rv (ms_nn A0 gp Rv r)) := fun r vr g => ms_nn_ok h0 hp eg hg (hv r vr) g
  -- a target is the label of some mount
  have tg : ∀ r x, Rv r → T x → ms_G A0 r ≠ gp → ∃ j, j < 32 ∧ ms_G A j = ms_tg A0 gp Rv cp A r x := by
    intro r x vr tx g
    unfold ms_tg
    rcases near r vr g with e | ⟨e1, e2, e3⟩
    · rw [if_pos e]; exact ⟨x, (cf.1 r x vr tx).2.1, rfl⟩
    · rw [if_neg e2]
      obtain ⟨f1, f2, f3⟩ := ms_fr_H e3
      exact ⟨_, (cf.1 _ x f2 tx).2.2.1, rfl⟩
  -- which mounts carry a new label
  have cls : ∀ i, i < 32 → ms_Cy T Rv cp i ∨ ¬ ms_Cy T Rv cp i := fun i _ => Classical.em _
  have live3 : ∀ i, i < 32 → ms_M A3 i < 32 → ∃ j, j < 32 ∧ ¬ ms_Cy T Rv cp j ∧ ms_G A3 j = ms_M A3 i := by
    intro i hi hm
    obtain ⟨j, hj, e⟩ := h3.2.2.1 i hi hm
    refine ⟨j, hj, fun ⟨r, x, a, b, c⟩ => ?_, e⟩
    have := (cf.1 r x a b).2.2.2.2.1
    rw [← c, e] at this
    omega
  simp only [ms_LI, ms_wM, ms_U_mk, ms_G_mk, ms_M_mk]
  refine ⟨fun i hi => ⟨(h1.1 i hi).1, ?_⟩, fun i hi hu => ⟨(h1.2.1 i hi hu).1, ?_⟩, fun i hi hm => ?_, fun i j hi hj e hl => ?_, ?_⟩
  · by_cases c : ms_Cy T Rv cp i
    · obtain ⟨r, x, vr, tx, e⟩ := c
      subst e
      by_cases g : ms_G A0 r = gp
      · rw [ms_M5_t cf vr tx g]; exact (h1.1 _ hi).2
      · rw [ms_M5_c cf vr tx g]
        obtain ⟨j, hj, e⟩ := tg r x vr tx g
        rw [← e]; exact (h1.1 j hj).1
    · rw [ms_M5_n c]; exact (h1.1 i hi).2
  · have c : ¬ ms_Cy T Rv cp i := fun ⟨r, x, vr, tx, e⟩ => by
      have := (cf.1 r x vr tx).2.2.2.1
      rw [← e, ← h2.1] at this
      exact hu this
    rw [ms_M5_n c]; exact (h1.2.1 i hi hu).2
  · by_cases c : ms_Cy T Rv cp i
    · obtain ⟨r, x, vr, tx, e⟩ := c
      subst e
      by_cases g : ms_G A0 r = gp
      · rw [ms_M5_t cf vr tx g] at hm ⊢; exact h1.2.2.1 _ hi hm
      · rw [ms_M5_c cf vr tx g] at hm ⊢; exact tg r x vr tx g
    · rw [ms_M5_n c] at hm ⊢; exact h1.2.2.1 i hi hm
  · -- one group, one master
    by_cases ci : ∃ r x, Rv r ∧ T x ∧ i = cp r x ∧ ms_G A0 r ≠ gp
    · obtain ⟨r, x, vr, tx, ei, g⟩ := ci
      have g32 : ms_G A0 r ≠ 32 := fun z => by
        have := (c0 r x vr tx (Or.inr z)).1
        rw [← ei] at this
        omega
      obtain ⟨_, _, q⟩ := cn r x vr tx trivial g32 g
      rw [ei, ms_M5_c cf vr tx g]
      by_cases cj : ms_Cy T Rv cp j
      · obtain ⟨r', x', vr', tx', ej⟩ := cj
        by_cases g' : ms_G A0 r' = gp
        · exfalso
          have z := (ct r' x' vr' tx' trivial g').1
          rw [ei, ej, z] at e
          exact q x' (cf.1 r' x' vr' tx').2.1 (tn x' tx') e.symm
        · have g32' : ms_G A0 r' ≠ 32 := fun z => by
            have := (c0 r' x' vr' tx' (Or.inr z)).1
            rw [← ej] at this
            omega
          rw [ei, ej] at e
          obtain ⟨k1, k2⟩ := (ce r x r' x' vr tx trivial g32 g vr' tx' trivial g32' g').mp e
          rw [ej, ms_M5_c cf vr' tx' g']
          subst k1
          have k3 := h0.2.2.2.1 r r' (cf.1 r x vr tx).1 (cf.1 r' x vr' tx').1 k2 (by have := (h0.1 r (cf.1 r x vr tx).1).1; omega)
          have k4 : ms_nn A0 gp Rv r = ms_nn A0 gp Rv r' := by unfold ms_nn; rw [k3]
          unfold ms_tg
          rw [k4]
      · exfalso
        rw [ei, (n1 j hj cj).1] at e
        exact q j hj cj e.symm
    · have mi : ms_M5 A0 gp T Rv cp A i = ms_M A i := by
        by_cases c : ms_Cy T Rv cp i
        · obtain ⟨r, x, vr, tx, ei⟩ := c
          rw [ei]
          exact ms_M5_t cf vr tx (Classical.byContradiction fun g => ci ⟨r, x, vr, tx, ei, g⟩)
        · exact ms_M5_n c
      by_cases cj : ∃ r x, Rv r ∧ T x ∧ j = cp r x ∧ ms_G A0 r ≠ gp
      · exfalso
        obtain ⟨r, x, vr, tx, ej, g⟩ := cj
        have g32 : ms_G A0 r ≠ 32 := fun z => by
          have := (c0 r x vr tx (Or.inr z)).1
          rw [← ej] at this
          omega
        obtain ⟨_, _, q⟩ := cn r x vr tx trivial g32 g
        by_cases c : ms_Cy T Rv cp i
        · obtain ⟨r', x', vr', tx', ei⟩ := c
          have g' : ms_G A0 r' = gp := Classical.byContradiction fun g => ci ⟨r', x', vr', tx', ei, g⟩
          have z := (ct r' x' vr' tx' trivial g').1
          rw [ei, ej, z] at e
          exact q x' (cf.1 r' x' vr' tx').2.1 (tn x' tx') e
        · rw [ej, (n1 i hi c).1] at e
          exact q i hi c e
      · have mj : ms_M5 A0 gp T Rv cp A j = ms_M A j := by
          by_cases c : ms_Cy T Rv cp j
          · obtain ⟨r, x, vr, tx, ej⟩ := c
            rw [ej]
            exact ms_M5_t cf vr tx (Classical.byContradiction fun g => cj ⟨r, x, vr, tx, ej, g⟩)
          · exact ms_M5_n c
        rw [mi, mj]
        exact h1.2.2.2.1 i j hi hj e hl
  · -- the rank
    refine ⟨fun l => ms_ic (∃ r x, Rv r ∧ T x ∧ ms_G A0 r ≠ 32 ∧ ms_G A0 r ≠ gp ∧ ms_G A (cp r x) = l)
      (rk (ms_G A (ms_iy T Rv cp (ms_lo (fun i => ∃ r x, Rv r ∧ T x ∧ ms_G A0 r ≠ 32 ∧ ms_G A0 r ≠ gp ∧ i = cp r x ∧ ms_G A i = l) 32))) + 1 + rk0 (ms_G A0 (ms_ir T Rv cp (ms_lo (fun i => ∃ r x, Rv r ∧ T x ∧ ms_G A0 r ≠ 32 ∧ ms_G A0 r ≠ gp ∧ i = cp r x ∧ ms_G A i = l) 32)))) (rk l), ?_⟩
    generalize hF : (fun l => ms_ic (∃ r x, Rv r ∧ T x ∧ ms_G A0 r ≠ 32 ∧ ms_G A0 r ≠ gp ∧ ms_G A (cp r x) = l)
      (rk (ms_G A (ms_iy T Rv cp (ms_lo (fun i => ∃ r x, Rv r ∧ T x ∧ ms_G A0 r ≠ 32 ∧ ms_G A0 r ≠ gp ∧ i = cp r x ∧ ms_G A i = l) 32))) + 1 + rk0 (ms_G A0 (ms_ir T Rv cp (ms_lo (fun i => ∃ r x, Rv r ∧ T x ∧ ms_G A0 r ≠ 32 ∧ ms_G A0 r ≠ gp ∧ i = cp r x ∧ ms_G A i = l) 32)))) (rk l)) = F
    have Fn : ∀ r x, Rv r → T x → ms_G A0 r ≠ 32 → ms_G A0 r ≠ gp → F (ms_G A (cp r x)) = rk (ms_G A x) + 1 + rk0 (ms_G A0 r) := by
      intro r x vr tx a b
      rw [← hF]
      dsimp only
      rw [ms_ic_t ⟨r, x, vr, tx, a, b, rfl⟩]
      have lt := ms_lo_ex (P := fun i => ∃ r' x', Rv r' ∧ T x' ∧ ms_G A0 r' ≠ 32 ∧ ms_G A0 r' ≠ gp ∧ i = cp r' x' ∧ ms_G A i = ms_G A (cp r x)) (Nat.le_refl 32) (cf.1 r x vr tx).2.2.1 ⟨r, x, vr, tx, a, b, rfl, rfl⟩
      obtain ⟨r', x', vr', tx', a', b', e1, e2⟩ := ms_lo_P (P := fun i => ∃ r' x', Rv r' ∧ T x' ∧ ms_G A0 r' ≠ 32 ∧ ms_G A0 r' ≠ gp ∧ i = cp r' x' ∧ ms_G A i = ms_G A (cp r x)) (Nat.le_refl 32) lt
      rw [e1, ms_ir_is cf vr' tx', ms_iy_is cf vr' tx']
      rw [e1] at e2
      obtain ⟨k1, k2⟩ := (ce r' x' r x vr' tx' trivial a' b' vr tx trivial a b).mp e2
      rw [k1, k2]
    have Fo : ∀ i, i < 32 → ¬ ms_Cy T Rv cp i → F (ms_G A3 i) = rk (ms_G A3 i) := by
      intro i hi n
      rw [← hF]
      dsimp only
      rw [ms_ic_f]
      rintro ⟨r, x, vr, tx, a, b, e⟩
      exact (cn r x vr tx trivial a b).2.2 i hi n e.symm
    have Fm : ∀ i, i < 32 → ms_M A3 i < 32 → F (ms_M A3 i) = rk (ms_M A3 i) := by
      intro i hi hm
      obtain ⟨j, hj, n, e⟩ := live3 i hi hm
      rw [← e]; exact Fo j hj n
    intro i hi hgi hm
    by_cases c : ms_Cy T Rv cp i
    · obtain ⟨r, x, vr, tx, ei⟩ := c
      obtain ⟨r32, x32, _⟩ := cf.1 r x vr tx
      by_cases g : ms_G A0 r = gp
      · obtain ⟨z1, z2⟩ := ct r x vr tx trivial g
        rw [ei, ms_M5_t cf vr tx g, z2] at hm ⊢
        rw [ei, z1] at hgi
        rw [z1, Fo x x32 (tn x tx), Fm x x32 hm]
        have k := r4 x x32 (by rw [(n1 x x32 (tn x tx)).1]; exact hgi) (by rw [(n1 x x32 (tn x tx)).2]; exact hm)
        rw [(n1 x x32 (tn x tx)).1, (n1 x x32 (tn x tx)).2] at k
        exact k
      · have g32 : ms_G A0 r ≠ 32 := fun z => by
          have := (c0 r x vr tx (Or.inr z)).1
          rw [← ei] at this
          omega
        rw [ei, ms_M5_c cf vr tx g] at hm ⊢
        rw [Fn r x vr tx g32 g]
        rcases near r vr g with e | ⟨e1, e2, e3⟩
        · have et : ms_tg A0 gp Rv cp A r x = ms_G A x := if_pos e
          rw [et, (n1 x x32 (tn x tx)).1, Fo x x32 (tn x tx)]
          omega
        · have et : ms_tg A0 gp Rv cp A r x = ms_G A (cp (ms_fr (ms_G A0) Rv (ms_nn A0 gp Rv r)) x) := if_neg e2
          obtain ⟨f1, f2, f3⟩ := ms_fr_H e3
          rw [et, Fn _ x f2 tx (by rw [f3]; omega) (by rw [f3]; exact e2), f3]
          obtain ⟨k1, k2⟩ := ms_nm_rk h0 r0 32 (ms_M A0 r) (ms_La_M h0 r32) e1
          have k3 := r0 r r32 (by have := (h0.1 r r32).1; omega) k1
          have k4 : rk0 (ms_nn A0 gp Rv r) ≤ rk0 (ms_M A0 r) := k2
          omega
    · obtain ⟨z1, z2⟩ := n1 i hi c
      rw [ms_M5_n c, z2] at hm ⊢
      rw [z1] at hgi ⊢
      rw [Fo i hi c, Fm i hi hm]
      have k := r4 i hi (by rw [z1]; exact hgi) (by rw [z2]; exact hm)
      rw [z1, z2] at k
      exact k
end
end
section
/-! loops: a search, a count, any counted loop -/
theorem ms_sr {W : Nat → Int32 → Prop} {P : Nat → Prop} {N : Nat} (hN : N ≤ 32) (hend : ∀ n, ms_lo P N = 32 → (∀ j, j < N → ¬ P j) → W (n + 1) (nI N))
    (hst : ∀ n i, i < N → (nI i).toNatClampNeg = i → vp_in (nI i) 32 → ¬ nI N ≤ nI i → (¬ P i → ∀ y, y = nI i + 1 → W n y) → (P i → ms_lo P N = i) → W (n + 1) (nI i)) : ∃ n, W n 0 := by
  have key : ∀ n i, N < n + i → i ≤ N → (∀ j, j < i → ¬ P j) → W n (nI i) := by
    intro n
    induction n with
    | zero => intro i a b; omega
    | succ n ih =>
      intro i a b c
      by_cases e : N ≤ i
      · have ei : i = N := by omega
        subst ei
        exact hend n (ms_lo_none hN c) c
      · exact hst n i (by omega) (nI_clamp (by omega)) (vp_in_nI (by omega) (by omega)) (nI_ge (by omega) (by omega))
          (fun z y ey => by rw [ey, nI_1]; exact ih (i + 1) (by omega) (by omega) (lt_s c z)) (fun z => ms_lo_is hN (by omega) z c)
  exact ⟨N + 1, key (N + 1) 0 (by omega) (by omega) lt_0⟩
theorem ms_ct {W : Nat → Int32 → Int32 → Prop} {P : Nat → Prop} {N : Nat} (hN : N ≤ 32) (hend : ∀ n, W (n + 1) (nI (ms_cn P N)) (nI N))
    (hst : ∀ n i, i < N → (nI i).toNatClampNeg = i → vp_in (nI i) 32 → ¬ nI N ≤ nI i → (P i → ∀ c, c = nI (ms_cn P i) + 1 → ∀ y, y = nI i + 1 → W n c y) → (¬ P i → ∀ y, y = nI i + 1 → W n (nI (ms_cn P i)) y) → W (n + 1) (nI (ms_cn P i)) (nI i)) : ∃ n, W n 0 0 := by
  have key : ∀ n i, N < n + i → i ≤ N → W n (nI (ms_cn P i)) (nI i) := by
    intro n
    induction n with
    | zero => intro i a b; omega
    | succ n ih =>
      intro i a b
      by_cases e : N ≤ i
      · have ei : i = N := by omega
        subst ei
        exact hend n
      · exact hst n i (by omega) (nI_clamp (by omega)) (vp_in_nI (by omega) (by omega)) (nI_ge (by omega) (by omega))
          (fun z c ec y ey => by
            have := ih (i + 1) (by omega) (by omega)
            rw [ms_cn_st z] at this
            rw [ec, ey, nI_1, nI_1]; exact this) (fun z y ey => by
            have := ih (i + 1) (by omega) (by omega)
            rw [ms_cn_sf z] at this
            rw [ey, nI_1]; exact this)
  exact ⟨N + 1, key (N + 1) 0 (by omega) (by omega)⟩
theorem ms_lp {σ : Type} (W : Nat → Int32 → σ → Prop) (I : Nat → σ → Prop) (N : Nat) (hN : N ≤ 32) (s : σ) (h0 : I 0 s) (hend : ∀ n s, I N s → W (n + 1) (nI N) s)
    (hst : ∀ n i s, i < N → (nI i).toNatClampNeg = i → vp_in (nI i) 32 → ¬ nI N ≤ nI i → I i s → (∀ s', I (i + 1) s' → ∀ y, y = nI i + 1 → W n y s') → W (n + 1) (nI i) s) : ∃ n, W n 0 s := by
  have key : ∀ n i s, N < n + i → i ≤ N → I i s → W n (nI i) s := by
    intro n
    induction n with
    | zero => intro i s a b; omega
    | succ n ih =>
      intro i s a b c
      by_cases e : N ≤ i
      · have ei : i = N := by omega
        subst ei
        exact hend n s c
      · exact hst n i s (by omega) (nI_clamp (by omega)) (vp_in_nI (by omega) (by omega)) (nI_ge (by omega) (by omega)) c
          (fun s' h' y ey => by rw [ey, nI_1]; exact ih (i + 1) s' (by omega) (by omega) h')
  exact ⟨N + 1, key (N + 1) 0 s (by omega) (by omega) h0⟩
end
section
/-! the component's readers -/
section
variable {N D S : Nat} {us fs rt sp pa pt g m ub lv rm w1 w2 w3 w4 w5 w6 w7 w8 w9 wa wb : Nat → Int32}
theorem mx_att (hN : N ≤ 32) {post : Int32 → Prop} {p0 p1 : Int32} (h : post (ms_c (ms_lo (fun c => ¬ us c = 0 ∧ pa c = p0 ∧ pt c = p1) N))) : wpX_attachedAt post (nI N, nI D, nI S, us, fs, rt, sp, pa, pt, g, m, ub, lv, rm, w1, w2, w3, w4, w5, w6, w7, w8, w9, wa, wb) p0 p1 := by
  refine ms_sr (W := fun n i => wX_attachedAt_2 post p0 p1 (nI N) (nI D) (nI S) us fs rt sp pa pt g m ub lv rm w1 w2 w3 w4 w5 w6 w7 w8 w9 wa wb n i) (P := fun c => ¬ us c = 0 ∧ pa c = p0 ∧ pt c = p1) hN (fun n e _ => ?_) (fun n i hi ci vi ni go fo => ?_)
  · rw [e, ms_c_32] at h
    exact br_t (nI_le (Nat.le_refl _) (by omega)) h
  · refine br_f ni ⟨vi, ?_⟩
    rw [ci]
    refine br_c (fun z => go fun q => q.1 z) (fun z => ⟨vi, br_c (fun z2 => ⟨vi, br_c (fun z3 => ?_) (fun z3 => go fun q => z3 q.2.2)⟩) (fun z2 => go fun q => z2 q.2.1)⟩)
    rw [fo ⟨z, z2, z3⟩, ms_c_lt (by omega)] at h
    exact h
theorem mx_low (hN : N ≤ 32) {post : Int32 → Prop} {p0 : Int32} (hp : 0 ≤ p0) (h : post (ms_c (ms_lo (fun c => g c = p0) N))) : wpX_lowestIn post (nI N, nI D, nI S, us, fs, rt, sp, pa, pt, g, m, ub, lv, rm, w1, w2, w3, w4, w5, w6, w7, w8, w9, wa, wb) p0 := by
  refine br_t hp (ms_sr (W := fun n i => wX_lowestIn_8 post p0 (nI N) (nI D) (nI S) us fs rt sp pa pt g m ub lv rm w1 w2 w3 w4 w5 w6 w7 w8 w9 wa wb n i) (P := fun c => g c = p0) hN (fun n e _ => ?_) (fun n i hi ci vi ni go fo => ?_))
  · rw [e, ms_c_32] at h
    exact br_t (nI_le (Nat.le_refl _) (by omega)) h
  · refine br_f ni ⟨vi, ?_⟩
    rw [ci]
    refine br_c (fun z => ?_) (fun z => go z)
    rw [fo z, ms_c_lt (by omega)] at h
    exact h
theorem mx_low_n {post : Int32 → Prop} {p0 : Int32} (hp : ¬ 0 ≤ p0) (h : post (-1)) : wpX_lowestIn post (nI N, nI D, nI S, us, fs, rt, sp, pa, pt, g, m, ub, lv, rm, w1, w2, w3, w4, w5, w6, w7, w8, w9, wa, wb) p0 := br_f hp h
theorem mx_frs (hN : N ≤ 32) {post : Int32 → Prop} {p0 : Int32} (h : post (ms_c (ms_lo (fun c => ¬ w2 c = 0 ∧ w7 c = p0) N))) : wpX_firstReceiver post (nI N, nI D, nI S, us, fs, rt, sp, pa, pt, g, m, ub, lv, rm, w1, w2, w3, w4, w5, w6, w7, w8, w9, wa, wb) p0 := by
  refine ms_sr (W := fun n i => wX_firstReceiver_2 post p0 (nI N) (nI D) (nI S) us fs rt sp pa pt g m ub lv rm w1 w2 w3 w4 w5 w6 w7 w8 w9 wa wb n i) (P := fun c => ¬ w2 c = 0 ∧ w7 c = p0) hN (fun n e _ => ?_) (fun n i hi ci vi ni go fo => ?_)
  · rw [e, ms_c_32] at h
    exact br_t (nI_le (Nat.le_refl _) (by omega)) h
  · refine br_f ni ⟨vi, ?_⟩
    rw [ci]
    refine br_c (fun z => go fun q => q.1 z) (fun z => ⟨vi, br_c (fun z2 => ?_) (fun z2 => go fun q => z2 q.2)⟩)
    rw [fo ⟨z, z2⟩, ms_c_lt (by omega)] at h
    exact h
theorem mx_omg (hN : N ≤ 32) {post : Int32 → Prop} {p0 : Int32} (h : post (if ms_lo (fun c => w7 c = p0) N < 32 then w8 (ms_lo (fun c => w7 c = p0) N) else -1)) : wpX_oldMasterOfGroup post (nI N, nI D, nI S, us, fs, rt, sp, pa, pt, g, m, ub, lv, rm, w1, w2, w3, w4, w5, w6, w7, w8, w9, wa, wb) p0 := by
  refine ms_sr (W := fun n i => wX_oldMasterOfGroup_2 post p0 (nI N) (nI D) (nI S) us fs rt sp pa pt g m ub lv rm w1 w2 w3 w4 w5 w6 w7 w8 w9 wa wb n i) (P := fun c => w7 c = p0) hN (fun n e _ => ?_) (fun n i hi ci vi ni go fo => ?_)
  · rw [e, if_neg (by omega)] at h
    exact br_t (nI_le (Nat.le_refl _) (by omega)) h
  · refine br_f ni ⟨vi, ?_⟩
    rw [ci]
    refine br_c (fun z => ⟨vi, ?_⟩) (fun z => go z)
    rw [fo z, if_pos (by omega)] at h
    exact h
theorem mx_fsp (hS : S ≤ 4) {post : Int32 → Prop} (h : post (ms_c (ms_lo (fun c => lv c = 0) S))) : wpX_freeSpace post (nI N, nI D, nI S, us, fs, rt, sp, pa, pt, g, m, ub, lv, rm, w1, w2, w3, w4, w5, w6, w7, w8, w9, wa, wb) := by
  refine ms_sr (W := fun n i => wX_freeSpace_2 post (nI N) (nI D) (nI S) us fs rt sp pa pt g m ub lv rm w1 w2 w3 w4 w5 w6 w7 w8 w9 wa wb n i) (P := fun c => lv c = 0) (N := S) (by omega) (fun n e _ => ?_) (fun n i hi ci vi ni go fo => ?_)
  · rw [e, ms_c_32] at h
    exact br_t (nI_le (Nat.le_refl _) (by omega)) h
  · refine br_f ni ⟨vp_in_nI (by omega) (by omega), ?_⟩
    rw [ci]
    refine br_c (fun z => ?_) (fun z => go z)
    rw [fo z, ms_c_lt (by omega)] at h
    exact h
theorem mx_shu (hN : N ≤ 32) {post : Int32 → Prop} (h : post (if ms_lo (fun c => ¬ w5 c = 0 ∧ ¬ ub c = 0) N < 32 then 1 else 0)) : wpX_setHasUnbindable post (nI N, nI D, nI S, us, fs, rt, sp, pa, pt, g, m, ub, lv, rm, w1, w2, w3, w4, w5, w6, w7, w8, w9, wa, wb) := by
  refine ms_sr (W := fun n i => wX_setHasUnbindable_2 post (nI N) (nI D) (nI S) us fs rt sp pa pt g m ub lv rm w1 w2 w3 w4 w5 w6 w7 w8 w9 wa wb n i) (P := fun c => ¬ w5 c = 0 ∧ ¬ ub c = 0) hN (fun n e _ => ?_) (fun n i hi ci vi ni go fo => ?_)
  · rw [e, if_neg (by omega)] at h
    exact br_t (nI_le (Nat.le_refl _) (by omega)) h
  · refine br_f ni ⟨vi, ?_⟩
    rw [ci]
    refine br_c (fun z => go fun q => q.1 z) (fun z => ⟨vi, br_c (fun z2 => go fun q => q.2 z2) (fun z2 => ?_)⟩)
    rw [fo ⟨z, z2⟩, if_pos (by omega)] at h
    exact h
theorem mx_fct (hN : N ≤ 32) {post : Int32 → Prop} (h : post (nI (ms_cn (fun c => us c = 0) N))) : wpX_freeCount post (nI N, nI D, nI S, us, fs, rt, sp, pa, pt, g, m, ub, lv, rm, w1, w2, w3, w4, w5, w6, w7, w8, w9, wa, wb) := by
  refine ms_ct (W := fun n c i => wX_freeCount_4 post (nI N) (nI D) (nI S) us fs rt sp pa pt g m ub lv rm w1 w2 w3 w4 w5 w6 w7 w8 w9 wa wb n c i) (P := fun c => us c = 0) hN (fun n => br_t (nI_le (Nat.le_refl _) (by omega)) h) (fun n i hi ci vi ni t f => ?_)
  refine br_f ni ⟨vi, ?_⟩
  rw [ci]
  exact br_c (fun z => t z) (fun z => f z)
theorem mx_cct (hN : N ≤ 32) {post : Int32 → Prop} {p0 : Int32} (h : post (nI (ms_cn (fun c => ¬ us c = 0 ∧ pa c = p0) N))) : wpX_childCount post (nI N, nI D, nI S, us, fs, rt, sp, pa, pt, g, m, ub, lv, rm, w1, w2, w3, w4, w5, w6, w7, w8, w9, wa, wb) p0 := by
  refine ms_ct (W := fun n c i => wX_childCount_4 post p0 (nI N) (nI D) (nI S) us fs rt sp pa pt g m ub lv rm w1 w2 w3 w4 w5 w6 w7 w8 w9 wa wb n c i) (P := fun c => ¬ us c = 0 ∧ pa c = p0) hN (fun n => br_t (nI_le (Nat.le_refl _) (by omega)) h) (fun n i hi ci vi ni t f => ?_)
  refine br_f ni ⟨vi, ?_⟩
  rw [ci]
  exact br_c (fun z => f fun q => q.1 z) (fun z => ⟨vi, br_c (fun z2 => t ⟨z, z2⟩) (fun z2 => f fun q => z2 q.2)⟩)
theorem mx_und {post : Int32 → Prop} {e a : Nat} (he : e < 16) (ha : a < 16) (h : post (if ms_ua a 15 e = a then 1 else 0)) : wpX_isUnder post (nI N, nI D, nI S, us, fs, rt, sp, pa, pt, g, m, ub, lv, rm, w1, w2, w3, w4, w5, w6, w7, w8, w9, wa, wb) (nI e) (nI a) := by
  have fin : ∀ e, e < 16 → post (if e = a then 1 else 0) → wX_isUnder_29 post (nI a) (nI e) (nI N) (nI D) (nI S) us fs rt sp pa pt g m ub lv rm w1 w2 w3 w4 w5 w6 w7 w8 w9 wa wb := by
    intro e he h
    refine br_c (fun z => ?_) (fun z => ?_)
    · rw [if_pos ((nI_eq (by omega) (by omega)).mp z)] at h; exact h
    · rw [if_neg (fun q => z (by rw [q]))] at h; exact h
  have key : ∀ k n e, k ≤ 15 → k < n → e < 16 → post (if ms_ua a k e = a then 1 else 0) → wX_isUnder_5 post (nI a) (nI N) (nI D) (nI S) us fs rt sp pa pt g m ub lv rm w1 w2 w3 w4 w5 w6 w7 w8 w9 wa wb n (nI e) (nI (15 - k)) := by
    intro k
    induction k with
    | zero =>
      intro n e _ hn he h
      cases n with
      | zero => omega
      | succ n => exact br_t (nI_le (b := 15) (Nat.le_refl _) (by omega)) (fin e he h)
    | succ k ih =>
      intro n e hk hn he h
      cases n with
      | zero => omega
      | succ n =>
        refine br_f (nI_ge (b := 15) (by omega) (by omega)) ?_
        have eu : ms_ua a (k + 1) e = if e ≤ a then e else ms_ua a k ((e - 1) / 2) := rfl
        by_cases z : e ≤ a
        · rw [eu, if_pos z] at h
          exact br_t (nI_le z (by omega)) (fin e he h)
        · rw [eu, if_neg z] at h
          refine br_f (nI_ge (by omega) (by omega)) ⟨by decide, fun x ex y ey => ?_⟩
          rw [ex, ey, ms_half e he, nI_1, show 15 - (k + 1) + 1 = 15 - k by omega]
          exact ih n _ (by omega) (by omega) (by omega) h
  exact ⟨16, key 15 16 e (by omega) (by omega) he h⟩
theorem mx_isl (hS : S ≤ 4) {post : Int32 → Prop} (p0 : Int32) (h0 : (∀ s, s < S → p0 = nI s → lv s = 0) → post 0) (h1 : ∀ s, s < S → p0 = nI s → ¬ lv s = 0 → post 1) : wpX_isLive post (nI N, nI D, nI S, us, fs, rt, sp, pa, pt, g, m, ub, lv, rm, w1, w2, w3, w4, w5, w6, w7, w8, w9, wa, wb) p0 := by
  rcases pk_ix p0 (n := S) (by omega) with z | z | ⟨s, hs, e⟩
  · refine br_t z (h0 fun s hs e => ?_)
    rw [e] at z
    exact absurd z (nI_pos (by omega))
  · have z0 : ¬ p0 < 0 := fun q => by
      have a := nI_pos' (n := S) (by omega)
      exact absurd (Int32.lt_of_le_of_lt (Int32.le_trans a z) q) (by decide)
    refine br_f z0 (br_t z (h0 fun s hs e => ?_))
    rw [e] at z
    exact absurd z (nI_ge hs (by omega))
  · subst e
    refine br_f (nI_pos (by omega)) (br_f (nI_ge hs (by omega)) ⟨vp_in_nI (by omega) (by omega), ?_⟩)
    rw [nI_clamp (by omega)]
    refine br_c (fun z => h0 fun s' hs' e => ?_) (fun z => h1 s hs rfl z)
    rw [(nI_eq (by omega) (by omega)).mp e] at z
    exact z
theorem mx_inu (hN : N ≤ 32) {post : Int32 → Prop} (p0 : Int32) (h0 : (∀ s, s < N → p0 = nI s → us s = 0) → post 0) (h1 : ∀ s, s < N → p0 = nI s → ¬ us s = 0 → post 1) : wpX_inUse post (nI N, nI D, nI S, us, fs, rt, sp, pa, pt, g, m, ub, lv, rm, w1, w2, w3, w4, w5, w6, w7, w8, w9, wa, wb) p0 := by
  rcases pk_ix p0 (n := N) (by omega) with z | z | ⟨s, hs, e⟩
  · refine br_t z (h0 fun s hs e => ?_)
    rw [e] at z
    exact absurd z (nI_pos (by omega))
  · have z0 : ¬ p0 < 0 := fun q => by
      have a := nI_pos' (n := N) (by omega)
      exact absurd (Int32.lt_of_le_of_lt (Int32.le_trans a z) q) (by decide)
    refine br_f z0 (br_t z (h0 fun s hs e => ?_))
    rw [e] at z
    exact absurd z (nI_ge hs (by omega))
  · subst e
    refine br_f (nI_pos (by omega)) (br_f (nI_ge hs (by omega)) ⟨vp_in_nI (by omega) (by omega), ?_⟩)
    rw [nI_clamp (by omega)]
    refine br_c (fun z => h0 fun s' hs' e => ?_) (fun z => h1 s hs rfl z)
    rw [(nI_eq (by omega) (by omega)).mp e] at z
    exact z
theorem mx_nwg (hN : N ≤ 32) {post : Int32 → Prop} (h : post (ms_c (ms_lo (fun l => ∀ i, i < N → g i ≠ nI l) 32))) : wpX_newGroup post (nI N, nI D, nI S, us, fs, rt, sp, pa, pt, g, m, ub, lv, rm, w1, w2, w3, w4, w5, w6, w7, w8, w9, wa, wb) := by
  refine ms_sr (W := fun n i => wX_newGroup_2 post (nI N) (nI D) (nI S) us fs rt sp pa pt g m ub lv rm w1 w2 w3 w4 w5 w6 w7 w8 w9 wa wb n i) (P := fun l => ∀ i, i < N → g i ≠ nI l) (Nat.le_refl _) (fun n e _ => ?_) (fun n i hi ci vi ni go fo => ?_)
  · rw [e, ms_c_32] at h
    exact br_t (nI_le (b := 32) (Nat.le_refl _) (by omega)) h
  · refine br_f ni (mx_low hN (nI_pos' (by omega)) ?_)
    refine br_c (fun z => go fun q => ?_) (fun z => ?_)
    · rw [ms_c_le] at z
      exact q _ (ms_lo_lt hN z) (ms_lo_P (P := fun c => g c = nI i) hN z)
    · rw [ms_c_le] at z
      rw [fo (ms_lo_no (P := fun c => g c = nI i) hN z), ms_c_lt hi] at h
      exact h
theorem mx_nwm (hN : N ≤ 32) {post : Int32 → SX → Prop} {p0 p1 p2 : Int32} {y : Nat} (ey : ms_lo (fun c => us c = 0) N = y) (hy : y < 32)
    (h : post (nI y) (nI N, nI D, nI S, upd us y (vp_nar .boolean 1), upd fs y p0, upd rt y p1, upd sp y p2, upd pa y (-1), upd pt y (-1), upd g y (-1), upd m y (-1), upd ub y 0, lv, rm, w1, w2, w3, w4, w5, w6, w7, w8, w9, wa, wb)) : wpX_newMount post (nI N, nI D, nI S, us, fs, rt, sp, pa, pt, g, m, ub, lv, rm, w1, w2, w3, w4, w5, w6, w7, w8, w9, wa, wb) p0 p1 p2 := by
  have yN : y < N := by rw [← ey]; exact ms_lo_lt hN (by omega)
  have y0 : us y = 0 := by rw [← ey]; exact ms_lo_P (P := fun c => us c = 0) hN (by omega)
  have vy : vp_in (nI y) 32 := vp_in_nI (by omega) (by omega)
  have cy : (nI y).toNatClampNeg = y := nI_clamp (by omega)
  have fin : wX_newMount_45 post p0 p1 p2 (nI y) (nI N) (nI D) (nI S) us fs rt sp pa pt g m ub lv rm w1 w2 w3 w4 w5 w6 w7 w8 w9 wa wb := by
    unfold wX_newMount_45
    rw [cy]
    exact ⟨vy, fun _ e1 => ⟨vy, fun _ e2 => ⟨vy, fun _ e3 => ⟨vy, fun _ e4 => ⟨vy, fun _ e5 => ⟨vy, fun _ e6 => ⟨vy, fun _ e7 => ⟨vy, fun _ e8 => ⟨vy, fun _ e9 => by rw [e1, e2, e3, e4, e5, e6, e7, e8, e9]; exact h⟩⟩⟩⟩⟩⟩⟩⟩⟩
  have key : ∀ d n i, i + d = y → d < n → wX_newMount_6 post p0 p1 p2 (nI N) (nI D) (nI S) us fs rt sp pa pt g m ub lv rm w1 w2 w3 w4 w5 w6 w7 w8 w9 wa wb n (nI i) (nI i) := by
    intro d
    induction d with
    | zero =>
      intro n i hi hn
      cases n with
      | zero => omega
      | succ n =>
        have : i = y := by omega
        subst this
        refine br_f (nI_ge (by omega) (by omega)) ⟨vy, ?_⟩
        rw [cy]
        exact br_t y0 fin
    | succ d ih =>
      intro n i hi hn
      cases n with
      | zero => omega
      | succ n =>
        have ni : ¬ us i = 0 := ms_lo_min (P := fun c => us c = 0) hN (j := i) (by omega) (by omega)
        refine br_f (nI_ge (by omega) (by omega)) ⟨vp_in_nI (by omega) (by omega), ?_⟩
        rw [nI_clamp (by omega)]
        refine br_f ni (br_f ?_ (fun a ea b eb => ?_))
        · have e1 : nI N - 1 = nI (N - 1) := by
            have := nI_pred (N - 1)
            rw [show N - 1 + 1 = N by omega] at this
            exact this
          rw [e1]
          exact nI_ge (by omega) (by omega)
        · rw [ea, eb, nI_1]
          exact ih n (i + 1) (by omega) (by omega)
  exact ⟨y + 1, key y (y + 1) 0 (by omega) (by omega)⟩
end
end
section
/-! the reference's readers -/
section
variable {N D S : Nat} {lv us fs rt sp ub pa pt g m v1 v2 v3 v4 v5 v6 v7 v8 v9 : Nat → Int32}
theorem my_att {post : Int32 → Prop} {p0 p1 : Int32} (h : post (ms_c (ms_lo (fun c => ¬ us c = 0 ∧ pa c = p0 ∧ pt c = p1) 32))) : wpY_childAt post (nI N, nI D, nI S, lv, us, fs, rt, sp, ub, pa, pt, g, m, v1, v2, v3, v4, v5, v6, v7, v8, v9) p0 p1 := by
  refine ms_sr (W := fun n i => wY_childAt_2 post p0 p1 (nI N) (nI D) (nI S) lv us fs rt sp ub pa pt g m v1 v2 v3 v4 v5 v6 v7 v8 v9 n i) (P := fun c => ¬ us c = 0 ∧ pa c = p0 ∧ pt c = p1) (Nat.le_refl _) (fun n e _ => ?_) (fun n i hi ci vi ni go fo => ?_)
  · rw [e, ms_c_32] at h
    exact br_t (nI_le (b := 32) (Nat.le_refl _) (by omega)) h
  · refine br_f ni ⟨vi, ?_⟩
    rw [ci]
    refine br_c (fun z => go fun q => q.1 z) (fun z => ⟨vi, br_c (fun z2 => ⟨vi, br_c (fun z3 => ?_) (fun z3 => go fun q => z3 q.2.2)⟩) (fun z2 => go fun q => z2 q.2.1)⟩)
    rw [fo ⟨z, z2, z3⟩, ms_c_lt (by omega)] at h
    exact h
theorem my_low {post : Int32 → Prop} {p0 : Int32} (hp : ¬ p0 = 0) (h : post (ms_c (ms_lo (fun c => g c = p0) 32))) : wpY_lowest post (nI N, nI D, nI S, lv, us, fs, rt, sp, ub, pa, pt, g, m, v1, v2, v3, v4, v5, v6, v7, v8, v9) p0 := by
  refine ms_sr (W := fun n i => wY_lowest_2 post p0 (nI N) (nI D) (nI S) lv us fs rt sp ub pa pt g m v1 v2 v3 v4 v5 v6 v7 v8 v9 n i) (P := fun c => g c = p0) (Nat.le_refl _) (fun n e _ => ?_) (fun n i hi ci vi ni go fo => ?_)
  · rw [e, ms_c_32] at h
    exact br_t (nI_le (b := 32) (Nat.le_refl _) (by omega)) h
  · refine br_f ni (br_f hp ⟨vi, ?_⟩)
    rw [ci]
    refine br_c (fun z => ?_) (fun z => go z)
    rw [fo z, ms_c_lt (by omega)] at h
    exact h
theorem my_low_n {post : Int32 → Prop} {p0 : Int32} (hp : p0 = 0) (h : post (-1)) : wpY_lowest post (nI N, nI D, nI S, lv, us, fs, rt, sp, ub, pa, pt, g, m, v1, v2, v3, v4, v5, v6, v7, v8, v9) p0 := by
  refine ms_sr (W := fun n i => wY_lowest_2 post p0 (nI N) (nI D) (nI S) lv us fs rt sp ub pa pt g m v1 v2 v3 v4 v5 v6 v7 v8 v9 n i) (P := fun _ => False) (Nat.le_refl _) (fun n e _ => ?_) (fun n i hi ci vi ni go fo => ?_)
  · exact br_t (nI_le (b := 32) (Nat.le_refl _) (by omega)) h
  · exact br_f ni (br_t hp (go id))
theorem my_cpf {post : Int32 → Prop} {p0 p1 : Int32} (h : post (ms_c (ms_lo (fun c => v8 c = p0 ∧ v9 c = p1) 32))) : wpY_copyFor post (nI N, nI D, nI S, lv, us, fs, rt, sp, ub, pa, pt, g, m, v1, v2, v3, v4, v5, v6, v7, v8, v9) p0 p1 := by
  refine ms_sr (W := fun n i => wY_copyFor_2 post p0 p1 (nI N) (nI D) (nI S) lv us fs rt sp ub pa pt g m v1 v2 v3 v4 v5 v6 v7 v8 v9 n i) (P := fun c => v8 c = p0 ∧ v9 c = p1) (Nat.le_refl _) (fun n e _ => ?_) (fun n i hi ci vi ni go fo => ?_)
  · rw [e, ms_c_32] at h
    exact br_t (nI_le (b := 32) (Nat.le_refl _) (by omega)) h
  · refine br_f ni ⟨vi, ?_⟩
    rw [ci]
    refine br_c (fun z => ⟨vi, br_c (fun z2 => ?_) (fun z2 => go fun q => z2 q.2)⟩) (fun z => go fun q => z q.1)
    rw [fo ⟨z, z2⟩, ms_c_lt (by omega)] at h
    exact h
theorem my_hrc {post : Int32 → Prop} {p0 : Int32} (h : post (if ms_lo (fun c => ¬ v2 c = 0 ∧ v4 c = p0) 32 < 32 then 1 else 0)) : wpY_hasReceiver post (nI N, nI D, nI S, lv, us, fs, rt, sp, ub, pa, pt, g, m, v1, v2, v3, v4, v5, v6, v7, v8, v9) p0 := by
  refine ms_sr (W := fun n i => wY_hasReceiver_2 post p0 (nI N) (nI D) (nI S) lv us fs rt sp ub pa pt g m v1 v2 v3 v4 v5 v6 v7 v8 v9 n i) (P := fun c => ¬ v2 c = 0 ∧ v4 c = p0) (Nat.le_refl _) (fun n e _ => ?_) (fun n i hi ci vi ni go fo => ?_)
  · rw [e, if_neg (by omega)] at h
    exact br_t (nI_le (b := 32) (Nat.le_refl _) (by omega)) h
  · refine br_f ni ⟨vi, ?_⟩
    rw [ci]
    refine br_c (fun z => go fun q => q.1 z) (fun z => ⟨vi, br_c (fun z2 => ?_) (fun z2 => go fun q => z2 q.2)⟩)
    rw [fo ⟨z, z2⟩, if_pos (by omega)] at h
    exact h
theorem my_mbf {post : Int32 → Prop} {p0 : Int32} (hp : ¬ p0 = 0) (h : post (if ms_lo (fun c => v4 c = p0) 32 < 32 then v5 (ms_lo (fun c => v4 c = p0) 32) else 0)) : wpY_masterBefore post (nI N, nI D, nI S, lv, us, fs, rt, sp, ub, pa, pt, g, m, v1, v2, v3, v4, v5, v6, v7, v8, v9) p0 := by
  refine ms_sr (W := fun n i => wY_masterBefore_2 post p0 (nI N) (nI D) (nI S) lv us fs rt sp ub pa pt g m v1 v2 v3 v4 v5 v6 v7 v8 v9 n i) (P := fun c => v4 c = p0) (Nat.le_refl _) (fun n e _ => ?_) (fun n i hi ci vi ni go fo => ?_)
  · rw [e, if_neg (by omega)] at h
    exact br_t (nI_le (b := 32) (Nat.le_refl _) (by omega)) h
  · refine br_f ni (br_f hp ⟨vi, ?_⟩)
    rw [ci]
    refine br_c (fun z => ⟨vi, ?_⟩) (fun z => go z)
    rw [fo z, if_pos (by omega)] at h
    exact h
/-- copiesGroup: the receivers' numbers in forR must be within -/
theorem my_cgr {post : Int32 → Prop} {p0 p1 : Int32} (hf : ∀ c, c < 32 → ¬ v9 c < 0 → vp_in (v9 c) 32) (h : post (if ms_lo (fun c => ¬ v9 c < 0 ∧ v8 c = p0 ∧ v4 (v9 c).toNatClampNeg = p1 ∧ ¬ g c = 0) 32 < 32 then g (ms_lo (fun c => ¬ v9 c < 0 ∧ v8 c = p0 ∧ v4 (v9 c).toNatClampNeg = p1 ∧ ¬ g c = 0) 32) else 0)) : wpY_copiesGroup post (nI N, nI D, nI S, lv, us, fs, rt, sp, ub, pa, pt, g, m, v1, v2, v3, v4, v5, v6, v7, v8, v9) p0 p1 := by
  refine ms_sr (W := fun n i => wY_copiesGroup_2 post p0 p1 (nI N) (nI D) (nI S) lv us fs rt sp ub pa pt g m v1 v2 v3 v4 v5 v6 v7 v8 v9 n i) (P := fun c => ¬ v9 c < 0 ∧ v8 c = p0 ∧ v4 (v9 c).toNatClampNeg = p1 ∧ ¬ g c = 0) (Nat.le_refl _) (fun n e _ => ?_) (fun n i hi ci vi ni go fo => ?_)
  · rw [e, if_neg (by omega)] at h
    exact br_t (nI_le (b := 32) (Nat.le_refl _) (by omega)) h
  · refine br_f ni ⟨vi, ?_⟩
    rw [ci]
    refine br_c (fun z => go fun q => q.1 z) (fun z => ⟨vi, br_c (fun z2 => ⟨vi, hf i hi z, br_c (fun z3 => ⟨vi, br_c (fun z4 => go fun q => q.2.2.2 z4) (fun z4 => ⟨vi, ?_⟩)⟩) (fun z3 => go fun q => z3 q.2.2.1)⟩) (fun z2 => go fun q => z2 q.2.1)⟩)
    rw [fo ⟨z, z2, z3, z4⟩, if_pos (by omega)] at h
    exact h
theorem my_fct (hN : N ≤ 32) {post : Int32 → Prop} (h : post (nI (ms_cn (fun c => us c = 0) N))) : wpY_free post (nI N, nI D, nI S, lv, us, fs, rt, sp, ub, pa, pt, g, m, v1, v2, v3, v4, v5, v6, v7, v8, v9) := by
  refine ms_ct (W := fun n c i => wY_free_4 post (nI N) (nI D) (nI S) lv us fs rt sp ub pa pt g m v1 v2 v3 v4 v5 v6 v7 v8 v9 n c i) (P := fun c => us c = 0) hN (fun n => br_t (nI_le (Nat.le_refl _) (by omega)) h) (fun n i hi ci vi ni t f => ?_)
  refine br_f ni ⟨vi, ?_⟩
  rw [ci]
  exact br_c (fun z => t z) (fun z => f z)
theorem my_und {post : Int32 → Prop} {e a : Nat} (he : e < 16) (ha : a < 16) (h : post (if ms_ua a 15 e = a then 1 else 0)) : wpY_under post (nI N, nI D, nI S, lv, us, fs, rt, sp, ub, pa, pt, g, m, v1, v2, v3, v4, v5, v6, v7, v8, v9) (nI e) (nI a) := by
  have h : post (if ms_uy a 15 e = a then 1 else 0) := by
    by_cases z : ms_ua a 15 e = a
    · rw [if_pos z] at h; rw [if_pos ((ms_un_y e he a ha).mp z)]; exact h
    · rw [if_neg z] at h; rw [if_neg (fun q => z ((ms_un_y e he a ha).mpr q))]; exact h
  have fin : ∀ e, e < 16 → post (if e = a then 1 else 0) → wY_under_33 post (nI a) (nI e) (nI N) (nI D) (nI S) lv us fs rt sp ub pa pt g m v1 v2 v3 v4 v5 v6 v7 v8 v9 := by
    intro e he h
    refine br_c (fun z => ?_) (fun z => ?_)
    · rw [if_pos ((nI_eq (by omega) (by omega)).mp z)] at h; exact h
    · rw [if_neg (fun q => z (by rw [q]))] at h; exact h
  have key : ∀ k n e, k ≤ 15 → k < n → e < 16 → post (if ms_uy a k e = a then 1 else 0) → wY_under_5 post (nI a) (nI N) (nI D) (nI S) lv us fs rt sp ub pa pt g m v1 v2 v3 v4 v5 v6 v7 v8 v9 n (nI e) (nI (15 - k)) := by
    intro k
    induction k with
    | zero =>
      intro n e _ hn he h
      cases n with
      | zero => omega
      | succ n => exact br_t (nI_le (b := 15) (Nat.le_refl _) (by omega)) (fin e he h)
    | succ k ih =>
      intro n e hk hn he h
      cases n with
      | zero => omega
      | succ n =>
        refine br_f (nI_ge (b := 15) (by omega) (by omega)) ?_
        have eu : ms_uy a (k + 1) e = if e ≤ 0 then e else if e = a then e else ms_uy a k ((e - 1) / 2) := rfl
        by_cases z : e ≤ 0
        · rw [eu, if_pos z] at h
          exact br_t (nI_le (b := 0) z (by omega)) (fin e he h)
        · rw [eu, if_neg z] at h
          refine br_f (nI_ge (a := 0) (by omega) (by omega)) ?_
          by_cases w : e = a
          · rw [if_pos w] at h
            exact br_t (by rw [w]) (fin e he h)
          · rw [if_neg w] at h
            refine br_f (fun q => w ((nI_eq (by omega) (by omega)).mp q)) ⟨by decide, fun x ex y ey => ?_⟩
            rw [ex, ey, ms_half e he, nI_1, show 15 - (k + 1) + 1 = 15 - k by omega]
            exact ih n _ (by omega) (by omega) (by omega) h
  exact ⟨16, key 15 16 e (by omega) (by omega) he h⟩
theorem my_isl (hS : S ≤ 4) {post : Int32 → Prop} (p0 : Int32) (h0 : (∀ s, s < S → p0 = nI s → lv s = 0) → post 0) (h1 : ∀ s, s < S → p0 = nI s → ¬ lv s = 0 → post 1) : wpY_isLive post (nI N, nI D, nI S, lv, us, fs, rt, sp, ub, pa, pt, g, m, v1, v2, v3, v4, v5, v6, v7, v8, v9) p0 := by
  rcases pk_ix p0 (n := S) (by omega) with z | z | ⟨s, hs, e⟩
  · refine br_t z (h0 fun s hs e => ?_)
    rw [e] at z
    exact absurd z (nI_pos (by omega))
  · have z0 : ¬ p0 < 0 := fun q => by
      have a := nI_pos' (n := S) (by omega)
      exact absurd (Int32.lt_of_le_of_lt (Int32.le_trans a z) q) (by decide)
    refine br_f z0 (br_t z (h0 fun s hs e => ?_))
    rw [e] at z
    exact absurd z (nI_ge hs (by omega))
  · subst e
    refine br_f (nI_pos (by omega)) (br_f (nI_ge hs (by omega)) ⟨vp_in_nI (by omega) (by omega), ?_⟩)
    rw [nI_clamp (by omega)]
    refine br_c (fun z => h0 fun s' hs' e => ?_) (fun z => h1 s hs rfl z)
    rw [(nI_eq (by omega) (by omega)).mp e] at z
    exact z
theorem my_inu (hN : N ≤ 32) {post : Int32 → Prop} (p0 : Int32) (h0 : (∀ s, s < N → p0 = nI s → us s = 0) → post 0) (h1 : ∀ s, s < N → p0 = nI s → ¬ us s = 0 → post 1) : wpY_known post (nI N, nI D, nI S, lv, us, fs, rt, sp, ub, pa, pt, g, m, v1, v2, v3, v4, v5, v6, v7, v8, v9) p0 := by
  rcases pk_ix p0 (n := N) (by omega) with z | z | ⟨s, hs, e⟩
  · refine br_t z (h0 fun s hs e => ?_)
    rw [e] at z
    exact absurd z (nI_pos (by omega))
  · have z0 : ¬ p0 < 0 := fun q => by
      have a := nI_pos' (n := N) (by omega)
      exact absurd (Int32.lt_of_le_of_lt (Int32.le_trans a z) q) (by decide)
    refine br_f z0 (br_t z (h0 fun s hs e => ?_))
    rw [e] at z
    exact absurd z (nI_ge hs (by omega))
  · subst e
    refine br_f (nI_pos (by omega)) (br_f (nI_ge hs (by omega)) ⟨vp_in_nI (by omega) (by omega), ?_⟩)
    rw [nI_clamp (by omega)]
    refine br_c (fun z => h0 fun s' hs' e => ?_) (fun z => h1 s hs rfl z)
    rw [(nI_eq (by omega) (by omega)).mp e] at z
    exact z
theorem my_nwm (hN : N ≤ 32) {post : Int32 → SY → Prop} {p0 p1 p2 : Int32} {y : Nat} (ey : ms_lo (fun c => us c = 0) N = y) (hy : y < 32)
    (h : post (nI y) (nI N, nI D, nI S, lv, upd us y (vp_nar .boolean 1), upd fs y p0, upd rt y p1, upd sp y p2, upd ub y 0, upd pa y (-1), upd pt y (-1), upd g y 0, upd m y 0, v1, v2, v3, v4, v5, v6, v7, v8, v9)) : wpY_newMount post (nI N, nI D, nI S, lv, us, fs, rt, sp, ub, pa, pt, g, m, v1, v2, v3, v4, v5, v6, v7, v8, v9) p0 p1 p2 := by
  have yN : y < N := by rw [← ey]; exact ms_lo_lt hN (by omega)
  have y0 : us y = 0 := by rw [← ey]; exact ms_lo_P (P := fun c => us c = 0) hN (by omega)
  have vy : vp_in (nI y) 32 := vp_in_nI (by omega) (by omega)
  have cy : (nI y).toNatClampNeg = y := nI_clamp (by omega)
  have e1 : nI N - 1 = nI (N - 1) := by
    have := nI_pred (N - 1)
    rw [show N - 1 + 1 = N by omega] at this
    exact this
  have fin : wY_newMount_30 post p0 p1 p2 (nI y) (nI N) (nI D) (nI S) lv us fs rt sp ub pa pt g m v1 v2 v3 v4 v5 v6 v7 v8 v9 := by
    unfold wY_newMount_30
    rw [cy]
    exact ⟨vy, fun _ e1 => ⟨vy, fun _ e2 => ⟨vy, fun _ e3 => ⟨vy, fun _ e4 => ⟨vy, fun _ e5 => ⟨vy, fun _ e6 => ⟨vy, fun _ e7 => ⟨vy, fun _ e8 => ⟨vy, fun _ e9 => by rw [e1, e2, e3, e4, e5, e6, e7, e8, e9]; exact h⟩⟩⟩⟩⟩⟩⟩⟩⟩
  have key : ∀ d n i, i + d = y → d < n → wY_newMount_3 post p0 p1 p2 (nI N) (nI D) (nI S) lv us fs rt sp ub pa pt g m v1 v2 v3 v4 v5 v6 v7 v8 v9 n (nI i) := by
    intro d
    induction d with
    | zero =>
      intro n i hi hn
      cases n with
      | zero => omega
      | succ n =>
        have : i = y := by omega
        subst this
        refine br_c (fun _ => fin) (fun _ => ⟨vy, ?_⟩)
        rw [cy]
        exact br_t y0 fin
    | succ d ih =>
      intro n i hi hn
      cases n with
      | zero => omega
      | succ n =>
        have ni : ¬ us i = 0 := ms_lo_min (P := fun c => us c = 0) hN (j := i) (by omega) (by omega)
        refine br_f ?_ ⟨vp_in_nI (by omega) (by omega), ?_⟩
        · rw [e1]
          exact nI_ge (by omega) (by omega)
        · rw [nI_clamp (by omega)]
          refine br_f ni (fun a ea => ?_)
          rw [ea, nI_1]
          exact ih n (i + 1) (by omega) (by omega)
  exact ⟨y + 1, key y (y + 1) 0 (by omega) (by omega)⟩
/-- a name that nothing mentions -/
theorem my_frh {post : Int32 → Prop} (hl : ∀ i, i < 32 → m i = 0 ∨ ∃ j, j < 32 ∧ g j = m i) (h : ∀ r, ¬ r = 0 → (∀ i, i < 32 → ¬ g i = r ∧ ¬ m i = r) → post r) : wpY_fresh post (nI N, nI D, nI S, lv, us, fs, rt, sp, ub, pa, pt, g, m, v1, v2, v3, v4, v5, v6, v7, v8, v9) := by
  -- one number: x2 is 0 as long as it isn't mentioned
  have inner : ∀ (J : Int32 → Prop) (k : Nat), (∀ y, y = nI k + 1 → (∃ i, i < 32 ∧ (g i = nI k ∨ m i = nI k)) → J y) → ((∀ i, i < 32 → ¬ g i = nI k ∧ ¬ m i = nI k) → post (nI k)) → ∃ n, wY_fresh_12 post J (nI k) (nI N) (nI D) (nI S) lv us fs rt sp ub pa pt g m v1 v2 v3 v4 v5 v6 v7 v8 v9 n 0 0 := by
    intro J k hJ hp
    refine ms_lp (fun n i (x : Int32) => wY_fresh_12 post J (nI k) (nI N) (nI D) (nI S) lv us fs rt sp ub pa pt g m v1 v2 v3 v4 v5 v6 v7 v8 v9 n x i) (fun i x => (x = 0 ∧ ∀ j, j < i → ¬ g j = nI k ∧ ¬ m j = nI k) ∨ (x = 1 ∧ ∃ j, j < i ∧ (g j = nI k ∨ m j = nI k))) 32 (Nat.le_refl _) 0 (Or.inl ⟨rfl, lt_0⟩) (fun n x hI => ?_) (fun n i x hi ci vi ni hI go => ?_)
    · refine br_t (nI_le (b := 32) (Nat.le_refl _) (by omega)) ?_
      rcases hI with ⟨e, a⟩ | ⟨e, j, hj, a⟩
      · exact br_t e (hp a)
      · exact br_f (by rw [e]; decide) (fun y ey => hJ y ey ⟨j, hj, a⟩)
    · have step : (g i = nI k ∨ m i = nI k) → ∀ y, y = nI i + 1 → wY_fresh_12 post J (nI k) (nI N) (nI D) (nI S) lv us fs rt sp ub pa pt g m v1 v2 v3 v4 v5 v6 v7 v8 v9 n 1 y := fun z => go 1 (Or.inr ⟨rfl, i, by omega, z⟩)
      refine br_f ni ⟨vi, ?_⟩
      rw [ci]
      refine br_c (fun z => step (Or.inl z)) (fun z => ⟨vi, br_c (fun z2 => step (Or.inr z2)) (fun z2 => go x ?_)⟩)
      rcases hI with ⟨e, a⟩ | ⟨e, j, hj, a⟩
      · exact Or.inl ⟨e, lt_s a ⟨z, z2⟩⟩
      · exact Or.inr ⟨e, j, by omega, a⟩
  -- not all of 1 .. 64 are mentioned
  have ex : ∃ k, k < 33 ∧ ∀ i, i < 32 → ¬ g i = nI (k + 1) ∧ ¬ m i = nI (k + 1) := by
    apply Classical.byContradiction
    intro no
    have all : ∀ k, k < 33 → ms_lo (fun i => g i = nI (k + 1)) 32 < 32 := by
      intro k hk
      apply Classical.byContradiction
      intro n
      have ng := ms_lo_no (P := fun i => g i = nI (k + 1)) (Nat.le_refl 32) n
      refine no ⟨k, hk, fun i hi => ⟨ng i hi, fun e => ?_⟩⟩
      rcases hl i hi with z | ⟨j, hj, z⟩
      · rw [z] at e
        exact nI_ne0 (n := k + 1) (by omega) (by omega) e.symm
      · exact ng j hj (z.trans e)
    have := ms_pig' (f := fun k => ms_lo (fun i => g i = nI (k + 1)) 32) (N := 32) (k := 33) all (fun a b ha hb e => by
      have e1 := ms_lo_P (P := fun i => g i = nI (a + 1)) (Nat.le_refl 32) (all a ha)
      have e2 := ms_lo_P (P := fun i => g i = nI (b + 1)) (Nat.le_refl 32) (all b hb)
      have e' : ms_lo (fun i => g i = nI (a + 1)) 32 = ms_lo (fun i => g i = nI (b + 1)) 32 := e
      rw [e'] at e1
      have e1' : g (ms_lo (fun i => g i = nI (b + 1)) 32) = nI (a + 1) := e1
      have e2' : g (ms_lo (fun i => g i = nI (b + 1)) 32) = nI (b + 1) := e2
      have := (nI_eq (a := a + 1) (b := b + 1) (by omega) (by omega)).mp (e1'.symm.trans e2')
      omega)
    omega
  obtain ⟨k0, hk0, free⟩ := ex
  have key : ∀ d n k, k + d = k0 → d < n → wY_fresh_2 post (nI N) (nI D) (nI S) lv us fs rt sp ub pa pt g m v1 v2 v3 v4 v5 v6 v7 v8 v9 n (nI (k + 1)) := by
    intro d
    induction d with
    | zero =>
      intro n k hk hn
      cases n with
      | zero => omega
      | succ n =>
        have : k = k0 := by omega
        subst this
        refine br_f (nI_nlt (a := 64) (b := k + 1) (by omega) (by omega)) (inner _ (k + 1) (fun y _ ⟨i, hi, e⟩ => ?_) (fun fr => h _ (nI_ne0 (by omega) (by omega)) fr))
        exact (e.elim (free i hi).1 (free i hi).2).elim
    | succ d ih =>
      intro n k hk hn
      cases n with
      | zero => omega
      | succ n =>
        refine br_f (nI_nlt (a := 64) (b := k + 1) (by omega) (by omega)) (inner _ (k + 1) (fun y ey _ => ?_) (fun fr => h _ (nI_ne0 (by omega) (by omega)) fr))
        rw [ey, nI_1]
        exact ih n (k + 1) (by omega) (by omega)
  exact ⟨k0 + 1, key k0 (k0 + 1) 0 (by omega) (by omega)⟩
end
end
section
/-! what the readers find, by the abstract state -/
section
variable {N D S : Nat} {e : Nat → Int32} {A : ms_AS} {lw : Nat → Prop} {rn : Nat → Nat} {us fs rt sp pa pt g m ub : Nat → Int32}
theorem ms_rd_at (h : ms_CR e A us fs rt sp pa pt g m ub) (hN : N ≤ 32) {k d : Nat} (hk : k < 32) (hd : d < 32) : ms_lo (fun c => ¬ us c = 0 ∧ pa c = nI k ∧ pt c = nI d) N = ms_at N A k d := by
  refine ms_lo_congr hN fun c hc => ?_
  have hu := ms_CR_u h (i := c) (by omega)
  constructor
  · rintro ⟨a, b, f⟩
    have u : ms_U A c := Classical.byContradiction fun n => a (hu.mpr n)
    rw [ms_CR_p h (by omega) u, ms_c_eq hk] at b
    rw [ms_CR_q h (by omega) u, ms_c_eq hd] at f
    exact ⟨u, b, f⟩
  · rintro ⟨u, b, f⟩
    refine ⟨fun z => hu.mp z u, ?_, ?_⟩
    · rw [ms_CR_p h (by omega) u, ms_c_eq hk]; exact b
    · rw [ms_CR_q h (by omega) u, ms_c_eq hd]; exact f
theorem ms_at_cut (hF : ms_FI N lw rn A) (hN : N ≤ 32) (k d : Nat) : ms_at 32 A k d = ms_at N A k d :=
  ms_lo_cut hN fun j h1 h2 z => by
    have := (hF.1 j h2 z.1).1
    omega
theorem ms_rd_cc (h : ms_CR e A us fs rt sp pa pt g m ub) (hN : N ≤ 32) {k : Nat} (hk : k < 32) : ms_cn (fun c => ¬ us c = 0 ∧ pa c = nI k) N = ms_cn (fun c => ms_U A c ∧ ms_P A c = k) N := by
  refine ms_cn_eq fun c hc => ?_
  have hu := ms_CR_u h (i := c) (by omega)
  constructor
  · rintro ⟨a, b⟩
    have u : ms_U A c := Classical.byContradiction fun n => a (hu.mpr n)
    rw [ms_CR_p h (by omega) u, ms_c_eq hk] at b
    exact ⟨u, b⟩
  · rintro ⟨u, b⟩
    refine ⟨fun z => hu.mp z u, ?_⟩
    rw [ms_CR_p h (by omega) u, ms_c_eq hk]; exact b
theorem ms_rd_fc (h : ms_CR e A us fs rt sp pa pt g m ub) (hN : N ≤ 32) : ms_cn (fun c => us c = 0) N = ms_cn (fun c => ¬ ms_U A c) N :=
  ms_cn_eq fun c hc => ms_CR_u h (i := c) (by omega)
theorem ms_rd_nw (h : ms_CR e A us fs rt sp pa pt g m ub) (hN : N ≤ 32) : ms_lo (fun c => us c = 0) N = ms_lo (fun c => ¬ ms_U A c) N :=
  ms_lo_congr hN fun c hc => ms_CR_u h (i := c) (by omega)
end
/-! positions as ints -/
theorem ms_ps (k d : Nat) : nI k * 16 + nI d = nI (16 * k + d) := by
  show nI k * nI 16 + nI d = _
  rw [pk_mul, nI_add, Nat.mul_comm]
theorem ms_p4 {q : Nat} (h : q < 2 ^ 31) : nI q >>> ((4 : Int32) &&& 31) = nI (q / 16) := pk_shrN h _ 4 (by decide)
theorem ms_p15 {q : Nat} (h : q < 2 ^ 31) : nI q &&& 15 = nI (q % 16) := pk_andN (by omega) 4 (by decide)
theorem ms_pd {q : Nat} (h : q < 2 ^ 31) : nI q / 16 = nI (q / 16) := pk_div (d := 16) h (by omega) (by omega)
theorem ms_pr {q : Nat} (h : q < 2 ^ 31) : nI q - nI q / 16 * 16 = nI (q % 16) := pk_rem (d := 16) h (by omega) (by omega)
theorem ms_pc (k t : Nat) : 2 * nI k + nI t = nI (2 * k + t) := by
  show nI 2 * nI k + nI t = _
  rw [pk_mul, nI_add]
theorem ms_gd_q {A : ms_AS} {s q : Nat} (h : ms_gd A s (q / 16) (q % 16)) : q < 512 := by have := h.1; omega
end
section
/-! the component's walk -/
section
variable {N D S : Nat} {us fs rt sp pa pt g m ub lv rm w1 w2 w3 w4 w5 w6 w7 w8 w9 wa wb : Nat → Int32}
variable {A : ms_AS} {lw : Nat → Prop} {rn : Nat → Nat} {s : Nat}
theorem mx_at (h : ms_CR ms_c A us fs rt sp pa pt g m ub) (hN : N ≤ 32) {post : Int32 → Prop} {k d : Nat} (hk : k < 32) (hd : d < 32) (hp : post (ms_c (ms_at N A k d))) : wpX_attachedAt post (nI N, nI D, nI S, us, fs, rt, sp, pa, pt, g, m, ub, lv, rm, w1, w2, w3, w4, w5, w6, w7, w8, w9, wa, wb) (nI k) (nI d) :=
  mx_att hN (by rw [ms_rd_at h hN hk hd]; exact hp)
theorem mx_crs (h : ms_CR ms_c A us fs rt sp pa pt g m ub) (hF : ms_FI N lw rn A) (hN : N ≤ 32) {post : Int32 → Prop} {k d : Nat} (hg : ms_gd A s k d) (hp : post (nI (ms_cr N A 32 k d))) : wpX_cross post (nI N, nI D, nI S, us, fs, rt, sp, pa, pt, g, m, ub, lv, rm, w1, w2, w3, w4, w5, w6, w7, w8, w9, wa, wb) (nI k) (nI d) := by
  have key : ∀ j n k d, j ≤ 32 → j < n → ms_gd A s k d → post (nI (ms_cr N A j k d)) → wX_cross_17 post (nI N) (nI D) (nI S) us fs rt sp pa pt g m ub lv rm w1 w2 w3 w4 w5 w6 w7 w8 w9 wa wb n (nI k) (nI d) (ms_c (ms_at N A k d)) (nI (32 - j)) := by
    intro j
    induction j with
    | zero =>
      intro n k d _ hn hg hp
      cases n with
      | zero => omega
      | succ n =>
        refine br_t (nI_le (b := 32) (Nat.le_refl _) (by omega)) ?_
        rw [ms_ps]; exact hp
    | succ j ih =>
      intro n k d hj hn hg hp
      cases n with
      | zero => omega
      | succ n =>
        refine br_f (nI_ge (b := 32) (by omega) (by omega)) ?_
        by_cases a : ms_at N A k d < 32
        · have e : ms_cr N A (j + 1) k d = ms_cr N A j (ms_at N A k d) (ms_R A (ms_at N A k d)) := if_pos a
          rw [e] at hp
          have hg' := ms_gd_at hF hN hg a
          refine br_f (fun z => (ms_c_neg.mp z) a) ⟨ms_c_in a, ?_⟩
          rw [ms_c_cl a, ms_c_lt a]
          refine nm_r (ms_CR_r h a) (mx_at h hN a (by have := hg'.2.2.2.1; omega) ?_)
          refine nm_r (nI_1 _) ?_
          rw [show 32 - (j + 1) + 1 = 32 - j by omega]
          exact ih n _ _ (by omega) (by omega) hg' hp
        · have e : ms_cr N A (j + 1) k d = 16 * k + d := if_neg a
          rw [e] at hp
          refine br_t (ms_c_neg.mpr a) ?_
          rw [ms_ps]; exact hp
  exact mx_at h hN hg.1 (by have := hg.2.2.2.1; omega) ⟨33, key 32 33 k d (by omega) (by omega) hg hp⟩
theorem mx_sup (h : ms_CR ms_c A us fs rt sp pa pt g m ub) (hF : ms_FI N lw rn A) (hN : N ≤ 32) {post : Int32 → Prop} {q : Nat} (hg : ms_gd A s (q / 16) (q % 16)) (hp : post (nI (ms_sU N A q))) : wpX_stepUp post (nI N, nI D, nI S, us, fs, rt, sp, pa, pt, g, m, ub, lv, rm, w1, w2, w3, w4, w5, w6, w7, w8, w9, wa, wb) (nI q) := by
  have fin : ∀ k d, ms_gd A s k d → post (nI (ms_sV N A (k, d))) → wX_stepUp_58 post (nI k) (nI d) (nI N) (nI D) (nI S) us fs rt sp pa pt g m ub lv rm w1 w2 w3 w4 w5 w6 w7 w8 w9 wa wb := by
    intro k d hg hp
    have hg' := ms_gd_half hF hg
    have k31 : k < 2 ^ 31 := by have := hg.1; omega
    have hd := hg.2.2.2.1
    have hR := hF.2.1 k hg.1
    have hp' : post (nI (ms_cr N A 32 k (if d = ms_R A k then d else (d - 1) / 2))) := hp
    refine ⟨vp_in_nI hg.1 (by omega), ?_⟩
    rw [nI_clamp k31, ms_CR_r h hg.1]
    by_cases z : d = ms_R A k
    · rw [if_pos z] at hp' hg'
      exact br_t (by rw [z]) (mx_crs h hF hN hg' hp')
    · rw [if_neg z] at hp' hg'
      refine br_f (fun y => z ((nI_eq (by omega) (by omega)).mp y)) ⟨by decide, nm_r (ms_half d (by omega)) (mx_crs h hF hN hg' hp')⟩
  have key : ∀ j n k d, j ≤ 32 → j < n → ms_gd A s k d → post (nI (ms_sV N A (ms_up A j k d))) → wX_stepUp_12 post (nI N) (nI D) (nI S) us fs rt sp pa pt g m ub lv rm w1 w2 w3 w4 w5 w6 w7 w8 w9 wa wb n (nI k) (nI d) (nI (32 - j)) := by
    intro j
    induction j with
    | zero =>
      intro n k d _ hn hg hp
      cases n with
      | zero => omega
      | succ n => exact br_t (nI_le (b := 32) (Nat.le_refl _) (by omega)) (fin k d hg hp)
    | succ j ih =>
      intro n k d hj hn hg hp
      cases n with
      | zero => omega
      | succ n =>
        have vk : vp_in (nI k) 32 := vp_in_nI hg.1 (by omega)
        have k31 : k < 2 ^ 31 := by have := hg.1; omega
        have hd := hg.2.2.2.1
        have hR := hF.2.1 k hg.1
        refine br_f (nI_ge (b := 32) (by omega) (by omega)) ⟨vk, ?_⟩
        rw [nI_clamp k31, ms_CR_r h hg.1, ms_CR_p h hg.1 hg.2.1, ms_CR_q h hg.1 hg.2.1]
        by_cases z : d = ms_R A k
        · refine br_t (by rw [z]) ⟨vk, ?_⟩
          by_cases y : ms_P A k < 32
          · have e : ms_up A (j + 1) k d = ms_up A j (ms_P A k) (ms_Q A k) := if_pos ⟨z, y⟩
            rw [e] at hp
            obtain ⟨b1, b2, b3, b4⟩ := hF.2.2.1 k hg.1 hg.2.1 y
            refine br_f (fun w => (ms_c_neg.mp w) y) ⟨vk, nm_r (ms_c_lt (by omega)) ⟨vk, nm_r (ms_c_lt y) (nm_r (nI_1 _) ?_)⟩⟩
            rw [show 32 - (j + 1) + 1 = 32 - j by omega]
            exact ih n _ _ (by omega) (by omega) ⟨y, b1, by rw [b2]; exact hg.2.2.1, b3, b4⟩ hp
          · have e : ms_up A (j + 1) k d = (k, d) := if_neg fun w => y w.2
            rw [e] at hp
            exact br_t (ms_c_neg.mpr y) (fin k d hg hp)
        · have e : ms_up A (j + 1) k d = (k, d) := if_neg fun w => z w.1
          rw [e] at hp
          exact br_f (fun y => z ((nI_eq (by omega) (by omega)).mp y)) (fin k d hg hp)
  have q5 := ms_gd_q hg
  exact nm_r (ms_p4 (by omega)) (nm_r (ms_p15 (by omega)) ⟨33, key 32 33 _ _ (by omega) (by omega) hg hp⟩)
theorem mx_sdn (h : ms_CR ms_c A us fs rt sp pa pt g m ub) (hF : ms_FI N lw rn A) (hN : N ≤ 32) (hD : D ≤ 15) {post : Int32 → Prop} {q t : Nat} (ht : t = 1 ∨ t = 2) (hg : ms_gd A s (q / 16) (q % 16)) (hp : post (ms_o (ms_sD N D A q t))) : wpX_stepDown post (nI N, nI D, nI S, us, fs, rt, sp, pa, pt, g, m, ub, lv, rm, w1, w2, w3, w4, w5, w6, w7, w8, w9, wa, wb) (nI q) (nI t) := by
  have q5 := ms_gd_q hg
  have e1 : 2 * (nI q &&& 15) + nI t = nI (2 * (q % 16) + t) := by rw [ms_p15 (by omega), ms_pc]
  refine nm_r e1 ?_
  by_cases z : 2 * (q % 16) + t < D
  · have e : ms_sD N D A q t = some (ms_cr N A 32 (q / 16) (2 * (q % 16) + t)) := if_pos z
    rw [e] at hp
    refine br_t (nI_lt z (by omega)) ?_
    rw [ms_p4 (by omega)]
    obtain ⟨g1, g2, g3, g4, g5⟩ := hg
    have hR := hF.2.1 _ g1
    refine mx_crs (s := s) h hF hN ⟨g1, g2, g3, by omega, ?_⟩ hp
    rcases ht with e | e
    · subst e; exact ms_un_d1 (q % 16) (by omega) _ (by omega) g5
    · subst e; exact ms_un_d2 (q % 16) (by omega) _ (by omega) g5
  · have e : ms_sD N D A q t = none := if_neg z
    rw [e] at hp
    exact br_f (nI_nlt (by omega) (by omega)) hp
theorem mx_wk (h : ms_CR ms_c A us fs rt sp pa pt g m ub) (hF : ms_FI N lw rn A) (hN : N ≤ 32) (hD : D ≤ 15) {post : Int32 → Prop} {x : Int32} : ∀ j n q, j ≤ 16 → j < n → ms_gd A s (q / 16) (q % 16) → post (ms_o (ms_wk N D A x j q)) → wX_walk_23 post x (nI N) (nI D) (nI S) us fs rt sp pa pt g m ub lv rm w1 w2 w3 w4 w5 w6 w7 w8 w9 wa wb n (nI q) (nI (16 - j)) := by
  have out : ∀ n i, post (-1) → wX_walk_23 post x (nI N) (nI D) (nI S) us fs rt sp pa pt g m ub lv rm w1 w2 w3 w4 w5 w6 w7 w8 w9 wa wb (n + 1) (-1) i := fun n i hp => br_c (fun _ => hp) (fun _ => br_t (by decide) hp)
  intro j
  induction j with
  | zero =>
    intro n q _ hn hg hp
    cases n with
    | zero => omega
    | succ n => exact br_t (nI_le (b := 16) (Nat.le_refl _) (by omega)) hp
  | succ j ih =>
    intro n q hj hn hg hp
    cases n with
    | zero => omega
    | succ n =>
      have q5 := ms_gd_q hg
      rw [show 16 - (j + 1) = 15 - j by omega]
      refine br_f (nI_ge (b := 16) (by omega) (by omega)) (br_f (nI_pos (by omega)) (nm_r (e' := ms_tk x (15 - j)) rfl ?_))
      have hp' : post (ms_o ((ms_st N D A q (ms_tk x (15 - j))).bind (ms_wk N D A x j))) := hp
      have back : ∀ q', ms_st N D A q (ms_tk x (15 - j)) = some q' → ∀ y, y = nI (15 - j) + 1 → wX_walk_23 post x (nI N) (nI D) (nI S) us fs rt sp pa pt g m ub lv rm w1 w2 w3 w4 w5 w6 w7 w8 w9 wa wb n (nI q') y := by
        intro q' e y ey
        rw [e] at hp'
        rw [ey, nI_1, show 15 - j + 1 = 16 - j by omega]
        exact ih n q' (by omega) (by omega) (ms_gd_st hF hN hD hg e) hp'
      have down : ∀ t, (t = 1 ∨ t = 2) → ms_st N D A q (ms_tk x (15 - j)) = ms_sD N D A q t → wpX_stepDown (fun r => ∀ y, y = nI (15 - j) + 1 → wX_walk_23 post x (nI N) (nI D) (nI S) us fs rt sp pa pt g m ub lv rm w1 w2 w3 w4 w5 w6 w7 w8 w9 wa wb n r y) (nI N, nI D, nI S, us, fs, rt, sp, pa, pt, g, m, ub, lv, rm, w1, w2, w3, w4, w5, w6, w7, w8, w9, wa, wb) (nI q) (nI t) := by
        intro t ht e
        refine mx_sdn h hF hN hD ht hg ?_
        cases e' : ms_sD N D A q t with
        | none =>
          intro y ey
          rw [e, e'] at hp'
          cases n with
          | zero => omega
          | succ n => exact out n y hp'
        | some q' => exact back q' (e.trans e')
      rcases ms_tk_c x (15 - j) with z | z | z | z
      · exact br_f (by rw [z]; decide) (br_t z (back q (by rw [z]; rfl)))
      · refine br_f (by rw [z]; decide) (br_f (by rw [z]; decide) ?_)
        rw [z]
        exact down 1 (Or.inl rfl) (by rw [z]; rfl)
      · refine br_f (by rw [z]; decide) (br_f (by rw [z]; decide) ?_)
        rw [z]
        exact down 2 (Or.inr rfl) (by rw [z]; rfl)
      · refine br_t z (mx_sup h hF hN hg ?_)
        exact back _ (by rw [z]; rfl)
/-- the walk in a live space s -/
theorem mx_walk (h : ms_CR ms_c A us fs rt sp pa pt g m ub) (hF : ms_FI N lw rn A) (hN : N ≤ 32) (hD : D ≤ 15) {post : Int32 → Prop} {x : Int32} (hs : s < 4) (ls : lw s) (hr : rm s = nI (rn s)) (hp : post (ms_o (ms_wk N D A x 16 (ms_cr N A 32 (rn s) (ms_R A (rn s)))))) : wpX_walk post (nI N, nI D, nI S, us, fs, rt, sp, pa, pt, g, m, ub, lv, rm, w1, w2, w3, w4, w5, w6, w7, w8, w9, wa, wb) (nI s) x := by
  obtain ⟨r1, r2, r3, r4, _⟩ := hF.2.2.2.1 s hs ls
  have hR := hF.2.1 _ r1
  have g0 : ms_gd A s (rn s) (ms_R A (rn s)) := ⟨r1, r2, r3, hR, ms_un_r _ (by omega)⟩
  refine ⟨vp_in_nI hs (by omega), ?_⟩
  rw [nI_clamp (by omega), hr]
  refine nm_e ⟨vp_in_nI r1 (by omega), ?_⟩
  rw [nI_clamp (by omega), ms_CR_r h r1]
  refine mx_crs h hF hN g0 ⟨17, mx_wk h hF hN hD 16 17 _ (by omega) (by omega) (ms_gd_cr hF hN 32 _ _ g0) hp⟩
end
end
section
/-! the reference's walk -/
theorem ms_cr_st {N : Nat} {A : ms_AS} {k d : Nat} (h : ¬ ms_at N A k d < 32) : ∀ j, ms_cr N A j k d = 16 * k + d
  | 0 => rfl
  | j + 1 => if_neg h
section
variable {N D S : Nat} {lv us fs rt sp ub pa pt g m v1 v2 v3 v4 v5 v6 v7 v8 v9 : Nat → Int32}
variable {e : Nat → Int32} {A : ms_AS} {lw : Nat → Prop} {rn : Nat → Nat} {s : Nat}
theorem my_at (h : ms_CR e A us fs rt sp pa pt g m ub) (hF : ms_FI N lw rn A) (hN : N ≤ 32) {post : Int32 → Prop} {k d : Nat} (hk : k < 32) (hd : d < 32) (hp : post (ms_c (ms_at N A k d))) : wpY_childAt post (nI N, nI D, nI S, lv, us, fs, rt, sp, ub, pa, pt, g, m, v1, v2, v3, v4, v5, v6, v7, v8, v9) (nI k) (nI d) :=
  my_att (by rw [ms_rd_at h (Nat.le_refl _) hk hd, ms_at_cut hF hN]; exact hp)
theorem my_crs (h : ms_CR e A us fs rt sp pa pt g m ub) (hF : ms_FI N lw rn A) (hN : N ≤ 32) {post : Int32 → Prop} {k d : Nat} (hg : ms_gd A s k d) (hp : post (nI (ms_cr N A 32 k d))) : wpY_cross post (nI N, nI D, nI S, lv, us, fs, rt, sp, ub, pa, pt, g, m, v1, v2, v3, v4, v5, v6, v7, v8, v9) (nI (16 * k + d)) := by
  have key : ∀ j n k d, j ≤ 32 → j < n → ms_gd A s k d → post (nI (ms_cr N A j k d)) → wY_cross_4 post (nI N) (nI D) (nI S) lv us fs rt sp ub pa pt g m v1 v2 v3 v4 v5 v6 v7 v8 v9 n (nI (16 * k + d)) (nI (32 - j)) := by
    intro j
    induction j with
    | zero =>
      intro n k d _ hn hg hp
      cases n with
      | zero => omega
      | succ n => exact br_t (nI_le (b := 32) (Nat.le_refl _) (by omega)) hp
    | succ j ih =>
      intro n k d hj hn hg hp
      cases n with
      | zero => omega
      | succ n =>
        have k32 := hg.1
        have d15 := hg.2.2.2.1
        refine br_f (nI_ge (b := 32) (by omega) (by omega)) ⟨by decide, by decide, ?_⟩
        rw [ms_pr (by omega), ms_pd (by omega), show (16 * k + d) / 16 = k by omega, show (16 * k + d) % 16 = d by omega]
        refine my_at h hF hN k32 (by omega) ?_
        by_cases a : ms_at N A k d < 32
        · have e : ms_cr N A (j + 1) k d = ms_cr N A j (ms_at N A k d) (ms_R A (ms_at N A k d)) := if_pos a
          rw [e] at hp
          refine br_f (fun z => (ms_c_neg.mp z) a) ⟨ms_c_in a, ?_⟩
          rw [ms_c_cl a, ms_c_lt a, ms_CR_r h a, ms_ps]
          refine nm_e (nm_r (nI_1 _) ?_)
          rw [show 32 - (j + 1) + 1 = 32 - j by omega]
          exact ih n _ _ (by omega) (by omega) (ms_gd_at hF hN hg a) hp
        · rw [ms_cr_st a] at hp
          refine br_t (ms_c_neg.mpr a) (nm_r (nI_1 _) ?_)
          rw [show 32 - (j + 1) + 1 = 32 - j by omega]
          exact ih n _ _ (by omega) (by omega) hg (by rw [ms_cr_st a]; exact hp)
  exact ⟨33, key 32 33 k d (by omega) (by omega) hg hp⟩
theorem my_wk (h : ms_CR e A us fs rt sp pa pt g m ub) (hF : ms_FI N lw rn A) (hN : N ≤ 32) (hD : D ≤ 15) {post : Int32 → Prop} {x : Int32} : ∀ j n q, j ≤ 16 → j < n → ms_gd A s (q / 16) (q % 16) → post (ms_o (ms_wk N D A x j q)) → wY_walk_79 post x (nI N) (nI D) (nI S) lv us fs rt sp ub pa pt g m v1 v2 v3 v4 v5 v6 v7 v8 v9 n (nI q) (nI (16 - j)) := by
  intro j
  induction j with
  | zero =>
    intro n q _ hn hg hp
    cases n with
    | zero => omega
    | succ n => exact br_t (nI_le (b := 16) (Nat.le_refl _) (by omega)) hp
  | succ j ih =>
    intro n q hj hn hg hp
    cases n with
    | zero => omega
    | succ n =>
      have q5 := ms_gd_q hg
      rw [show 16 - (j + 1) = 15 - j by omega]
      refine br_f (nI_ge (b := 16) (by omega) (by omega)) (nm_r (e' := ms_tk x (15 - j)) rfl ⟨by decide, nm_r (ms_pd (by omega)) ⟨by decide, nm_r (ms_pr (by omega)) ?_⟩⟩)
      have hp' : post (ms_o ((ms_st N D A q (ms_tk x (15 - j))).bind (ms_wk N D A x j))) := hp
      have back : ∀ q', ms_st N D A q (ms_tk x (15 - j)) = some q' → ∀ y, y = nI (15 - j) + 1 → wY_walk_79 post x (nI N) (nI D) (nI S) lv us fs rt sp ub pa pt g m v1 v2 v3 v4 v5 v6 v7 v8 v9 n (nI q') y := by
        intro q' e y ey
        rw [e] at hp'
        rw [ey, nI_1, show 15 - j + 1 = 16 - j by omega]
        exact ih n q' (by omega) (by omega) (ms_gd_st hF hN hD hg e) hp'
      -- behind a token that isn't 0: cross
      have crs : ∀ k d, ¬ ms_tk x (15 - j) = 0 → ms_gd A s k d → ms_st N D A q (ms_tk x (15 - j)) = some (ms_cr N A 32 k d) → wY_walk_217 post (wY_walk_79 post x (nI N) (nI D) (nI S) lv us fs rt sp ub pa pt g m v1 v2 v3 v4 v5 v6 v7 v8 v9 n) x (nI k) (nI q) (nI (15 - j)) (ms_tk x (15 - j)) (nI d) (nI N) (nI D) (nI S) lv us fs rt sp ub pa pt g m v1 v2 v3 v4 v5 v6 v7 v8 v9 := by
        intro k d z hg' e
        refine br_f z ?_
        rw [ms_ps]
        exact my_crs h hF hN hg' (back _ e)
      have down : ∀ t, (t = 1 ∨ t = 2) → ms_tk x (15 - j) = nI t → ms_st N D A q (ms_tk x (15 - j)) = ms_sD N D A q t → wY_walk_121 post (wY_walk_79 post x (nI N) (nI D) (nI S) lv us fs rt sp ub pa pt g m v1 v2 v3 v4 v5 v6 v7 v8 v9 n) x (nI (q / 16)) (nI q) (nI (15 - j)) (ms_tk x (15 - j)) (nI (q % 16)) (nI N) (nI D) (nI S) lv us fs rt sp ub pa pt g m v1 v2 v3 v4 v5 v6 v7 v8 v9 := by
        intro t ht et e
        have e1 : 2 * nI (q % 16) + ms_tk x (15 - j) = nI (2 * (q % 16) + t) := by rw [et, ms_pc]
        refine nm_r e1 ?_
        by_cases z : 2 * (q % 16) + t < D
        · have e' : ms_sD N D A q t = some (ms_cr N A 32 (q / 16) (2 * (q % 16) + t)) := if_pos z
          refine br_t (nI_lt z (by omega)) (crs _ _ (by rw [et]; exact nI_ne0 (by omega) (by omega)) ?_ (e.trans e'))
          obtain ⟨g1, g2, g3, g4, g5⟩ := hg
          have hR := hF.2.1 _ g1
          refine ⟨g1, g2, g3, by omega, ?_⟩
          rcases ht with e | e
          · subst e; exact ms_un_d1 (q % 16) (by omega) _ (by omega) g5
          · subst e; exact ms_un_d2 (q % 16) (by omega) _ (by omega) g5
        · have e' : ms_sD N D A q t = none := if_neg z
          rw [e, e'] at hp'
          exact br_f (nI_nlt (by omega) (by omega)) hp'
      rcases ms_tk_c x (15 - j) with z | z | z | z
      · refine br_f (by rw [z]; decide) (br_f (by rw [z]; decide) (br_f (by rw [z]; decide) (br_t z (back q (by rw [z]; rfl)))))
      · exact br_t z (down 1 (Or.inl rfl) z (by rw [z]; rfl))
      · exact br_f (by rw [z]; decide) (br_t z (down 2 (Or.inr rfl) z (by rw [z]; rfl)))
      · refine br_f (by rw [z]; decide) (br_f (by rw [z]; decide) (br_t z ?_))
        have nz : ¬ ms_tk x (15 - j) = 0 := by rw [z]; decide
        have es : ms_st N D A q (ms_tk x (15 - j)) = some (ms_sV N A (ms_up A 32 (q / 16) (q % 16))) := by rw [z]; rfl
        have fin : ∀ k d, ms_gd A s k d → ms_up A 32 (q / 16) (q % 16) = (k, d) → wY_walk_198 post (wY_walk_79 post x (nI N) (nI D) (nI S) lv us fs rt sp ub pa pt g m v1 v2 v3 v4 v5 v6 v7 v8 v9 n) x (nI k) (nI q) (nI (15 - j)) (ms_tk x (15 - j)) (nI d) (nI N) (nI D) (nI S) lv us fs rt sp ub pa pt g m v1 v2 v3 v4 v5 v6 v7 v8 v9 := by
          intro k d hg eu
          have hg' := ms_gd_half hF hg
          have k31 : k < 2 ^ 31 := by have := hg.1; omega
          have hd := hg.2.2.2.1
          have hR := hF.2.1 k hg.1
          rw [eu] at es
          have es' : ms_st N D A q (ms_tk x (15 - j)) = some (ms_cr N A 32 k (if d = ms_R A k then d else (d - 1) / 2)) := es
          refine ⟨vp_in_nI hg.1 (by omega), ?_⟩
          rw [nI_clamp k31, ms_CR_r h hg.1]
          by_cases z : d = ms_R A k
          · rw [if_pos z] at es' hg'
            exact br_t (by rw [z]) (crs _ _ nz hg' es')
          · rw [if_neg z] at es' hg'
            exact br_f (fun y => z ((nI_eq (by omega) (by omega)).mp y)) ⟨by decide, nm_r (ms_half d (by omega)) (crs _ _ nz hg' es')⟩
        have key : ∀ i n' k d, i ≤ 32 → i < n' → ms_gd A s k d → ms_up A 32 (q / 16) (q % 16) = ms_up A i k d → wY_walk_150 post (wY_walk_79 post x (nI N) (nI D) (nI S) lv us fs rt sp ub pa pt g m v1 v2 v3 v4 v5 v6 v7 v8 v9 n) x (nI q) (nI (15 - j)) (ms_tk x (15 - j)) (nI N) (nI D) (nI S) lv us fs rt sp ub pa pt g m v1 v2 v3 v4 v5 v6 v7 v8 v9 n' (nI k) (nI d) (nI (32 - i)) := by
          intro i
          induction i with
          | zero =>
            intro n' k d _ hn hg hp
            cases n' with
            | zero => omega
            | succ n' => exact br_t (nI_le (b := 32) (Nat.le_refl _) (by omega)) (fin k d hg hp)
          | succ i ih2 =>
            intro n' k d hj hn hg hp
            cases n' with
            | zero => omega
            | succ n' =>
              have vk : vp_in (nI k) 32 := vp_in_nI hg.1 (by omega)
              have k31 : k < 2 ^ 31 := by have := hg.1; omega
              have hd := hg.2.2.2.1
              have hR := hF.2.1 k hg.1
              refine br_f (nI_ge (b := 32) (by omega) (by omega)) ⟨vk, ?_⟩
              rw [nI_clamp k31, ms_CR_r h hg.1, ms_CR_p h hg.1 hg.2.1, ms_CR_q h hg.1 hg.2.1]
              by_cases z : d = ms_R A k
              · refine br_t (by rw [z]) ⟨vk, ?_⟩
                by_cases y : ms_P A k < 32
                · have e : ms_up A (i + 1) k d = ms_up A i (ms_P A k) (ms_Q A k) := if_pos ⟨z, y⟩
                  rw [e] at hp
                  obtain ⟨b1, b2, b3, b4⟩ := hF.2.2.1 k hg.1 hg.2.1 y
                  refine br_f (fun w => (ms_c_neg.mp w) y) ⟨vk, nm_r (ms_c_lt (by omega)) ⟨vk, nm_r (ms_c_lt y) (nm_r (nI_1 _) ?_)⟩⟩
                  rw [show 32 - (i + 1) + 1 = 32 - i by omega]
                  exact ih2 n' _ _ (by omega) (by omega) ⟨y, b1, by rw [b2]; exact hg.2.2.1, b3, b4⟩ hp
                · have e : ms_up A (i + 1) k d = (k, d) := if_neg fun w => y w.2
                  rw [e] at hp
                  exact br_t (ms_c_neg.mpr y) (fin k d hg hp)
              · have e : ms_up A (i + 1) k d = (k, d) := if_neg fun w => z w.1
                rw [e] at hp
                exact br_f (fun y => z ((nI_eq (by omega) (by omega)).mp y)) (fin k d hg hp)
        exact ⟨33, key 32 33 _ _ (by omega) (by omega) hg rfl⟩
theorem my_walk (h : ms_CR e A us fs rt sp pa pt g m ub) (hF : ms_FI N lw rn A) (hN : N ≤ 32) (hD : D ≤ 15) {post : Int32 → Prop} {x : Int32} (hs : s < 4) (ls : lw s) (hp : post (ms_o (ms_wk N D A x 16 (ms_cr N A 32 (rn s) (ms_R A (rn s)))))) : wpY_walk post (nI N, nI D, nI S, lv, us, fs, rt, sp, ub, pa, pt, g, m, v1, v2, v3, v4, v5, v6, v7, v8, v9) (nI s) x := by
  obtain ⟨r1, r2, r3, r4, r5⟩ := hF.2.2.2.1 s hs ls
  have hR := hF.2.1 _ r1
  have g0 : ms_gd A s (rn s) (ms_R A (rn s)) := ⟨r1, r2, r3, hR, ms_un_r _ (by omega)⟩
  refine ms_lp (fun n i (y : Int32) => wY_walk_5 post (nI s) x (nI N) (nI D) (nI S) lv us fs rt sp ub pa pt g m v1 v2 v3 v4 v5 v6 v7 v8 v9 n y i) (fun i y => y = if rn s < i then nI (rn s) else -1) 32 (Nat.le_refl _) (-1) (by rw [if_neg (Nat.not_lt_zero _)]) (fun n y hI => ?_) (fun n i y hi ci vi ni hI go => ?_)
  · rw [if_pos r1] at hI
    subst hI
    refine br_t (nI_le (b := 32) (Nat.le_refl _) (by omega)) (br_t (nI_pos' (by omega)) ⟨vp_in_nI r1 (by omega), ?_⟩)
    rw [nI_clamp (by omega), ms_CR_r h r1, ms_ps]
    exact my_crs h hF hN g0 ⟨17, my_wk h hF hN hD 16 17 _ (by omega) (by omega) (ms_gd_cr hF hN 32 _ _ g0) hp⟩
  · have other : i ≠ rn s → ∀ z, z = nI i + 1 → wY_walk_5 post (nI s) x (nI N) (nI D) (nI S) lv us fs rt sp ub pa pt g m v1 v2 v3 v4 v5 v6 v7 v8 v9 n y z := fun ne => go y (by
      rw [hI]
      by_cases w : rn s < i
      · rw [if_pos w, if_pos (by omega)]
      · rw [if_neg w, if_neg (by omega)])
    refine br_f ni ⟨vi, ?_⟩
    rw [ci]
    have hu := ms_CR_u h hi
    refine br_c (fun z => other fun q => hu.mp z (q ▸ r2)) (fun z => ⟨vi, ?_⟩)
    have u : ms_U A i := Classical.byContradiction fun n => z (hu.mpr n)
    rw [ms_CR_s h hi, ms_CR_p h hi u]
    have s4 := (hF.1 i hi u).2.1
    refine br_c (fun z2 => ⟨vi, ?_⟩) (fun z2 => other fun q => z2 (by rw [q, r3]))
    have es := (nI_eq (by omega) (by omega)).mp z2
    refine br_c (fun z3 => go (nI i) ?_) (fun z3 => other fun q => z3 ?_)
    · have p32 : ms_P A i = 32 := by
        have := (hF.1 i hi u).2.2.2.1
        have := ms_c_m1.mp z3
        omega
      have := r5 i hi u es p32
      rw [if_pos (by omega), this]
    · rw [q, r4, ms_c_32]
end
end
section
/-! labels by the arrays; the component's spread and receivers -/
section
variable {e : Nat → Int32} {A : ms_AS} {us fs rt sp pa pt g m ub : Nat → Int32}
theorem ms_CR_gg (h : ms_CR e A us fs rt sp pa pt g m ub) (hE : ms_E e A) {i j : Nat} (hi : i < 32) (hj : j < 32) : g i = g j ↔ ms_G A i = ms_G A j := by
  rw [ms_CR_g h hi, ms_CR_g h hj]; exact ms_E_iff hE (ms_La_G hi) (ms_La_G hj)
theorem ms_CR_mg (h : ms_CR e A us fs rt sp pa pt g m ub) (hE : ms_E e A) (hL : ms_LI A) {i j : Nat} (hi : i < 32) (hj : j < 32) : m i = g j ↔ ms_M A i = ms_G A j := by
  rw [ms_CR_m h hi, ms_CR_g h hj]; exact ms_E_iff hE (ms_La_M hL hi) (ms_La_G hj)
theorem ms_CR_gz (h : ms_CR e A us fs rt sp pa pt g m ub) (hE : ms_E e A) (hL : ms_LI A) (he : e 32 = 0) {i : Nat} (hi : i < 32) : g i = 0 ↔ ¬ ms_G A i < 32 := by
  rw [ms_CR_g h hi, ← he, ms_E_iff hE (ms_La_G hi) (Or.inl rfl)]
  have := (hL.1 i hi).1
  omega
theorem ms_CR_gn (h : ms_CR ms_c A us fs rt sp pa pt g m ub) {i : Nat} (hi : i < 32) : g i < 0 ↔ ¬ ms_G A i < 32 := by rw [ms_CR_g h hi]; exact ms_c_neg
theorem ms_CR_gp (h : ms_CR ms_c A us fs rt sp pa pt g m ub) {i : Nat} (hi : i < 32) : 0 ≤ g i ↔ ms_G A i < 32 := by rw [ms_CR_g h hi]; exact ms_c_le
end
theorem ms_ws {w : Nat → Int32} {i k : Nat} : (¬ upd w i (vp_nar .boolean 1) k = 0) ↔ (¬ w k = 0 ∨ k = i) := by
  by_cases z : k = i
  · subst z
    rw [ms_us, ms_b1]
    exact ⟨fun _ => Or.inr rfl, fun _ => ms_10⟩
  · rw [ms_un' z]
    exact ⟨Or.inl, fun q => q.elim id fun q => absurd q z⟩
section
variable {N D S : Nat} {us fs rt sp pa pt g m ub lv rm w1 w2 w3 w4 w5 w6 w7 w8 w9 wa wb : Nat → Int32}
variable {A : ms_AS} {lw : Nat → Prop} {rn : Nat → Nat}
theorem mx_spf (h : ms_CR ms_c A us fs rt sp pa pt g m ub) (hF : ms_FI N lw rn A) (hL : ms_LI A) (hN : N ≤ 32) {post : SX → Prop} {p a : Nat} (ha : a < 32) (ga : ms_G A a < 32) {s0 : Nat → Prop} {Td : Nat → Nat → Prop}
    (hp : ms_PP (ms_Rs A) p N s0 Td (fun i => ¬ w1 i = 0)) (wa1 : ¬ w1 a = 0) (hq : ∀ w, ms_PP (ms_Rs A) p N s0 (fun x y => Td x y ∨ x = a) (fun i => ¬ w i = 0) → post (nI N, nI D, nI S, us, fs, rt, sp, pa, pt, g, m, ub, lv, rm, w, w2, w3, w4, w5, w6, w7, w8, w9, wa, wb)) : wpX_spreadFrom post (nI N, nI D, nI S, us, fs, rt, sp, pa, pt, g, m, ub, lv, rm, w1, w2, w3, w4, w5, w6, w7, w8, w9, wa, wb) (g a) := by
  have hE := ms_E_c hL
  refine ms_lp (fun n i (w : Nat → Int32) => wX_spreadFrom_2 post (g a) (nI N) (nI D) (nI S) n i us fs rt sp pa pt g m ub lv rm w w2 w3 w4 w5 w6 w7 w8 w9 wa wb) (fun i w => ms_PP (ms_Rs A) p N s0 (fun x y => Td x y ∨ (x = a ∧ y < i)) (fun k => ¬ w k = 0) ∧ ¬ w a = 0) N hN w1 ⟨ms_PP_k hp fun x y _ _ t _ _ => Or.inl (t.elim id fun q => absurd q.2 (Nat.not_lt_zero _)), wa1⟩ (fun n w hI => ?_) (fun n i w hi ci vi ni hI go => ?_)
  · refine br_t (nI_le (Nat.le_refl _) (by omega)) (hq w (ms_PP_k hI.1 fun x y hx hy t r _ => Or.inl ?_))
    rcases t with t | t
    · exact Or.inl t
    · exact Or.inr ⟨t, (hF.1 y hy (ms_Rs_U hL r)).1⟩
  · have add : ms_Rs A a i → ∀ w', w' = upd w i (vp_nar .boolean 1) → ∀ y, y = nI i + 1 → wX_spreadFrom_2 post (g a) (nI N) (nI D) (nI S) n y us fs rt sp pa pt g m ub lv rm w' w2 w3 w4 w5 w6 w7 w8 w9 wa wb := by
      intro r w' ew
      refine go w' ⟨ms_PP_a hI.1 ha hi hN hI.2 r (fun k _ => by rw [ew]; exact ms_ws) (fun x y hx hy t _ _ => ?_), ?_⟩
      · rcases t with t | ⟨t1, t2⟩
        · exact Or.inl (Or.inl t)
        · by_cases q : y = i
          · exact Or.inr (Or.inr q)
          · exact Or.inl (Or.inr ⟨t1, by omega⟩)
      · rw [ew]; exact ms_ws.mpr (Or.inl hI.2)
    refine br_f ni ⟨vi, ?_⟩
    rw [ci]
    refine br_c (fun z => ⟨vi, add ⟨ha, by omega, ga, Or.inl ((ms_CR_gg h hE (by omega) ha).mp z)⟩⟩) (fun z => ⟨vi, br_c (fun z2 => ⟨vi, add ⟨ha, by omega, ga, Or.inr ((ms_CR_mg h hE hL (by omega) ha).mp z2)⟩⟩) (fun z2 => go w ⟨ms_PP_k hI.1 fun x y hx hy t r _ => Or.inl ?_, hI.2⟩)⟩)
    rcases t with t | ⟨t1, t2⟩
    · exact Or.inl t
    · by_cases q : y = i
      · subst q t1
        exact absurd r.2.2.2 fun o => o.elim (fun o => z ((ms_CR_gg h hE hy hx).mpr o)) (fun o => z2 ((ms_CR_mg h hE hL hy hx).mpr o))
      · exact Or.inr ⟨t1, by omega⟩
theorem mx_msp (h : ms_CR ms_c A us fs rt sp pa pt g m ub) (hF : ms_FI N lw rn A) (hL : ms_LI A) (hN : N ≤ 32) {post : SX → Prop} {p : Nat} (hp : p < N)
    (hq : ∀ w, (∀ i, i < 32 → (¬ w i = 0 ↔ ms_Sp A p i)) → post (nI N, nI D, nI S, us, fs, rt, sp, pa, pt, g, m, ub, lv, rm, w, w2, w3, w4, w5, w6, w7, w8, w9, wa, wb)) : wpX_markSpread post (nI N, nI D, nI S, us, fs, rt, sp, pa, pt, g, m, ub, lv, rm, w1, w2, w3, w4, w5, w6, w7, w8, w9, wa, wb) (nI p) := by
  have outer : ∀ w : Nat → Int32, ms_PQ (ms_Rs A) p N 0 (fun i => ¬ w i = 0) → ∃ n, wX_markSpread_30 post n 0 (nI N) (nI D) (nI S) us fs rt sp pa pt g m ub lv rm w w2 w3 w4 w5 w6 w7 w8 w9 wa wb := by
    intro w hw
    refine ms_lp (fun n i (w : Nat → Int32) => wX_markSpread_30 post n i (nI N) (nI D) (nI S) us fs rt sp pa pt g m ub lv rm w w2 w3 w4 w5 w6 w7 w8 w9 wa wb) (fun i w => ms_PQ (ms_Rs A) p N i (fun i => ¬ w i = 0)) N hN w hw (fun n w hI => ?_) (fun n k w0 hk ck vk nk hI go => ?_)
    · exact br_t (nI_le (Nat.le_refl _) (by omega)) (hq w (ms_PQ_e (Nat.le_refl _) ms_Rs_32 hI))
    · refine br_f nk (ms_lp (fun n' i (w : Nat → Int32) => wX_markSpread_40 post (wX_markSpread_30 post n) (nI k) n' i (nI N) (nI D) (nI S) us fs rt sp pa pt g m ub lv rm w w2 w3 w4 w5 w6 w7 w8 w9 wa wb) (fun i w => ms_PP (ms_Rs A) p N (fun i => ¬ w0 i = 0) (fun x _ => x < i) (fun i => ¬ w i = 0)) N hN w0 (ms_PP_k (ms_PP_0 hI.2.1) fun x _ _ _ t _ _ => absurd t (Nat.not_lt_zero _)) (fun n' w hJ => ?_) (fun n' i w hi ci vi ni hJ go2 => ?_))
      · refine br_t (nI_le (Nat.le_refl _) (by omega)) (go w (ms_PQ_s hN hp ms_Rs_32 hI hJ fun a b ha hb r sa => ?_))
        by_cases q : a < N
        · exact Or.inl q
        · exact absurd (hF.1 a ha (Classical.byContradiction fun u => absurd r.2.2.1 (by have := (hL.2.1 a ha u).1; omega))).1 q
      · refine br_f ni ⟨vi, ?_⟩
        rw [ci]
        have skip : (∀ y, ms_Rs A i y → ¬ w i = 0 → False) → ms_PP (ms_Rs A) p N (fun i => ¬ w0 i = 0) (fun x _ => x < i + 1) (fun i => ¬ w i = 0) := fun no =>
          ms_PP_k hJ fun x y hx hy t r sx => Or.inl (by
            by_cases q : x = i
            · subst q; exact (no y r sx).elim
            · omega)
        refine br_c (fun z => go2 w (skip fun y _ q => q z)) (fun z => ⟨vi, br_c (fun z2 => go2 w (skip fun y r _ => ?_)) (fun z2 => ⟨vi, ?_⟩)⟩)
        · exact (ms_CR_gn h (by omega)).mp z2 r.2.2.1
        · have gi : ms_G A i < 32 := Classical.byContradiction fun q => z2 ((ms_CR_gn h (by omega)).mpr q)
          refine mx_spf h hF hL hN (by omega) gi hJ z (fun w' hK => go2 w' (ms_PP_k hK fun x y hx hy t r _ => Or.inl ?_))
          by_cases q : x = i
          · exact Or.inr q
          · exact Or.inl (by omega)
  refine ms_lp (fun n i (w : Nat → Int32) => wX_markSpread_2 post (nI p) (nI N) (nI D) (nI S) n i us fs rt sp pa pt g m ub lv rm w w2 w3 w4 w5 w6 w7 w8 w9 wa wb) (fun i w => ∀ j, j < i → w j = 0) 32 (Nat.le_refl _) w1 lt_0 (fun n w hI => ?_) (fun n i w hi ci vi ni hI go => ?_)
  · refine br_t (nI_le (b := 32) (Nat.le_refl _) (by omega)) ⟨vp_in_nI (by omega) (by omega), ?_⟩
    rw [nI_clamp (by omega)]
    refine nm_e (outer _ (ms_PQ_0 (ms_ws.mpr (Or.inr rfl)) hp fun i hi z => ?_))
    rcases ms_ws.mp z with q | q
    · exact absurd (hI i hi) q
    · rw [q]; exact ms_Cl_r
  · refine br_f ni ⟨vi, ?_⟩
    rw [ci]
    refine nm_e (go _ (lt_s (fun j hj => ?_) ?_))
    · rw [ms_un' (by omega)]; exact hI j hj
    · rw [ms_us, ms_b0]
theorem mx_fre (h : ms_CR ms_c A us fs rt sp pa pt g m ub) (hF : ms_FI N lw rn A) (hL : ms_LI A) (hN : N ≤ 32) {post : Int32 → SX → Prop} {p d : Nat} (hp : p < N) (hd : d < 16)
    (hq : ∀ w r og om, (∀ i, i < 32 → (¬ r i = 0 ↔ ms_Rc A p d i) ∧ og i = g i ∧ om i = m i) → post (nI (ms_cn (ms_Rc A p d) 32)) (nI N, nI D, nI S, us, fs, rt, sp, pa, pt, g, m, ub, lv, rm, w, r, w3, w4, w5, w6, og, om, w9, wa, wb)) : wpX_findReceivers post (nI N, nI D, nI S, us, fs, rt, sp, pa, pt, g, m, ub, lv, rm, w1, w2, w3, w4, w5, w6, w7, w8, w9, wa, wb) (nI p) (nI d) := by
  refine mx_msp h hF hL hN hp fun w hw => ?_
  refine ms_lp (fun n i (s : Int32 × (Nat → Int32) × (Nat → Int32) × (Nat → Int32)) => wX_findReceivers_10 post (nI d) (nI N) (nI D) (nI S) n s.1 i us fs rt sp pa pt g m ub lv rm w s.2.1 w3 w4 w5 w6 s.2.2.1 s.2.2.2 w9 wa wb) (fun i s => s.1 = nI (ms_cn (ms_Rc A p d) i) ∧ ∀ j, j < i → (¬ s.2.1 j = 0 ↔ ms_Rc A p d j) ∧ s.2.2.1 j = g j ∧ s.2.2.2 j = m j) 32 (Nat.le_refl _) (0, w2, w7, w8) ⟨rfl, lt_0⟩ (fun n s hI => ?_) (fun n i s hi ci vi ni hI go => ?_)
  · rw [hI.1]
    exact br_t (nI_le (b := 32) (Nat.le_refl _) (by omega)) (hq _ _ _ _ hI.2)
  · obtain ⟨c, r, og, om⟩ := s
    obtain ⟨ec, hI⟩ := hI
    dsimp only at ec hI ⊢
    subst ec
    have R16 := hF.2.1 i hi
    have fin : ∀ z0 : Int32, (z0 = 0 ∧ ¬ ms_Rc A p d i) ∨ (z0 = 1 ∧ ms_Rc A p d i) → wX_findReceivers_81 post (wX_findReceivers_10 post (nI d) (nI N) (nI D) (nI S) n) (nI d) (nI (ms_cn (ms_Rc A p d) i)) (nI i) z0 (nI i) (nI N) (nI D) (nI S) us fs rt sp pa pt g m ub lv rm w r w3 w4 w5 w6 (upd og i (g i)) (upd om i (m i)) w9 wa wb := by
      intro z0 hz
      refine ⟨vi, ?_⟩
      rw [ci]
      refine nm_e ⟨vi, ?_⟩
      rw [ms_us]
      have keep : ∀ v, (¬ v = 0 ↔ ms_Rc A p d i) → ∀ j, j < i + 1 → (¬ upd r i v j = 0 ↔ ms_Rc A p d j) ∧ upd og i (g i) j = g j ∧ upd om i (m i) j = m j := by
        intro v hv
        refine lt_s (fun j hj => ?_) ?_
        · rw [ms_un' (by omega), ms_un' (by omega), ms_un' (by omega)]; exact hI j hj
        · rw [ms_us, ms_us, ms_us]; exact ⟨hv, rfl, rfl⟩
      rcases hz with ⟨e, no⟩ | ⟨e, yes⟩
      · subst e
        rw [ms_b0]
        exact br_t rfl (go (nI (ms_cn (ms_Rc A p d) i), upd r i 0, upd og i (g i), upd om i (m i)) ⟨by rw [ms_cn_sf no], keep 0 ⟨fun q => absurd rfl q, fun q => absurd q no⟩⟩)
      · subst e
        rw [ms_b1]
        refine br_f ms_10 (nm_r (nI_1 _) (go (nI (ms_cn (ms_Rc A p d) i + 1), upd r i 1, upd og i (g i), upd om i (m i)) ⟨by rw [ms_cn_st yes], keep 1 ⟨fun _ => yes, fun _ => ms_10⟩⟩))
    refine br_f ni ⟨vi, vi, ?_⟩
    rw [ci]
    refine nm_e ⟨vi, vi, nm_e ⟨vi, br_c (fun z => ?_) (fun z => ⟨vi, ?_⟩)⟩⟩
    · exact fin 0 (Or.inl ⟨rfl, fun q => (hw i hi).mpr q.1 z⟩)
    · rw [ms_CR_r h hi]
      have hs := (hw i hi).mp z
      refine mx_und hd (by omega) ?_
      by_cases u : ms_ua (ms_R A i) 15 d = ms_R A i
      · rw [if_pos u]
        exact br_f ms_10 (fin 1 (Or.inr ⟨rfl, hs, u⟩))
      · rw [if_neg u]
        exact br_t rfl (fin 0 (Or.inl ⟨rfl, fun q => u q.2⟩))
end
end
section
/-! the reference's spread and receivers -/
section
variable {N D S : Nat} {lv us fs rt sp ub pa pt g m v1 v2 v3 v4 v5 v6 v7 v8 v9 : Nat → Int32}
variable {e : Nat → Int32} {A : ms_AS} {lw : Nat → Prop} {rn : Nat → Nat}
theorem my_msp (h : ms_CR e A us fs rt sp pa pt g m ub) (hE : ms_E e A) (he : e 32 = 0) (hF : ms_FI N lw rn A) (hL : ms_LI A) (hN : N ≤ 32) {post : SY → Prop} {p : Nat} (hp : p < N)
    (hq : ∀ w, (∀ i, i < 32 → (¬ w i = 0 ↔ ms_Sp A p i)) → post (nI N, nI D, nI S, lv, us, fs, rt, sp, ub, pa, pt, g, m, w, v2, v3, v4, v5, v6, v7, v8, v9)) : wpY_spread post (nI N, nI D, nI S, lv, us, fs, rt, sp, ub, pa, pt, g, m, v1, v2, v3, v4, v5, v6, v7, v8, v9) (nI p) := by
  have outer : ∀ w : Nat → Int32, ms_PQ (ms_Rs A) p N 0 (fun i => ¬ w i = 0) → ∃ n, wY_spread_32 post (nI N) (nI D) (nI S) n 0 lv us fs rt sp ub pa pt g m w v2 v3 v4 v5 v6 v7 v8 v9 := by
    intro w hw
    refine ms_lp (fun n i (w : Nat → Int32) => wY_spread_32 post (nI N) (nI D) (nI S) n i lv us fs rt sp ub pa pt g m w v2 v3 v4 v5 v6 v7 v8 v9) (fun i w => ms_PQ (ms_Rs A) p N i (fun i => ¬ w i = 0)) 32 (Nat.le_refl _) w hw (fun n w hI => ?_) (fun n k w0 hk ck vk nk hI go => ?_)
    · exact br_t (nI_le (b := 32) (Nat.le_refl _) (by omega)) (hq w (ms_PQ_e hN ms_Rs_32 hI))
    · refine br_f nk (ms_lp (fun n' i (w : Nat → Int32) => wY_spread_40 post (wY_spread_32 post (nI N) (nI D) (nI S) n) (nI k) (nI N) (nI D) (nI S) n' i lv us fs rt sp ub pa pt g m w v2 v3 v4 v5 v6 v7 v8 v9) (fun i w => ms_PP (ms_Rs A) p N (fun i => ¬ w0 i = 0) (fun x _ => x < i) (fun i => ¬ w i = 0)) 32 (Nat.le_refl _) w0 (ms_PP_k (ms_PP_0 hI.2.1) fun x _ _ _ t _ _ => absurd t (Nat.not_lt_zero _)) (fun n' w hJ => ?_) (fun n' a w1 ha ca va na hJ go2 => ?_))
      · exact br_t (nI_le (b := 32) (Nat.le_refl _) (by omega)) (go w (ms_PQ_s hN hp ms_Rs_32 hI hJ fun a b ha hb r sa => Or.inl ha))
      · -- one s: a; the inner loop asks again whether a is in the spread
        refine br_f na (ms_lp (fun n'' i (w : Nat → Int32) => wY_spread_49 post (wY_spread_32 post (nI N) (nI D) (nI S) n) (wY_spread_40 post (wY_spread_32 post (nI N) (nI D) (nI S) n) (nI k) (nI N) (nI D) (nI S) n') (nI k) (nI a) (nI N) (nI D) (nI S) n'' i lv us fs rt sp ub pa pt g m w v2 v3 v4 v5 v6 v7 v8 v9) (fun i w => ms_PP (ms_Rs A) p N (fun i => ¬ w0 i = 0) (fun x y => x < a ∨ (x = a ∧ y < i)) (fun i => ¬ w i = 0)) 32 (Nat.le_refl _) w1 (ms_PP_k hJ fun x y _ _ t _ _ => Or.inl (t.elim id fun q => absurd q.2 (Nat.not_lt_zero _))) (fun n'' w hK => ?_) (fun n'' i w hi ci vi ni hK go3 => ?_))
        · refine br_t (nI_le (b := 32) (Nat.le_refl _) (by omega)) (go2 w (ms_PP_k hK fun x y hx hy t r _ => Or.inl ?_))
          by_cases q : x = a
          · exact Or.inr ⟨q, hy⟩
          · exact Or.inl (by omega)
        · have skip : (∀ y, ms_Rs A a y → ¬ w a = 0 → False) → ms_PP (ms_Rs A) p N (fun i => ¬ w0 i = 0) (fun x _ => x < a + 1) (fun i => ¬ w i = 0) := fun no =>
            ms_PP_k hK fun x y hx hy t r sx => Or.inl (by
              by_cases q : x = a
              · subst q; exact (no y r sx).elim
              · exact Or.inl (by omega))
          refine br_f ni ⟨va, ?_⟩
          rw [ca]
          refine br_c (fun z => go2 w (skip fun y _ q => q z)) (fun z => ⟨va, br_c (fun z2 => go2 w (skip fun y r _ => (ms_CR_gz h hE hL he ha).mp z2 r.2.2.1)) (fun z2 => ⟨vi, va, ?_⟩)⟩)
          have ga : ms_G A a < 32 := Classical.byContradiction fun q => z2 ((ms_CR_gz h hE hL he ha).mpr q)
          have add : ms_Rs A a i → ∀ w', w' = upd w i (vp_nar .boolean 1) → ∀ y, y = nI i + 1 → wY_spread_49 post (wY_spread_32 post (nI N) (nI D) (nI S) n) (wY_spread_40 post (wY_spread_32 post (nI N) (nI D) (nI S) n) (nI k) (nI N) (nI D) (nI S) n') (nI k) (nI a) (nI N) (nI D) (nI S) n'' y lv us fs rt sp ub pa pt g m w' v2 v3 v4 v5 v6 v7 v8 v9 := by
            intro r w' ew
            refine go3 w' (ms_PP_a hK ha (hF.1 i hi (ms_Rs_U hL r)).1 hN z r (fun k _ => by rw [ew]; exact ms_ws) (fun x y hx hy t _ _ => ?_))
            rcases t with t | ⟨t1, t2⟩
            · exact Or.inl (Or.inl t)
            · by_cases q : y = i
              · exact Or.inr (Or.inr q)
              · exact Or.inl (Or.inr ⟨t1, by omega⟩)
          rw [ci]
          refine br_c (fun z => ⟨vi, add ⟨ha, hi, ga, Or.inl ((ms_CR_gg h hE hi ha).mp z)⟩⟩) (fun z => ⟨vi, va, br_c (fun z2 => ⟨vi, add ⟨ha, hi, ga, Or.inr ((ms_CR_mg h hE hL hi ha).mp z2)⟩⟩) (fun z2 => go3 w (ms_PP_k hK fun x y hx hy t r _ => Or.inl ?_))⟩)
          rcases t with t | ⟨t1, t2⟩
          · exact Or.inl t
          · by_cases q : y = i
            · subst q t1
              exact absurd r.2.2.2 fun o => o.elim (fun o => z ((ms_CR_gg h hE hy hx).mpr o)) (fun o => z2 ((ms_CR_mg h hE hL hy hx).mpr o))
            · exact Or.inr ⟨t1, by omega⟩
  refine ms_lp (fun n i (w : Nat → Int32) => wY_spread_2 post (nI p) (nI N) (nI D) (nI S) n i lv us fs rt sp ub pa pt g m w v2 v3 v4 v5 v6 v7 v8 v9) (fun i w => ∀ j, j < i → (¬ w j = 0 ↔ j = p)) 32 (Nat.le_refl _) v1 lt_0 (fun n w hI => ?_) (fun n i w hi ci vi ni hI go => ?_)
  · refine br_t (nI_le (b := 32) (Nat.le_refl _) (by omega)) (outer _ (ms_PQ_0 ((hI p (by omega)).mpr rfl) hp fun i hi z => ?_))
    rw [(hI i hi).mp z]; exact ms_Cl_r
  · refine br_f ni (br_c (fun z => ⟨vi, ?_⟩) (fun z => ⟨vi, ?_⟩))
    · rw [ci]
      have ei := (nI_eq (by omega) (by omega)).mp z
      refine nm_e (go _ (lt_s (fun j hj => ?_) ?_))
      · rw [ms_un' (by omega)]; exact hI j hj
      · rw [ms_us, ms_b1]; exact ⟨fun _ => ei, fun _ => ms_10⟩
    · rw [ci]
      refine nm_e (go _ (lt_s (fun j hj => ?_) ?_))
      · rw [ms_un' (by omega)]; exact hI j hj
      · rw [ms_us, ms_b0]; exact ⟨fun q => absurd rfl q, fun q => absurd (by rw [q]) z⟩
theorem my_fre (h : ms_CR e A us fs rt sp pa pt g m ub) (hE : ms_E e A) (he : e 32 = 0) (hF : ms_FI N lw rn A) (hL : ms_LI A) (hN : N ≤ 32) {post : Int32 → SY → Prop} {p d : Nat} (hp : p < N) (hd : d < 16)
    (hq : ∀ w r og om, (∀ i, i < 32 → (¬ r i = 0 ↔ ms_Rc A p d i) ∧ og i = g i ∧ om i = m i) → post (nI (ms_cn (ms_Rc A p d) 32)) (nI N, nI D, nI S, lv, us, fs, rt, sp, ub, pa, pt, g, m, w, r, v3, og, om, v6, v7, v8, v9)) : wpY_receivers post (nI N, nI D, nI S, lv, us, fs, rt, sp, ub, pa, pt, g, m, v1, v2, v3, v4, v5, v6, v7, v8, v9) (nI p) (nI d) := by
  refine my_msp h hE he hF hL hN hp fun w hw => ?_
  refine ms_lp (fun n i (s : Int32 × (Nat → Int32) × (Nat → Int32) × (Nat → Int32)) => wY_receivers_10 post (nI d) (nI N) (nI D) (nI S) n s.1 i lv us fs rt sp ub pa pt g m w s.2.1 v3 s.2.2.1 s.2.2.2 v6 v7 v8 v9) (fun i s => s.1 = nI (ms_cn (ms_Rc A p d) i) ∧ ∀ j, j < i → (¬ s.2.1 j = 0 ↔ ms_Rc A p d j) ∧ s.2.2.1 j = g j ∧ s.2.2.2 j = m j) 32 (Nat.le_refl _) (0, v2, v4, v5) ⟨rfl, lt_0⟩ (fun n s hI => ?_) (fun n i s hi ci vi ni hI go => ?_)
  · rw [hI.1]
    exact br_t (nI_le (b := 32) (Nat.le_refl _) (by omega)) (hq _ _ _ _ hI.2)
  · obtain ⟨c, r, og, om⟩ := s
    obtain ⟨ec, hI⟩ := hI
    dsimp only at ec hI ⊢
    subst ec
    have R16 := hF.2.1 i hi
    have last : ∀ v c', (¬ v = 0 ↔ ms_Rc A p d i) → c' = nI (ms_cn (ms_Rc A p d) (i + 1)) → wY_receivers_67 post (wY_receivers_10 post (nI d) (nI N) (nI D) (nI S) n) (nI d) c' (nI i) (nI N) (nI D) (nI S) lv us fs rt sp ub pa pt g m w (upd r i v) v3 og om v6 v7 v8 v9 := by
      intro v c' hv ec
      refine ⟨vi, vi, ?_⟩
      rw [ci]
      refine nm_e ⟨vi, vi, nm_e (go (c', upd r i v, upd og i (g i), upd om i (m i)) ⟨ec, lt_s (fun j hj => ?_) ?_⟩)⟩
      · dsimp only; rw [ms_un' (by omega), ms_un' (by omega), ms_un' (by omega)]; exact hI j hj
      · dsimp only; rw [ms_us, ms_us, ms_us]; exact ⟨hv, rfl, rfl⟩
    have fin : ∀ z0 : Int32, (z0 = 0 ∧ ¬ ms_Rc A p d i) ∨ (z0 = 1 ∧ ms_Rc A p d i) → wY_receivers_53 post (wY_receivers_10 post (nI d) (nI N) (nI D) (nI S) n) (nI d) (nI (ms_cn (ms_Rc A p d) i)) (nI i) z0 (nI i) (nI N) (nI D) (nI S) lv us fs rt sp ub pa pt g m w r v3 og om v6 v7 v8 v9 := by
      intro z0 hz
      refine ⟨vi, ?_⟩
      rw [ci]
      refine nm_e ⟨vi, ?_⟩
      rw [ms_us]
      rcases hz with ⟨e, no⟩ | ⟨e, yes⟩
      · subst e
        rw [ms_b0]
        exact br_t rfl (last 0 _ ⟨fun q => absurd rfl q, fun q => absurd q no⟩ (by rw [ms_cn_sf no]))
      · subst e
        rw [ms_b1]
        exact br_f ms_10 (nm_r (nI_1 _) (last 1 _ ⟨fun _ => yes, fun _ => ms_10⟩ (by rw [ms_cn_st yes])))
    refine br_f ni ⟨vi, ?_⟩
    rw [ci]
    refine br_c (fun z => fin 0 (Or.inl ⟨rfl, fun q => (hw i hi).mpr q.1 z⟩)) (fun z => ⟨vi, ?_⟩)
    rw [ms_CR_r h hi]
    have hs := (hw i hi).mp z
    refine my_und hd (by omega) ?_
    by_cases u : ms_ua (ms_R A i) 15 d = ms_R A i
    · rw [if_pos u]
      exact br_f ms_10 (fin 1 (Or.inr ⟨rfl, hs, u⟩))
    · rw [if_neg u]
      exact br_t rfl (fin 0 (Or.inl ⟨rfl, fun q => u q.2⟩))
end
end
section
/-! trees on both sides -/
theorem ms_cn_one {t N : Nat} (h : t < N) : ms_cn (fun i => i = t) N = 1 := by
  have a := ms_cn_add (P := fun _ => False) (a := t) (N := N) (fun z => z) h
  rw [ms_cn_no (P := fun _ => False) (fun _ _ z => z)] at a
  rw [ms_cn_eq (Q := fun k => False ∨ k = t) (fun k _ => ⟨Or.inr, fun z => z.elim False.elim id⟩)]
  exact a
/-- the guard of a deep bind of (k, d) -/
def ms_Wb (A : ms_AS) (k d b : Nat) : Prop := ms_B A b = 0 ∧ (ms_P A b = k → ms_un (ms_Q A b) d)
theorem ms_Rt_32 {A : ms_AS} {W : Nat → Prop} : ∀ a b, ms_Rt A W a b → a < 32 ∧ b < 32 := fun _ _ h => ⟨h.1, h.2.1⟩
section
variable {N D S : Nat} {us fs rt sp pa pt g m ub lv rm w1 w2 w3 w4 w5 w6 w7 w8 w9 wa wb : Nat → Int32}
variable {A : ms_AS} {lw : Nat → Prop} {rn : Nat → Nat}
theorem mx_cls {post : SX → Prop} (hq : ∀ w, (∀ i, i < 32 → w i = 0) → post (nI N, nI D, nI S, us, fs, rt, sp, pa, pt, g, m, ub, lv, rm, w1, w2, w3, w4, w, w6, w7, w8, w9, wa, wb)) : wpX_clearSet post (nI N, nI D, nI S, us, fs, rt, sp, pa, pt, g, m, ub, lv, rm, w1, w2, w3, w4, w5, w6, w7, w8, w9, wa, wb) := by
  refine ms_lp (fun n i (w : Nat → Int32) => wX_clearSet_2 post (nI N) (nI D) (nI S) n i us fs rt sp pa pt g m ub lv rm w1 w2 w3 w4 w w6 w7 w8 w9 wa wb) (fun i w => ∀ j, j < i → w j = 0) 32 (Nat.le_refl _) w5 lt_0 (fun n w hI => br_t (nI_le (b := 32) (Nat.le_refl _) (by omega)) (hq w hI)) (fun n i w hi ci vi ni hI go => ?_)
  refine br_f ni ⟨vi, ?_⟩
  rw [ci]
  refine nm_e (go _ (lt_s (fun j hj => ?_) ?_))
  · rw [ms_un' (by omega)]; exact hI j hj
  · rw [ms_us, ms_b0]
theorem mx_mtr (h : ms_CR ms_c A us fs rt sp pa pt g m ub) (hF : ms_FI N lw rn A) (hN : N ≤ 32) {post : Int32 → SX → Prop} {t : Nat} (ht : t < N)
    (hq : ∀ w, (∀ i, i < 32 → (¬ w i = 0 ↔ ms_Cl (ms_Rt A (fun _ => True)) t i)) → post (nI (ms_cn (ms_Cl (ms_Rt A (fun _ => True)) t) N)) (nI N, nI D, nI S, us, fs, rt, sp, pa, pt, g, m, ub, lv, rm, w1, w2, w3, w4, w, w6, w7, w8, w9, wa, wb)) : wpX_markTree post (nI N, nI D, nI S, us, fs, rt, sp, pa, pt, g, m, ub, lv, rm, w1, w2, w3, w4, w5, w6, w7, w8, w9, wa, wb) (nI t) := by
  refine mx_cls fun w hw => ⟨vp_in_nI (by omega) (by omega), ?_⟩
  rw [nI_clamp (by omega)]
  refine nm_e ?_
  have start : ∀ i, i < 32 → (¬ upd w t (vp_nar .boolean 1) i = 0 ↔ i = t) := fun i hi => ms_ws.trans ⟨fun z => z.elim (fun z => absurd (hw i hi) z) id, Or.inr⟩
  refine ms_lp (fun n k (s : Int32 × (Nat → Int32)) => wX_markTree_15 post (nI N) (nI D) (nI S) n s.1 k us fs rt sp pa pt g m ub lv rm w1 w2 w3 w4 s.2 w6 w7 w8 w9 wa wb) (fun k s => s.1 = nI (ms_cn (fun i => ¬ s.2 i = 0) N) ∧ ms_PQ (ms_Rt A (fun _ => True)) t N k (fun i => ¬ s.2 i = 0)) N hN (1, upd w t (vp_nar .boolean 1)) ⟨?_, ?_⟩ (fun n s hI => ?_) (fun n k s0 hk ck vk nk hI go => ?_)
  · dsimp only
    rw [ms_cn_eq (Q := fun i => i = t) fun i hi => start i (by omega), ms_cn_one ht]
    rfl
  · exact ms_PQ_0 ((start t (by omega)).mpr rfl) ht fun i hi z => by rw [(start i hi).mp z]; exact ms_Cl_r
  · have e := ms_PQ_e (Nat.le_refl _) ms_Rt_32 hI.2
    rw [hI.1, ms_cn_eq (Q := ms_Cl (ms_Rt A (fun _ => True)) t) fun i hi => e i (by omega)]
    exact br_t (nI_le (Nat.le_refl _) (by omega)) (hq s.2 e)
  · refine br_f nk (ms_lp (fun n' i (s : Int32 × (Nat → Int32)) => wX_markTree_26 post (wX_markTree_15 post (nI N) (nI D) (nI S) n) (nI k) (nI N) (nI D) (nI S) n' s.1 i us fs rt sp pa pt g m ub lv rm w1 w2 w3 w4 s.2 w6 w7 w8 w9 wa wb) (fun i s => s.1 = nI (ms_cn (fun i => ¬ s.2 i = 0) N) ∧ ms_PP (ms_Rt A (fun _ => True)) t N (fun i => ¬ s0.2 i = 0) (fun _ y => y < i) (fun i => ¬ s.2 i = 0)) N hN s0 ⟨hI.1, ms_PP_k (ms_PP_0 hI.2.2.1) fun x _ _ _ t _ _ => absurd t (Nat.not_lt_zero _)⟩ (fun n' s hJ => ?_) (fun n' i s hi ci vi ni hJ go2 => ?_))
    · refine br_t (nI_le (Nat.le_refl _) (by omega)) (go s ⟨hJ.1, ms_PQ_s hN ht ms_Rt_32 hI.2 hJ.2 fun a b ha hb r sa => Or.inl (hF.1 b hb r.2.2.1).1⟩)
    · obtain ⟨c, w⟩ := s
      obtain ⟨ec, hJ⟩ := hJ
      dsimp only at ec hJ ⊢
      have skip : (∀ x, ms_Rt A (fun _ => True) x i → ¬ w x = 0 → ¬ w i = 0) → ∀ y, y = nI i + 1 → wX_markTree_26 post (wX_markTree_15 post (nI N) (nI D) (nI S) n) (nI k) (nI N) (nI D) (nI S) n' c y us fs rt sp pa pt g m ub lv rm w1 w2 w3 w4 w w6 w7 w8 w9 wa wb := fun no => go2 (c, w) ⟨ec, ms_PP_k hJ fun x y hx hy t r sx => by
        by_cases q : y = i
        · subst q; exact Or.inr (no x r sx)
        · exact Or.inl (by omega)⟩
      have hu := ms_CR_u h (i := i) (by omega)
      refine br_f ni ⟨vi, ?_⟩
      rw [ci]
      refine br_c (fun z => skip fun x r _ => absurd r.2.2.1 (hu.mp z)) (fun z => ⟨vi, br_c (fun z2 => ⟨vi, ?_⟩) (fun z2 => skip fun _ _ _ => z2)⟩)
      have u : ms_U A i := Classical.byContradiction fun n => z (hu.mpr n)
      rw [ms_CR_p h (by omega) u]
      refine br_c (fun z3 => skip fun x r _ => absurd r.1 (by rw [← r.2.2.2.1]; exact ms_c_neg.mp z3)) (fun z3 => ?_)
      have p32 : ms_P A i < 32 := Classical.byContradiction fun n => z3 (ms_c_neg.mpr n)
      refine ⟨vi, ms_c_in p32, ?_⟩
      rw [ms_c_cl p32]
      refine br_c (fun z4 => skip fun x r sx => absurd z4 (by rw [r.2.2.2.1]; exact sx)) (fun z4 => ⟨vi, ?_⟩)
      rw [ec]
      refine nm_e (nm_r (nI_1 _) (go2 (nI (ms_cn (fun i => ¬ w i = 0) N + 1), upd w i (vp_nar .boolean 1)) ⟨?_, ?_⟩))
      · dsimp only
        rw [ms_cn_eq (P := fun k => ¬ upd w i (vp_nar .boolean 1) k = 0) (Q := fun k => ¬ w k = 0 ∨ k = i) fun k _ => ms_ws, ms_cn_add (P := fun k => ¬ w k = 0) (fun q => q z2) hi]
      · refine ms_PP_a hJ p32 hi hN z4 ⟨p32, by omega, u, rfl, trivial⟩ (fun k _ => ms_ws) (fun x y hx hy t _ _ => ?_)
        by_cases q : y = i
        · exact Or.inr (Or.inr q)
        · exact Or.inl (by omega)
theorem mx_joi (h : ms_CR ms_c A us fs rt sp pa pt g m ub) (hF : ms_FI N lw rn A) {post : Int32 → Prop} {x k d : Nat} (hx : x < 32) (hk : k < 32) (hd : d < 16) (h1 : ms_U A x → ms_P A x < 32 → ms_Wb A k d x → ¬ w4 (ms_P A x) = 0 → post 1) (h0 : ¬ (ms_U A x ∧ ms_P A x < 32 ∧ ms_Wb A k d x ∧ ¬ w4 (ms_P A x) = 0) → post 0) : wpX_joinsBind post (nI N, nI D, nI S, us, fs, rt, sp, pa, pt, g, m, ub, lv, rm, w1, w2, w3, w4, w5, w6, w7, w8, w9, wa, wb) (nI x) (nI k) (nI d) := by
  have vx : vp_in (nI x) 32 := vp_in_nI hx (by omega)
  have cx : (nI x).toNatClampNeg = x := nI_clamp (by omega)
  have hu := ms_CR_u h hx
  refine ⟨vx, ?_⟩
  rw [cx]
  refine br_c (fun z => h0 fun q => hu.mp z q.1) (fun z => ⟨vx, ?_⟩)
  have u : ms_U A x := Classical.byContradiction fun n => z (hu.mpr n)
  rw [ms_CR_b h hx, ms_CR_p h hx u, ms_CR_q h hx u]
  refine br_c (fun z2 => ⟨vx, br_c (fun z3 => ?_) (fun z3 => h0 fun q => z3 (ms_c_le.mpr q.2.1))⟩) (fun z2 => h0 fun q => z2 q.2.2.1.1)
  have p32 := ms_c_le.mp z3
  refine ⟨vx, ms_c_in p32, ?_⟩
  rw [ms_c_cl p32]
  refine br_c (fun z4 => h0 fun q => q.2.2.2 z4) (fun z4 => ⟨vx, br_c (fun z5 => ⟨vx, ?_⟩) (fun z5 => h1 u p32 ⟨z2, fun e => absurd ((ms_c_eq hk).mpr e) z5⟩ z4)⟩)
  obtain ⟨_, _, q15, _⟩ := hF.2.2.1 x hx u p32
  rw [ms_c_lt (n := ms_Q A x) (by omega)]
  refine mx_und (by omega) hd ?_
  by_cases w : ms_ua d 15 (ms_Q A x) = d
  · rw [if_pos w]
    exact br_f ms_10 (h1 u p32 ⟨z2, fun _ => w⟩ z4)
  · rw [if_neg w]
    exact br_t rfl (h0 fun q => w (q.2.2.1.2 ((ms_c_eq hk).mp z5)))
theorem mx_sfb (h : ms_CR ms_c A us fs rt sp pa pt g m ub) (hF : ms_FI N lw rn A) (hN : N ≤ 32) {post : Int32 → SX → Prop} {k d : Nat} (hk : k < N) (hd : d < 16) {dp : Int32}
    (hq : ∀ w, (∀ i, i < 32 → (¬ w i = 0 ↔ (i = k ∨ (¬ dp = 0 ∧ ms_Cl (ms_Rt A (ms_Wb A k d)) k i)))) → post (nI (ms_cn (fun i => i = k ∨ (¬ dp = 0 ∧ ms_Cl (ms_Rt A (ms_Wb A k d)) k i)) N)) (nI N, nI D, nI S, us, fs, rt, sp, pa, pt, g, m, ub, lv, rm, w1, w2, w3, w, w5, w6, w7, w8, w9, wa, wb)) : wpX_selectForBind post (nI N, nI D, nI S, us, fs, rt, sp, pa, pt, g, m, ub, lv, rm, w1, w2, w3, w4, w5, w6, w7, w8, w9, wa, wb) (nI k) (nI d) dp := by
  have outer : ∀ w : Nat → Int32, (∀ i, i < 32 → (¬ w i = 0 ↔ i = k)) → ∃ n, wX_selectForBind_37 post (nI k) (nI d) dp (nI N) (nI D) (nI S) n 1 0 us fs rt sp pa pt g m ub lv rm w1 w2 w3 w w5 w6 w7 w8 w9 wa wb := by
    intro w start
    refine ms_lp (fun n j (s : Int32 × (Nat → Int32)) => wX_selectForBind_37 post (nI k) (nI d) dp (nI N) (nI D) (nI S) n s.1 j us fs rt sp pa pt g m ub lv rm w1 w2 w3 s.2 w5 w6 w7 w8 w9 wa wb) (fun j s => s.1 = nI (ms_cn (fun i => ¬ s.2 i = 0) N) ∧ ms_PQ (ms_Rt A (ms_Wb A k d)) k N j (fun i => ¬ s.2 i = 0) ∧ (dp = 0 → ∀ i, i < 32 → (¬ s.2 i = 0 ↔ i = k))) N hN (1, w) ⟨?_, ?_, fun _ => start⟩ (fun n s hI => ?_) (fun n j s0 hj cj vj nj hI go => ?_)
    · dsimp only
      rw [ms_cn_eq (Q := fun i => i = k) fun i hi => start i (by omega), ms_cn_one hk]
      rfl
    · exact ms_PQ_0 ((start k (by omega)).mpr rfl) hk fun i hi z => by rw [(start i hi).mp z]; exact ms_Cl_r
    · have e : ∀ i, i < 32 → (¬ s.2 i = 0 ↔ (i = k ∨ (¬ dp = 0 ∧ ms_Cl (ms_Rt A (ms_Wb A k d)) k i))) := by
        intro i hi
        by_cases z : dp = 0
        · rw [hI.2.2 z i hi]
          exact ⟨Or.inl, fun q => q.elim id fun q => absurd z q.1⟩
        · rw [ms_PQ_e (Nat.le_refl _) ms_Rt_32 hI.2.1 i hi]
          exact ⟨fun q => Or.inr ⟨z, q⟩, fun q => q.elim (fun q => by rw [q]; exact ms_Cl_r) fun q => q.2⟩
      have f := hq s.2 e
      rw [← ms_cn_eq (P := fun i => ¬ s.2 i = 0) fun i hi => e i (by omega), ← hI.1] at f
      exact br_c (fun _ => f) (fun _ => br_t (nI_le (Nat.le_refl _) (by omega)) f)
    · refine br_c (fun z => ?_) (fun nz => br_f nj (ms_lp (fun n' i (s : Int32 × (Nat → Int32)) => wX_selectForBind_53 post (wX_selectForBind_37 post (nI k) (nI d) dp (nI N) (nI D) (nI S) n) (nI k) (nI d) dp (nI j) (nI N) (nI D) (nI S) n' s.1 i us fs rt sp pa pt g m ub lv rm w1 w2 w3 s.2 w5 w6 w7 w8 w9 wa wb) (fun i s => s.1 = nI (ms_cn (fun i => ¬ s.2 i = 0) N) ∧ ms_PP (ms_Rt A (ms_Wb A k d)) k N (fun i => ¬ s0.2 i = 0) (fun _ y => y < i) (fun i => ¬ s.2 i = 0)) N hN s0 ⟨hI.1, ms_PP_k (ms_PP_0 hI.2.1.2.1) fun x _ _ _ t _ _ => absurd t (Nat.not_lt_zero _)⟩ (fun n' s hJ => ?_) (fun n' i s hi ci vi ni hJ go2 => ?_)))
      · have e : ∀ i, i < 32 → (¬ s0.2 i = 0 ↔ (i = k ∨ (¬ dp = 0 ∧ ms_Cl (ms_Rt A (ms_Wb A k d)) k i))) := fun i hi => by
          rw [hI.2.2 z i hi]
          exact ⟨Or.inl, fun q => q.elim id fun q => absurd z q.1⟩
        have f := hq s0.2 e
        rw [← ms_cn_eq (P := fun i => ¬ s0.2 i = 0) fun i hi => e i (by omega), ← hI.1] at f
        exact f
      · refine br_t (nI_le (Nat.le_refl _) (by omega)) (go s ⟨hJ.1, ms_PQ_s hN hk ms_Rt_32 hI.2.1 hJ.2 fun a b ha hb r sa => Or.inl (hF.1 b hb r.2.2.1).1, fun z => absurd z nz⟩)
      · obtain ⟨c, w⟩ := s
        obtain ⟨ec, hJ⟩ := hJ
        dsimp only at ec hJ ⊢
        have skip : (∀ x, ms_Rt A (ms_Wb A k d) x i → ¬ w x = 0 → ¬ w i = 0) → ∀ y, y = nI i + 1 → wX_selectForBind_53 post (wX_selectForBind_37 post (nI k) (nI d) dp (nI N) (nI D) (nI S) n) (nI k) (nI d) dp (nI j) (nI N) (nI D) (nI S) n' c y us fs rt sp pa pt g m ub lv rm w1 w2 w3 w w5 w6 w7 w8 w9 wa wb := fun no => go2 (c, w) ⟨ec, ms_PP_k hJ fun x y hx hy t r sx => by
          by_cases q : y = i
          · subst q; exact Or.inr (no x r sx)
          · exact Or.inl (by omega)⟩
        refine br_f ni ⟨vi, ?_⟩
        rw [ci]
        refine br_c (fun z2 => mx_joi h hF (by omega) (by omega) hd (fun u p32 hwb z4 => ?_) (fun no => ?_)) (fun z2 => skip fun _ _ _ => z2)
        · refine br_f ms_10 ⟨vi, ?_⟩
          rw [ec]
          refine nm_e (nm_r (nI_1 _) (go2 (nI (ms_cn (fun i => ¬ w i = 0) N + 1), upd w i (vp_nar .boolean 1)) ⟨?_, ?_⟩))
          · dsimp only
            rw [ms_cn_eq (P := fun k => ¬ upd w i (vp_nar .boolean 1) k = 0) (Q := fun k => ¬ w k = 0 ∨ k = i) fun k _ => ms_ws, ms_cn_add (P := fun k => ¬ w k = 0) (fun q => q z2) hi]
          · refine ms_PP_a hJ p32 hi hN z4 ⟨p32, by omega, u, rfl, hwb⟩ (fun k _ => ms_ws) (fun x y hx hy t _ _ => ?_)
            by_cases q : y = i
            · exact Or.inr (Or.inr q)
            · exact Or.inl (by omega)
        · exact br_t rfl (skip fun x r sx => absurd ⟨r.2.2.1, by rw [r.2.2.2.1]; exact r.1, r.2.2.2.2, by rw [r.2.2.2.1]; exact sx⟩ no)
  refine ms_lp (fun n i (w : Nat → Int32) => wX_selectForBind_3 post (nI k) (nI d) dp (nI N) (nI D) (nI S) n i us fs rt sp pa pt g m ub lv rm w1 w2 w3 w w5 w6 w7 w8 w9 wa wb) (fun i w => ∀ j, j < i → w j = 0) 32 (Nat.le_refl _) w4 lt_0 (fun n w hI => ?_) (fun n i w hi ci vi ni hI go => ?_)
  · refine br_t (nI_le (b := 32) (Nat.le_refl _) (by omega)) ⟨vp_in_nI (by omega) (by omega), ?_⟩
    rw [nI_clamp (by omega)]
    exact nm_e (outer _ fun i hi => ms_ws.trans ⟨fun z => z.elim (fun z => absurd (hI i hi) z) id, Or.inr⟩)
  · refine br_f ni ⟨vi, ?_⟩
    rw [ci]
    refine nm_e (go _ (lt_s (fun j hj => ?_) ?_))
    · rw [ms_un' (by omega)]; exact hI j hj
    · rw [ms_us, ms_b0]
end
section
variable {N D S : Nat} {lv us fs rt sp ub pa pt g m v1 v2 v3 v4 v5 v6 v7 v8 v9 : Nat → Int32}
variable {e : Nat → Int32} {A : ms_AS} {lw : Nat → Prop} {rn : Nat → Nat}
theorem my_int (h : ms_CR e A us fs rt sp pa pt g m ub) (hF : ms_FI N lw rn A) {post : Int32 → Prop} {x t : Nat} (hx : x < 32) (ux : ms_U A x) (ht : t < 32) (h1 : ms_Cl (ms_Rt A (fun _ => True)) t x → post 1) (h0 : ¬ ms_Cl (ms_Rt A (fun _ => True)) t x → post 0) : wpY_inTree post (nI N, nI D, nI S, lv, us, fs, rt, sp, ub, pa, pt, g, m, v1, v2, v3, v4, v5, v6, v7, v8, v9) (nI x) (nI t) := by
  have fin : ∀ z, post (if z = t then 1 else 0) → wY_inTree_34 post (nI t) (ms_c z) (nI N) (nI D) (nI S) lv us fs rt sp ub pa pt g m v1 v2 v3 v4 v5 v6 v7 v8 v9 := by
    intro z hp
    refine br_c (fun q => ?_) (fun q => ?_)
    · rw [if_pos ((ms_c_eq ht).mp q)] at hp; exact hp
    · rw [if_neg (fun w => q ((ms_c_eq ht).mpr w))] at hp; exact hp
  have key : ∀ k n z, k ≤ 32 → k < n → (z < 32 → ms_U A z) → post (if ms_tz A (fun _ => True) t k z = t then 1 else 0) → wY_inTree_5 post (nI t) (nI N) (nI D) (nI S) lv us fs rt sp ub pa pt g m v1 v2 v3 v4 v5 v6 v7 v8 v9 n (ms_c z) (nI (32 - k)) := by
    intro k
    induction k with
    | zero =>
      intro n z _ hn hz hp
      cases n with
      | zero => omega
      | succ n => exact br_t (nI_le (b := 32) (Nat.le_refl _) (by omega)) (fin z hp)
    | succ k ih =>
      intro n z hk hn hz hp
      cases n with
      | zero => omega
      | succ n =>
        refine br_f (nI_ge (b := 32) (by omega) (by omega)) ?_
        by_cases w : z < 32
        · refine br_f (fun q => ms_c_neg.mp q w) ?_
          by_cases v : z = t
          · rw [v, ms_tz_t] at hp
            exact br_t (by rw [v, ms_c_lt ht]) (fin z (by rw [v]; exact hp))
          · rw [ms_tz_s w v, ms_ic_t trivial] at hp
            refine br_f (fun q => v ((ms_c_eq ht).mp q)) ⟨ms_c_in w, ?_⟩
            rw [ms_c_cl w, ms_CR_p h w (hz w)]
            refine nm_e (nm_r (nI_1 _) ?_)
            rw [show 32 - (k + 1) + 1 = 32 - k by omega]
            exact ih n _ (by omega) (by omega) (fun q => (hF.2.2.1 z w (hz w) q).1) hp
        · rw [ms_tz_n w] at hp
          exact br_t (ms_c_neg.mpr w) (fin z hp)
  have hp : post (if ms_tz A (fun _ => True) t 32 x = t then 1 else 0) := by
    by_cases q : ms_tz A (fun _ => True) t 32 x = t
    · rw [if_pos q]; exact h1 ((ms_tz_Cl hF ht hx ux).mp q)
    · rw [if_neg q]; exact h0 fun w => q ((ms_tz_Cl hF ht hx ux).mpr w)
  have r := key 32 33 x (by omega) (by omega) (fun _ => ux) hp
  rw [ms_c_lt hx] at r
  exact ⟨33, r⟩
theorem my_inb (h : ms_CR e A us fs rt sp pa pt g m ub) (hF : ms_FI N lw rn A) {post : Int32 → Prop} {x t d : Nat} (hx : x < 32) (ux : ms_U A x) (ht : t < 32) (hd : d < 16) (h1 : ms_Cl (ms_Rt A (ms_Wb A t d)) t x → post 1) (h0 : ¬ ms_Cl (ms_Rt A (ms_Wb A t d)) t x → post 0) : wpY_inBind post (nI N, nI D, nI S, lv, us, fs, rt, sp, ub, pa, pt, g, m, v1, v2, v3, v4, v5, v6, v7, v8, v9) (nI x) (nI t) (nI d) := by
  have fin : ∀ z, post (if z = t then 1 else 0) → wY_inBind_77 post (nI t) (ms_c z) (nI N) (nI D) (nI S) lv us fs rt sp ub pa pt g m v1 v2 v3 v4 v5 v6 v7 v8 v9 := by
    intro z hp
    refine br_c (fun q => ?_) (fun q => ?_)
    · rw [if_pos ((ms_c_eq ht).mp q)] at hp; exact hp
    · rw [if_neg (fun w => q ((ms_c_eq ht).mpr w))] at hp; exact hp
  have key : ∀ k n z, k ≤ 32 → k < n → (z < 32 → ms_U A z) → post (if ms_tz A (ms_Wb A t d) t k z = t then 1 else 0) → wY_inBind_6 post (nI t) (nI d) (nI N) (nI D) (nI S) lv us fs rt sp ub pa pt g m v1 v2 v3 v4 v5 v6 v7 v8 v9 n (ms_c z) (nI (32 - k)) := by
    intro k
    induction k with
    | zero =>
      intro n z _ hn hz hp
      cases n with
      | zero => omega
      | succ n => exact br_t (nI_le (b := 32) (Nat.le_refl _) (by omega)) (fin z hp)
    | succ k ih =>
      intro n z hk hn hz hp
      cases n with
      | zero => omega
      | succ n =>
        refine br_f (nI_ge (b := 32) (by omega) (by omega)) ?_
        by_cases w : z < 32
        · refine br_f (fun q => ms_c_neg.mp q w) ?_
          by_cases v : z = t
          · rw [v, ms_tz_t] at hp
            exact br_t (by rw [v, ms_c_lt ht]) (fin z (by rw [v]; exact hp))
          · rw [ms_tz_s w v] at hp
            have vz := ms_c_in w
            have uz := hz w
            refine br_f (fun q => v ((ms_c_eq ht).mp q)) ⟨vz, ?_⟩
            rw [ms_c_cl w, ms_CR_p h w uz, ms_CR_b h w, ms_CR_q h w uz]
            have fail : ¬ ms_Wb A t d z → post 0 := fun q => by
              rw [ms_ic_f q, if_neg (by omega)] at hp; exact hp
            have next : ms_Wb A t d z → ∀ y, y = ms_c (ms_P A z) → ∀ y', y' = nI (32 - (k + 1)) + 1 → wY_inBind_6 post (nI t) (nI d) (nI N) (nI D) (nI S) lv us fs rt sp ub pa pt g m v1 v2 v3 v4 v5 v6 v7 v8 v9 n y y' := by
              intro q y ey y' ey'
              rw [ms_ic_t q] at hp
              rw [ey, ey', nI_1, show 32 - (k + 1) + 1 = 32 - k by omega]
              exact ih n _ (by omega) (by omega) (fun q => (hF.2.2.1 z w uz q).1) hp
            refine br_c (fun z2 => ⟨vz, br_c (fun z3 => ⟨vz, ?_⟩) (fun z3 => ⟨vz, next ⟨z2, fun q => absurd ((ms_c_eq ht).mpr q) z3⟩⟩)⟩) (fun z2 => fail fun q => z2 q.1)
            have et := (ms_c_eq ht).mp z3
            obtain ⟨_, _, q15, _⟩ := hF.2.2.1 z w uz (by omega)
            rw [ms_c_lt (n := ms_Q A z) (by omega)]
            refine my_und (by omega) hd ?_
            by_cases u : ms_ua d 15 (ms_Q A z) = d
            · rw [if_pos u]
              exact br_f ms_10 ⟨vz, next ⟨z2, fun _ => u⟩⟩
            · rw [if_neg u]
              exact br_t rfl (fail fun q => u (q.2 et))
        · rw [ms_tz_n w] at hp
          exact br_t (ms_c_neg.mpr w) (fin z hp)
  have hp : post (if ms_tz A (ms_Wb A t d) t 32 x = t then 1 else 0) := by
    by_cases q : ms_tz A (ms_Wb A t d) t 32 x = t
    · rw [if_pos q]; exact h1 ((ms_tz_Cl hF ht hx ux).mp q)
    · rw [if_neg q]; exact h0 fun w => q ((ms_tz_Cl hF ht hx ux).mpr w)
  have r := key 32 33 x (by omega) (by omega) (fun _ => ux) hp
  rw [ms_c_lt hx] at r
  exact ⟨33, r⟩
end
end
section
/-! label methods on both sides -/
theorem ms_E_mono {e : Nat → Int32} {A A' : ms_AS} (h : ms_E e A) (hh : ∀ l, ms_La A' l → ms_La A l) : ms_E e A' := fun a b ha hb => h a b (hh a ha) (hh b hb)
section
variable {e : Nat → Int32} {A : ms_AS} {us fs rt sp pa pt g m ub : Nat → Int32}
/-- masters are labels in use: as the reference's arrays show it -/
theorem ms_CR_live (h : ms_CR e A us fs rt sp pa pt g m ub) (hL : ms_LI A) (he : e 32 = 0) : ∀ i, i < 32 → m i = 0 ∨ ∃ j, j < 32 ∧ g j = m i := fun i hi => by
  rcases ms_La_M hL hi with z | ⟨j, hj, z⟩
  · left; rw [ms_CR_m h hi, z, he]
  · right; exact ⟨j, hj, by rw [ms_CR_g h hj, ms_CR_m h hi, z]⟩
/-- a new label with a new name -/
theorem ms_CR_new (h : ms_CR e A us fs rt sp pa pt g m ub) (hE : ms_E e A) (hL : ms_LI A) (he : e 32 = 0) {x l : Nat} (hl : l < 32) (fl : ∀ i, i < 32 → ms_G A i ≠ l) {r : Int32} (r0 : ¬ r = 0) (fr : ∀ i, i < 32 → ¬ g i = r ∧ ¬ m i = r) :
    ∃ e', e' 32 = 0 ∧ ms_E e' (ms_sG A x l) ∧ ms_CR e' (ms_sG A x l) us fs rt sp pa pt (upd g x r) m ub ∧ ∀ l', ms_La A l' → e' l' = e l' := by
  have nl : ∀ l', ms_La A l' → l' ≠ l := fun l' z q => by
    rcases z with z | ⟨j, hj, z⟩
    · omega
    · exact fl j hj (by omega)
  have old : ∀ l', ms_La A l' → ms_fu e l r l' = e l' := fun l' z => ms_fu_n (nl l' z)
  have ne : ∀ l', ms_La A l' → ¬ e l' = r := fun l' z q => by
    rcases z with z | ⟨j, hj, z⟩
    · rw [z, he] at q; exact r0 q.symm
    · rw [← z, ← ms_CR_g h hj] at q; exact (fr j hj).1 q
  have lab : ∀ l', ms_La (ms_sG A x l) l' → l' = l ∨ ms_La A l' := fun l' z => by
    rcases z with z | ⟨j, hj, z⟩
    · exact Or.inr (Or.inl z)
    · by_cases q : j = x
      · subst q
        have : ms_G (ms_sG A j l) j = l := ms_fu_s
        rw [this] at z
        exact Or.inl z.symm
      · have : ms_G (ms_sG A x l) j = ms_G A j := ms_fu_n q
        rw [this] at z
        exact Or.inr (Or.inr ⟨j, hj, z⟩)
  refine ⟨ms_fu e l r, by rw [old 32 (Or.inl rfl), he], fun a b ha hb q => ?_, ?_, old⟩
  · rcases lab a ha with za | za
    · rcases lab b hb with zb | zb
      · rw [za, zb]
      · rw [za, ms_fu_s, old b zb] at q
        exact absurd q.symm (ne b zb)
    · rcases lab b hb with zb | zb
      · rw [zb, ms_fu_s, old a za] at q
        exact absurd q (ne a za)
      · rw [old a za, old b zb] at q
        exact hE a b za zb q
  · intro i hi
    obtain ⟨a1, a2, a3, a4, a5, a6, a7, a8⟩ := h i hi
    simp only [ms_sG, ms_U_mk, ms_F_mk, ms_R_mk, ms_S_mk, ms_P_mk, ms_Q_mk, ms_G_mk, ms_M_mk, ms_B_mk]
    refine ⟨a1, a2, a3, a4, a5, ?_, ?_, a8⟩
    · by_cases q : i = x
      · subst q; rw [ms_us, ms_fu_s, ms_fu_s]
      · rw [ms_un' q, ms_fu_n q, old _ (ms_La_G hi)]; exact a6
    · rw [old _ (ms_La_M hL hi)]; exact a7
end
section
variable {N D S : Nat} {us fs rt sp pa pt g m ub lv rm w1 w2 w3 w4 w5 w6 w7 w8 w9 wa wb : Nat → Int32}
variable {A : ms_AS} {lw : Nat → Prop} {rn : Nat → Nat}
theorem mx_nl (h : ms_CR ms_c A us fs rt sp pa pt g m ub) (hL : ms_LI A) (hU : ∀ i, i < 32 → ms_U A i → i < N) (hN : N ≤ 32) : ms_lo (fun l => ∀ i, i < N → g i ≠ nI l) 32 = ms_nl A := by
  refine ms_lo_congr (Nat.le_refl _) fun l hl => ⟨fun z i hi q => ?_, fun z i hi q => ?_⟩
  · have u : ms_U A i := Classical.byContradiction fun n => by have := (hL.2.1 i hi n).1; omega
    exact z i (hU i hi u) (by rw [ms_CR_g h hi, ms_c_eq hl]; exact q)
  · rw [ms_CR_g h (by omega), ms_c_eq hl] at q
    exact z i (by omega) q
theorem mx_lvg (h : ms_CR ms_c A us fs rt sp pa pt g m ub) (hL : ms_LI A) (hU : ∀ i, i < 32 → ms_U A i → i < N) (hN : N ≤ 32) {post : SX → Prop} {x : Nat} (hx : x < 32)
    (hq : ∀ g' m', ms_CR ms_c (ms_lv A x) us fs rt sp pa pt g' m' ub → post (nI N, nI D, nI S, us, fs, rt, sp, pa, pt, g', m', ub, lv, rm, w1, w2, w3, w4, w5, w6, w7, w8, w9, wa, wb)) : wpX_leaveGroup post (nI N, nI D, nI S, us, fs, rt, sp, pa, pt, g, m, ub, lv, rm, w1, w2, w3, w4, w5, w6, w7, w8, w9, wa, wb) (nI x) := by
  have vx : vp_in (nI x) 32 := vp_in_nI hx (by omega)
  have cx : (nI x).toNatClampNeg = x := nI_clamp (by omega)
  have hE := ms_E_c hL
  refine ⟨vx, ?_⟩
  rw [cx]
  refine nm_e ?_
  by_cases gx : ms_G A x < 32
  · refine br_t ((ms_CR_gp h hx).mpr gx) ⟨vx, nm_e (mx_low hN ((ms_CR_gp h hx).mpr gx) ?_)⟩
    have g1 := ms_CR_sG h x 32
    rw [ms_c_32] at g1
    have ex : ms_lo (fun c => upd g x (-1) c = g x) N < 32 ↔ ∃ c, c < 32 ∧ c ≠ x ∧ ms_G A c = ms_G A x := by
      constructor
      · intro z
        have a := ms_lo_P (P := fun c => upd g x (-1) c = g x) hN z
        refine ⟨_, z, fun q => ?_, ?_⟩
        · have a' : upd g x (-1) (ms_lo (fun c => upd g x (-1) c = g x) N) = g x := a
          rw [q, ms_us, ms_CR_g h hx] at a'
          exact ms_c_m1.mp a'.symm gx
        · by_cases q : ms_lo (fun c => upd g x (-1) c = g x) N = x
          · rw [q]
          · have a' : upd g x (-1) (ms_lo (fun c => upd g x (-1) c = g x) N) = g x := a
            rw [ms_un' q] at a'
            exact (ms_CR_gg h hE z hx).mp a'
      · rintro ⟨c, hc, cx, e⟩
        have u : ms_U A c := Classical.byContradiction fun n => by have := (hL.2.1 c hc n).1; omega
        exact ms_lo_ex hN (hU c hc u) (by rw [ms_un' cx]; exact (ms_CR_gg h hE hc hx).mpr e)
    have nx : ¬ ms_G A x = 32 := by omega
    refine br_c (fun z => ?_) (fun z => ?_)
    · have no : ¬ ∃ c, c < 32 ∧ c ≠ x ∧ ms_G A c = ms_G A x := fun q => (ms_c_neg.mp z) (ex.mpr q)
      have elv : ms_lv A x = ms_wM (ms_sG A x 32) (fun n => ms_ic (ms_M A n = ms_G A x) (ms_M A x) (ms_M A n)) := by
        unfold ms_lv; rw [ms_ic_f nx, ms_ic_f no]
      rw [elv] at hq
      refine ms_lp (fun n i (w : Nat → Int32) => wX_leaveGroup_30 post (nI x) (g x) (nI N) (nI D) (nI S) n i us fs rt sp pa pt (upd g x (-1)) w ub lv rm w1 w2 w3 w4 w5 w6 w7 w8 w9 wa wb) (fun i w => ∀ j, j < 32 → w j = ms_c (ms_ic (j < i ∧ ms_M A j = ms_G A x) (ms_M A x) (ms_M A j))) N hN m (fun j hj => by rw [ms_ic_f (fun q => Nat.not_lt_zero _ q.1)]; exact ms_CR_m h hj) (fun n w hI => ?_) (fun n i w hi ci vi ni hI go => ?_)
      · refine br_t (nI_le (Nat.le_refl _) (by omega)) (hq _ _ (ms_CR_wM g1 fun j hj => ?_))
        rw [hI j hj]
        refine congrArg ms_c (ms_ic_c ⟨fun q => q.2, fun q => ⟨?_, q⟩⟩)
        exact hU j hj (Classical.byContradiction fun n => by have := (hL.2.1 j hj n).2; omega)
      · have wi : w i = ms_c (ms_M A i) := by rw [hI i (by omega), ms_ic_f (fun q => Nat.lt_irrefl _ q.1)]
        have wx : w x = ms_c (ms_M A x) := by
          rw [hI x hx]
          by_cases q : x < i ∧ ms_M A x = ms_G A x
          · rw [ms_ic_t q]
          · rw [ms_ic_f q]
        refine br_f ni ⟨vi, ?_⟩
        rw [ci, cx, wi]
        refine br_c (fun z => ⟨vx, vi, nm_e (go _ fun j hj => ?_)⟩) (fun z => go w fun j hj => ?_)
        · rw [ms_CR_g h hx] at z
          have eM := (ms_c_inj (hL.1 i (by omega)).2 (hL.1 x hx).1).mp z
          by_cases q : j = i
          · subst q
            rw [ms_us, wx, ms_ic_t ⟨by omega, eM⟩]
          · rw [ms_un' q, hI j hj]
            exact congrArg ms_c (ms_ic_c ⟨fun q => ⟨by omega, q.2⟩, fun y => ⟨by omega, y.2⟩⟩)
        · have eM : ¬ ms_M A i = ms_G A x := fun q => z (by rw [q, ms_CR_g h hx])
          rw [hI j hj]
          refine congrArg ms_c (ms_ic_c ⟨fun q => ⟨by omega, q.2⟩, fun y => ⟨?_, y.2⟩⟩)
          have : j ≠ i := fun q => by subst q; exact eM y.2
          omega
    · have yes : ∃ c, c < 32 ∧ c ≠ x ∧ ms_G A c = ms_G A x := ex.mp (Classical.byContradiction fun q => z (ms_c_neg.mpr q))
      have elv : ms_lv A x = ms_sG A x 32 := by unfold ms_lv; rw [ms_ic_f nx, ms_ic_t yes]
      rw [elv] at hq
      exact hq _ _ g1
  · have nx : ms_G A x = 32 := by have := (hL.1 x hx).1; omega
    have elv : ms_lv A x = A := by unfold ms_lv; rw [ms_ic_t nx]
    rw [elv] at hq
    exact br_f (fun q => gx ((ms_CR_gp h hx).mp q)) (hq _ _ h)
theorem mx_rmv (h : ms_CR ms_c A us fs rt sp pa pt g m ub) (hL : ms_LI A) (hU : ∀ i, i < 32 → ms_U A i → i < N) (hN : N ≤ 32) {post : SX → Prop} {x : Nat} (hx : x < 32)
    (hq : ∀ us' pa' pt' g' m', ms_CR ms_c (ms_rv A x) us' fs rt sp pa' pt' g' m' ub → post (nI N, nI D, nI S, us', fs, rt, sp, pa', pt', g', m', ub, lv, rm, w1, w2, w3, w4, w5, w6, w7, w8, w9, wa, wb)) : wpX_remove post (nI N, nI D, nI S, us, fs, rt, sp, pa, pt, g, m, ub, lv, rm, w1, w2, w3, w4, w5, w6, w7, w8, w9, wa, wb) (nI x) := by
  have vx : vp_in (nI x) 32 := vp_in_nI hx (by omega)
  have cx : (nI x).toNatClampNeg = x := nI_clamp (by omega)
  refine mx_lvg h hL hU hN hx fun g' m' h' => ⟨vx, ?_⟩
  rw [cx]
  have h2 := ms_CR_sM h' x 32
  rw [ms_c_32] at h2
  exact nm_e ⟨vx, nm_e ⟨vx, nm_e ⟨vx, nm_e (hq _ _ _ _ _ (ms_CR_de h2 x (fun i n => ms_un' n) (fun i n => ms_un' n)))⟩⟩⟩
theorem mx_chk (h : ms_CR ms_c A us fs rt sp pa pt g m ub) (hL : ms_LI A) (hU : ∀ i, i < 32 → ms_U A i → i < N) (hN : N ≤ 32) {post : SX → Prop} {x : Nat} (hx : x < 32) {k : Int32}
    (hq : ∀ g' m' ub', ms_CR ms_c (ms_kd A x k) us fs rt sp pa pt g' m' ub' → post (nI N, nI D, nI S, us, fs, rt, sp, pa, pt, g', m', ub', lv, rm, w1, w2, w3, w4, w5, w6, w7, w8, w9, wa, wb)) : wpX_changeKind post (nI N, nI D, nI S, us, fs, rt, sp, pa, pt, g, m, ub, lv, rm, w1, w2, w3, w4, w5, w6, w7, w8, w9, wa, wb) (nI x) k := by
  have vx : vp_in (nI x) 32 := vp_in_nI hx (by omega)
  have cx : (nI x).toNatClampNeg = x := nI_clamp (by omega)
  by_cases k1 : k = 1
  · refine br_t k1 ⟨vx, ?_⟩
    rw [cx]
    have ek : ms_kd A x k = ms_ic (ms_G A x = 32) (ms_sB (ms_sG A x (ms_nl A)) x 0) A := if_pos k1
    rw [ek] at hq
    refine br_c (fun z => mx_nwg hN ⟨vx, ?_⟩) (fun z => ?_)
    · have nx : ms_G A x = 32 := by have := (hL.1 x hx).1; have := (ms_CR_gn h hx).mp z; omega
      rw [ms_ic_t nx] at hq
      rw [mx_nl h hL hU hN]
      exact nm_e ⟨vx, nm_e (hq _ _ _ (ms_CR_sB (ms_CR_sG h x _) x 0))⟩
    · have nx : ¬ ms_G A x = 32 := fun q => z ((ms_CR_gn h hx).mpr (by omega))
      rw [ms_ic_f nx] at hq
      exact hq _ _ _ h
  · refine br_f k1 ?_
    by_cases k2 : k = 2
    · refine br_t k2 ⟨vx, ?_⟩
      rw [cx]
      have ek : ms_kd A x k = ms_ic (∃ c, c < 32 ∧ ms_G (ms_lv A x) c = ms_G A x ∧ ms_G A x < 32) (ms_sM (ms_lv A x) x (ms_G A x)) (ms_lv A x) := by unfold ms_kd; rw [if_neg k1, if_pos k2]
      rw [ek] at hq
      refine nm_e ?_
      by_cases gx : ms_G A x < 32
      · refine br_t ((ms_CR_gp h hx).mpr gx) (mx_lvg h hL hU hN hx fun g' m' h' => mx_low hN ((ms_CR_gp h hx).mpr gx) ?_)
        have hL' := ms_LI_lv hL hx
        have hU' : ∀ i, i < 32 → ms_U (ms_lv A x) i → i < N := by rw [ms_lv_U]; exact hU
        have ex : ms_lo (fun c => g' c = g x) N < 32 ↔ ∃ c, c < 32 ∧ ms_G (ms_lv A x) c = ms_G A x ∧ ms_G A x < 32 := by
          constructor
          · intro z
            obtain ⟨j, hj, a⟩ : ∃ j, j < 32 ∧ g' j = g x := ⟨_, z, ms_lo_P (P := fun c => g' c = g x) hN z⟩
            rw [ms_CR_g h' hj, ms_CR_g h hx, ms_c_inj (hL'.1 _ hj).1 (hL.1 x hx).1] at a
            exact ⟨j, hj, a, gx⟩
          · rintro ⟨c, hc, e, _⟩
            have u : ms_U (ms_lv A x) c := Classical.byContradiction fun n => by have := (hL'.2.1 c hc n).1; omega
            exact ms_lo_ex hN (hU' c hc u) (by rw [ms_CR_g h' hc, ms_CR_g h hx, e])
        refine br_c (fun z => ?_) (fun z => ⟨vx, ?_⟩)
        · rw [ms_ic_f (fun q => (ms_c_neg.mp z) (ex.mpr q))] at hq
          exact hq _ _ _ h'
        · rw [ms_ic_t (ex.mp (Classical.byContradiction fun q => z (ms_c_neg.mpr q)))] at hq
          rw [ms_CR_g h hx]
          exact nm_e (hq _ _ _ (ms_CR_sM h' x _))
      · have nx : ms_G A x = 32 := by have := (hL.1 x hx).1; omega
        have elv : ms_lv A x = A := by unfold ms_lv; rw [ms_ic_t nx]
        rw [ms_ic_f (fun ⟨_, _, _, q⟩ => gx q), elv] at hq
        exact br_f (fun q => gx ((ms_CR_gp h hx).mp q)) (hq _ _ _ h)
    · have ek : ms_kd A x k = ms_sB (ms_sM (ms_lv A x) x 32) x (if k = 3 then 1 else 0) := by unfold ms_kd; rw [if_neg k1, if_neg k2]
      rw [ek] at hq
      refine br_f k2 (mx_lvg h hL hU hN hx fun g' m' h' => ⟨vx, ?_⟩)
      rw [cx]
      have h2 := ms_CR_sM h' x 32
      rw [ms_c_32] at h2
      refine nm_e ?_
      by_cases k3 : k = 3
      · rw [if_pos k3] at hq
        exact br_t k3 ⟨vx, nm_e (hq _ _ _ (ms_CR_sB h2 x 1))⟩
      · rw [if_neg k3] at hq
        exact br_f k3 ⟨vx, nm_e (hq _ _ _ (ms_CR_sB h2 x 0))⟩
end
section
variable {N D S : Nat} {lv us fs rt sp ub pa pt g m v1 v2 v3 v4 v5 v6 v7 v8 v9 : Nat → Int32}
variable {e : Nat → Int32} {A : ms_AS} {lw : Nat → Prop} {rn : Nat → Nat}
theorem my_lvg (h : ms_CR e A us fs rt sp pa pt g m ub) (hE : ms_E e A) (he : e 32 = 0) (hL : ms_LI A) {post : SY → Prop} {x : Nat} (hx : x < 32)
    (hq : ∀ g' m', ms_CR e (ms_lv A x) us fs rt sp pa pt g' m' ub → post (nI N, nI D, nI S, lv, us, fs, rt, sp, ub, pa, pt, g', m', v1, v2, v3, v4, v5, v6, v7, v8, v9)) : wpY_leave post (nI N, nI D, nI S, lv, us, fs, rt, sp, ub, pa, pt, g, m, v1, v2, v3, v4, v5, v6, v7, v8, v9) (nI x) := by
  have vx : vp_in (nI x) 32 := vp_in_nI hx (by omega)
  have cx : (nI x).toNatClampNeg = x := nI_clamp (by omega)
  have g1 := ms_CR_sG h x 32
  rw [he] at g1
  refine ⟨vx, ?_⟩
  rw [cx]
  refine nm_e ⟨vx, nm_e ?_⟩
  by_cases gx : ms_G A x < 32
  · have g0 : ¬ g x = 0 := fun q => (ms_CR_gz h hE hL he hx).mp q gx
    refine br_f g0 (my_low g0 ?_)
    have ex : ms_lo (fun c => upd g x 0 c = g x) 32 < 32 ↔ ∃ c, c < 32 ∧ c ≠ x ∧ ms_G A c = ms_G A x := by
      constructor
      · intro z
        have a := ms_lo_P (P := fun c => upd g x 0 c = g x) (Nat.le_refl _) z
        have a' : upd g x 0 (ms_lo (fun c => upd g x 0 c = g x) 32) = g x := a
        refine ⟨_, z, fun q => ?_, ?_⟩
        · rw [q, ms_us] at a'
          exact g0 a'.symm
        · by_cases q : ms_lo (fun c => upd g x 0 c = g x) 32 = x
          · rw [q]
          · rw [ms_un' q] at a'
            exact (ms_CR_gg h hE z hx).mp a'
      · rintro ⟨c, hc, cx, e⟩
        exact ms_lo_ex (Nat.le_refl _) hc (by rw [ms_un' cx]; exact (ms_CR_gg h hE hc hx).mpr e)
    have nx : ¬ ms_G A x = 32 := by omega
    refine br_c (fun z => ?_) (fun z => ?_)
    · have no : ¬ ∃ c, c < 32 ∧ c ≠ x ∧ ms_G A c = ms_G A x := fun q => (ms_c_neg.mp z) (ex.mpr q)
      have elv : ms_lv A x = ms_wM (ms_sG A x 32) (fun n => ms_ic (ms_M A n = ms_G A x) (ms_M A x) (ms_M A n)) := by
        unfold ms_lv; rw [ms_ic_f nx, ms_ic_f no]
      rw [elv] at hq
      refine ms_lp (fun n i (w : Nat → Int32) => wY_leave_29 post (nI x) (g x) (nI N) (nI D) (nI S) n i lv us fs rt sp ub pa pt (upd g x 0) w v1 v2 v3 v4 v5 v6 v7 v8 v9) (fun i w => ∀ j, j < 32 → w j = e (ms_ic (j < i ∧ ms_M A j = ms_G A x) (ms_M A x) (ms_M A j))) 32 (Nat.le_refl _) m (fun j hj => by rw [ms_ic_f (fun q => Nat.not_lt_zero _ q.1)]; exact ms_CR_m h hj) (fun n w hI => ?_) (fun n i w hi ci vi ni hI go => ?_)
      · refine br_t (nI_le (b := 32) (Nat.le_refl _) (by omega)) (hq _ _ (ms_CR_wM g1 fun j hj => ?_))
        rw [hI j hj]
        exact congrArg e (ms_ic_c ⟨fun q => q.2, fun q => ⟨hj, q⟩⟩)
      · have wi : w i = e (ms_M A i) := by rw [hI i (by omega), ms_ic_f (fun q => Nat.lt_irrefl _ q.1)]
        have wx : w x = e (ms_M A x) := by
          rw [hI x hx]
          by_cases q : x < i ∧ ms_M A x = ms_G A x
          · rw [ms_ic_t q]
          · rw [ms_ic_f q]
        refine br_f ni ⟨vi, ?_⟩
        rw [ci, cx, wi]
        refine br_c (fun z => ⟨vx, vi, nm_e (go _ fun j hj => ?_)⟩) (fun z => go w fun j hj => ?_)
        · rw [ms_CR_g h hx] at z
          have eM := hE _ _ (ms_La_M hL hi) (ms_La_G hx) z
          by_cases q : j = i
          · subst q
            rw [ms_us, wx, ms_ic_t ⟨by omega, eM⟩]
          · rw [ms_un' q, hI j hj]
            exact congrArg e (ms_ic_c ⟨fun q => ⟨by omega, q.2⟩, fun y => ⟨by omega, y.2⟩⟩)
        · have eM : ¬ ms_M A i = ms_G A x := fun q => z (by rw [q, ms_CR_g h hx])
          rw [hI j hj]
          refine congrArg e (ms_ic_c ⟨fun q => ⟨by omega, q.2⟩, fun y => ⟨?_, y.2⟩⟩)
          have : j ≠ i := fun q => by subst q; exact eM y.2
          omega
    · have yes : ∃ c, c < 32 ∧ c ≠ x ∧ ms_G A c = ms_G A x := ex.mp (Classical.byContradiction fun q => z (ms_c_neg.mpr q))
      have elv : ms_lv A x = ms_sG A x 32 := by unfold ms_lv; rw [ms_ic_f nx, ms_ic_t yes]
      rw [elv] at hq
      exact hq _ _ g1
  · have nx : ms_G A x = 32 := by have := (hL.1 x hx).1; omega
    have elv : ms_lv A x = A := by unfold ms_lv; rw [ms_ic_t nx]
    rw [elv] at hq
    refine br_t ((ms_CR_gz h hE hL he hx).mpr gx) (hq _ _ (ms_CR_ext g1 fun i hi => ⟨Iff.rfl, rfl, rfl, rfl, fun _ => ⟨rfl, rfl⟩, ?_, rfl, rfl⟩))
    by_cases q : i = x
    · subst q; rw [nx]; exact ms_fu_s
    · exact ms_fu_n q
theorem my_rmv (h : ms_CR e A us fs rt sp pa pt g m ub) (hE : ms_E e A) (he : e 32 = 0) (hL : ms_LI A) {post : SY → Prop} {x : Nat} (hx : x < 32)
    (hq : ∀ us' g' m', ms_CR e (ms_rv A x) us' fs rt sp pa pt g' m' ub → post (nI N, nI D, nI S, lv, us', fs, rt, sp, ub, pa, pt, g', m', v1, v2, v3, v4, v5, v6, v7, v8, v9)) : wpY_remove post (nI N, nI D, nI S, lv, us, fs, rt, sp, ub, pa, pt, g, m, v1, v2, v3, v4, v5, v6, v7, v8, v9) (nI x) := by
  have vx : vp_in (nI x) 32 := vp_in_nI hx (by omega)
  have cx : (nI x).toNatClampNeg = x := nI_clamp (by omega)
  unfold wpY_remove
  refine my_lvg h hE he hL hx fun g' m' h' => ⟨vx, ?_⟩
  rw [cx]
  have h2 := ms_CR_sM h' x 32
  rw [he] at h2
  exact nm_e ⟨vx, nm_e (hq _ _ _ (ms_CR_de h2 x (fun _ _ => rfl) (fun _ _ => rfl)))⟩
theorem ms_E_rv (hE : ms_E e A) {x : Nat} : ms_E e (ms_rv A x) := ms_E_mono hE fun _ h => ms_lv_La h
theorem my_chk (h : ms_CR e A us fs rt sp pa pt g m ub) (hE : ms_E e A) (he : e 32 = 0) (hL : ms_LI A) {post : Int32 → SY → Prop} {J : Int32 → Int32 → Int32 → Int32 → Int32 → (Nat → Int32) → (Nat → Int32) → (Nat → Int32) → (Nat → Int32) → (Nat → Int32) → (Nat → Int32) → (Nat → Int32) → (Nat → Int32) → (Nat → Int32) → (Nat → Int32) → (Nat → Int32) → (Nat → Int32) → (Nat → Int32) → (Nat → Int32) → (Nat → Int32) → (Nat → Int32) → (Nat → Int32) → (Nat → Int32) → (Nat → Int32) → Prop} {x : Nat} (hx : x < 32) {k a4 a6 a7 : Int32}
    (hq : ∀ e' g' m' ub', e' 32 = 0 → ms_E e' (ms_kd A x k) → ms_CR e' (ms_kd A x k) us fs rt sp pa pt g' m' ub' → ∀ y, y = nI x + 1 → J (a7 + 1) y (nI N) (nI D) (nI S) lv us fs rt sp ub' pa pt g' m' v1 v2 v3 v4 v5 v6 v7 v8 v9) : wY_setKind_109 post J k a4 a6 a7 (nI x) (nI N) (nI D) (nI S) lv us fs rt sp ub pa pt g m v1 v2 v3 v4 v5 v6 v7 v8 v9 := by
  have vx : vp_in (nI x) 32 := vp_in_nI hx (by omega)
  have cx : (nI x).toNatClampNeg = x := nI_clamp (by omega)
  refine ⟨vx, ?_⟩
  rw [cx]
  refine nm_e (nm_e ?_)
  by_cases k1 : k = 1
  · refine br_t k1 ?_
    have ek : ms_kd A x k = ms_ic (ms_G A x = 32) (ms_sB (ms_sG A x (ms_nl A)) x 0) A := if_pos k1
    rw [ek] at hq
    refine br_c (fun z => my_frh (ms_CR_live h hL he) fun r r0 fr => ⟨vx, ?_⟩) (fun z => ?_)
    · have nx : ms_G A x = 32 := by have := (hL.1 x hx).1; have := (ms_CR_gz h hE hL he hx).mp z; omega
      rw [ms_ic_t nx] at hq
      obtain ⟨l32, fl⟩ := ms_nl_ok hx nx
      obtain ⟨e', a1, a2, a3, _⟩ := ms_CR_new h hE hL he (x := x) l32 fl r0 fr
      exact nm_e ⟨vx, nm_e (hq e' _ _ _ a1 a2 (ms_CR_sB a3 x 0))⟩
    · have nx : ¬ ms_G A x = 32 := fun q => z ((ms_CR_gz h hE hL he hx).mpr (by omega))
      rw [ms_ic_f nx] at hq
      exact hq e _ _ _ he hE h
  · refine br_f k1 ?_
    have hE' : ms_E e (ms_lv A x) := ms_E_mono hE fun _ => ms_lv_La
    have hL' := ms_LI_lv hL hx
    by_cases k2 : k = 2
    · have ek : ms_kd A x k = ms_ic (∃ c, c < 32 ∧ ms_G (ms_lv A x) c = ms_G A x ∧ ms_G A x < 32) (ms_sM (ms_lv A x) x (ms_G A x)) (ms_lv A x) := by unfold ms_kd; rw [if_neg k1, if_pos k2]
      rw [ek] at hq
      refine br_t k2 (my_lvg h hE he hL hx fun g' m' h' => ?_)
      by_cases gx : ms_G A x < 32
      · have g0 : ¬ g x = 0 := fun q => (ms_CR_gz h hE hL he hx).mp q gx
        refine my_low g0 ?_
        have ex : ms_lo (fun c => g' c = g x) 32 < 32 ↔ ∃ c, c < 32 ∧ ms_G (ms_lv A x) c = ms_G A x ∧ ms_G A x < 32 := by
          constructor
          · intro z
            obtain ⟨j, hj, a⟩ : ∃ j, j < 32 ∧ g' j = g x := ⟨_, z, ms_lo_P (P := fun c => g' c = g x) (Nat.le_refl _) z⟩
            rw [ms_CR_g h' hj, ms_CR_g h hx] at a
            exact ⟨j, hj, hE _ _ (ms_lv_La (ms_La_G hj)) (ms_La_G hx) a, gx⟩
          · rintro ⟨c, hc, q, _⟩
            exact ms_lo_ex (Nat.le_refl _) hc (by rw [ms_CR_g h' hc, ms_CR_g h hx, q])
        refine br_c (fun z => ?_) (fun z => ⟨vx, ?_⟩)
        · rw [ms_ic_f (fun q => (ms_c_neg.mp z) (ex.mpr q))] at hq
          exact hq e _ _ _ he hE' h'
        · rw [ms_ic_t (ex.mp (Classical.byContradiction fun q => z (ms_c_neg.mpr q)))] at hq
          rw [ms_CR_g h hx]
          exact nm_e (hq e _ _ _ he hE' (ms_CR_sM h' x _))
      · rw [ms_ic_f (fun ⟨_, _, _, q⟩ => gx q)] at hq
        exact my_low_n ((ms_CR_gz h hE hL he hx).mpr gx) (br_t (by decide) (hq e _ _ _ he hE' h'))
    · have ek : ms_kd A x k = ms_sB (ms_sM (ms_lv A x) x 32) x (if k = 3 then 1 else 0) := by unfold ms_kd; rw [if_neg k1, if_neg k2]
      rw [ek] at hq
      refine br_f k2 (my_lvg h hE he hL hx fun g' m' h' => ⟨vx, ?_⟩)
      have h2 := ms_CR_sM h' x 32
      rw [he] at h2
      refine nm_e ?_
      by_cases k3 : k = 3
      · rw [if_pos k3] at hq
        exact br_t k3 ⟨vx, nm_e (hq e _ _ _ he hE' (ms_CR_sB h2 x 1))⟩
      · rw [if_neg k3] at hq
        exact br_f k3 ⟨vx, nm_e (hq e _ _ _ he hE' (ms_CR_sB h2 x 0))⟩
end
end
section
/-! the relation -/
def ms_In (N D S : Nat) (A : ms_AS) (lw : Nat → Prop) (rn : Nat → Nat) : Prop := N ≤ 32 ∧ 8 ≤ N ∧ D ≤ 15 ∧ S ≤ 4 ∧ ms_FI N lw rn A ∧ ms_LI A
def ms_XR (N D S : Nat) (A : ms_AS) (lw : Nat → Prop) (rn : Nat → Nat) (u : SX) : Prop := match u with
  | (f1, f2, f3, us, fs, rt, sp, pa, pt, g, m, ub, lv, rm, _, _, _, _, _, _, _, _, _, _, _) => f1 = nI N ∧ f2 = nI D ∧ f3 = nI S ∧ ms_CR ms_c A us fs rt sp pa pt g m ub ∧ (∀ s, s < 4 → (lv s = 0 ↔ ¬ lw s)) ∧ (∀ s, s < 4 → lw s → rm s = nI (rn s))
def ms_YR (N D S : Nat) (A : ms_AS) (lw : Nat → Prop) (e : Nat → Int32) (v : SY) : Prop := match v with
  | (f1, f2, f3, lv, us, fs, rt, sp, ub, pa, pt, g, m, _, _, _, _, _, _, _, _, _) => f1 = nI N ∧ f2 = nI D ∧ f3 = nI S ∧ ms_CR e A us fs rt sp pa pt g m ub ∧ (∀ s, s < 4 → (lv s = 0 ↔ ¬ lw s))
def i_Rel (_ : Nat) (u : SX) (v : SY) : Prop := ∃ (N D S : Nat) (A : ms_AS) (lw : Nat → Prop) (rn : Nat → Nat) (e : Nat → Int32), ms_In N D S A lw rn ∧ ms_XR N D S A lw rn u ∧ e 32 = 0 ∧ ms_E e A ∧ ms_YR N D S A lw e v
theorem i_up {k : Nat} {u : SX} {v : SY} (h : i_Rel k u v) : i_Rel (k + 5) u v := h
section
variable {N D S : Nat} {A : ms_AS} {lw : Nat → Prop} {rn : Nat → Nat} {e : Nat → Int32}
variable {us fs rt sp pa pt g m ub lv rm w1 w2 w3 w4 w5 w6 w7 w8 w9 wa wb : Nat → Int32} {lvy usy fsy rty spy uby pay pty gy my v1y v2y v3y v4y v5y v6y v7y v8y v9y : Nat → Int32}
theorem ms_mk {k : Nat} (hI : ms_In N D S A lw rn) (h : ms_CR ms_c A us fs rt sp pa pt g m ub) (hl : ∀ s, s < 4 → (lv s = 0 ↔ ¬ lw s)) (hr : ∀ s, s < 4 → lw s → rm s = nI (rn s)) (he : e 32 = 0) (hE : ms_E e A) (h' : ms_CR e A usy fsy rty spy pay pty gy my uby) (hl' : ∀ s, s < 4 → (lvy s = 0 ↔ ¬ lw s)) : i_Rel k (nI N, nI D, nI S, us, fs, rt, sp, pa, pt, g, m, ub, lv, rm, w1, w2, w3, w4, w5, w6, w7, w8, w9, wa, wb) (nI N, nI D, nI S, lvy, usy, fsy, rty, spy, uby, pay, pty, gy, my, v1y, v2y, v3y, v4y, v5y, v6y, v7y, v8y, v9y) :=
  ⟨N, D, S, A, lw, rn, e, hI, ⟨rfl, rfl, rfl, h, hl, hr⟩, he, hE, ⟨rfl, rfl, rfl, h', hl'⟩⟩
end
theorem ms_el {P : SX → SY → Prop} {k : Nat} {u : SX} {v : SY} (I : i_Rel k u v)
    (H : ∀ (N D S : Nat) (A : ms_AS) (lw : Nat → Prop) (rn : Nat → Nat) (e : Nat → Int32) (us fs rt sp pa pt g m ub lv rm w1 w2 w3 w4 w5 w6 w7 w8 w9 wa wb lvy usy fsy rty spy uby pay pty gy my v1y v2y v3y v4y v5y v6y v7y v8y v9y : Nat → Int32), ms_In N D S A lw rn → ms_CR ms_c A us fs rt sp pa pt g m ub → (∀ s, s < 4 → (lv s = 0 ↔ ¬ lw s)) → (∀ s, s < 4 → lw s → rm s = nI (rn s)) → e 32 = 0 → ms_E e A → ms_CR e A usy fsy rty spy pay pty gy my uby → (∀ s, s < 4 → (lvy s = 0 ↔ ¬ lw s)) → P (nI N, nI D, nI S, us, fs, rt, sp, pa, pt, g, m, ub, lv, rm, w1, w2, w3, w4, w5, w6, w7, w8, w9, wa, wb) (nI N, nI D, nI S, lvy, usy, fsy, rty, spy, uby, pay, pty, gy, my, v1y, v2y, v3y, v4y, v5y, v6y, v7y, v8y, v9y)) : P u v := by
  obtain ⟨N, D, S, A, lw, rn, e, hI, hx, he, hE, hy⟩ := I
  obtain ⟨f1, f2, f3, us, fs, rt, sp, pa, pt, g, m, ub, lv, rm, w1, w2, w3, w4, w5, w6, w7, w8, w9, wa, wb⟩ := u
  obtain ⟨z1, z2, z3, lvy, usy, fsy, rty, spy, uby, pay, pty, gy, my, v1y, v2y, v3y, v4y, v5y, v6y, v7y, v8y, v9y⟩ := v
  obtain ⟨rfl, rfl, rfl, h, hl, hr⟩ := hx
  obtain ⟨rfl, rfl, rfl, h', hl'⟩ := hy
  exact H N D S A lw rn e us fs rt sp pa pt g m ub lv rm w1 w2 w3 w4 w5 w6 w7 w8 w9 wa wb lvy usy fsy rty spy uby pay pty gy my v1y v2y v3y v4y v5y v6y v7y v8y v9y hI h hl hr he hE h' hl'
/-! live spaces, used numbers -/
section
variable {N D S : Nat} {us fs rt sp pa pt g m ub lv rm w1 w2 w3 w4 w5 w6 w7 w8 w9 wa wb : Nat → Int32}
variable {lw : Nat → Prop}
theorem mx_il1 (hS : S ≤ 4) (hl : ∀ s, s < 4 → (lv s = 0 ↔ ¬ lw s)) {post : Int32 → Prop} {s : Nat} (hs : s < S) (ls : lw s) (h : post 1) : wpX_isLive post (nI N, nI D, nI S, us, fs, rt, sp, pa, pt, g, m, ub, lv, rm, w1, w2, w3, w4, w5, w6, w7, w8, w9, wa, wb) (nI s) :=
  mx_isl hS _ (fun q => absurd ((hl s (by omega)).mp (q s hs rfl)) (fun z => z ls)) (fun _ _ _ _ => h)
theorem mx_il0 (hS : S ≤ 4) (hl : ∀ s, s < 4 → (lv s = 0 ↔ ¬ lw s)) {post : Int32 → Prop} {v1 : Int32} (hn : ¬ ∃ s, s < S ∧ v1 = nI s ∧ lw s) (h : post 0) : wpX_isLive post (nI N, nI D, nI S, us, fs, rt, sp, pa, pt, g, m, ub, lv, rm, w1, w2, w3, w4, w5, w6, w7, w8, w9, wa, wb) v1 :=
  mx_isl hS _ (fun _ => h) (fun s hs q z => absurd ⟨s, hs, q, Classical.byContradiction fun y => z ((hl s (by omega)).mpr y)⟩ hn)
variable {A : ms_AS}
theorem mx_iu1 (hN : N ≤ 32) (hu : ∀ i, i < 32 → (us i = 0 ↔ ¬ ms_U A i)) {post : Int32 → Prop} {s : Nat} (hs : s < N) (ls : ms_U A s) (h : post 1) : wpX_inUse post (nI N, nI D, nI S, us, fs, rt, sp, pa, pt, g, m, ub, lv, rm, w1, w2, w3, w4, w5, w6, w7, w8, w9, wa, wb) (nI s) :=
  mx_inu hN _ (fun q => absurd ((hu s (by omega)).mp (q s hs rfl)) (fun z => z ls)) (fun _ _ _ _ => h)
theorem mx_iu0 (hN : N ≤ 32) (hu : ∀ i, i < 32 → (us i = 0 ↔ ¬ ms_U A i)) {post : Int32 → Prop} {v1 : Int32} (hn : ¬ ∃ s, s < N ∧ v1 = nI s ∧ ms_U A s) (h : post 0) : wpX_inUse post (nI N, nI D, nI S, us, fs, rt, sp, pa, pt, g, m, ub, lv, rm, w1, w2, w3, w4, w5, w6, w7, w8, w9, wa, wb) v1 :=
  mx_inu hN _ (fun _ => h) (fun s hs q z => absurd ⟨s, hs, q, Classical.byContradiction fun y => z ((hu s (by omega)).mpr y)⟩ hn)
end
section
variable {N D S : Nat} {lv us fs rt sp ub pa pt g m v1 v2 v3 v4 v5 v6 v7 v8 v9 : Nat → Int32}
variable {lw : Nat → Prop}
theorem my_il1 (hS : S ≤ 4) (hl : ∀ s, s < 4 → (lv s = 0 ↔ ¬ lw s)) {post : Int32 → Prop} {s : Nat} (hs : s < S) (ls : lw s) (h : post 1) : wpY_isLive post (nI N, nI D, nI S, lv, us, fs, rt, sp, ub, pa, pt, g, m, v1, v2, v3, v4, v5, v6, v7, v8, v9) (nI s) :=
  my_isl hS _ (fun q => absurd ((hl s (by omega)).mp (q s hs rfl)) (fun z => z ls)) (fun _ _ _ _ => h)
theorem my_il0 (hS : S ≤ 4) (hl : ∀ s, s < 4 → (lv s = 0 ↔ ¬ lw s)) {post : Int32 → Prop} {a1 : Int32} (hn : ¬ ∃ s, s < S ∧ a1 = nI s ∧ lw s) (h : post 0) : wpY_isLive post (nI N, nI D, nI S, lv, us, fs, rt, sp, ub, pa, pt, g, m, v1, v2, v3, v4, v5, v6, v7, v8, v9) a1 :=
  my_isl hS _ (fun _ => h) (fun s hs q z => absurd ⟨s, hs, q, Classical.byContradiction fun y => z ((hl s (by omega)).mpr y)⟩ hn)
variable {A : ms_AS}
theorem my_iu1 (hN : N ≤ 32) (hu : ∀ i, i < 32 → (us i = 0 ↔ ¬ ms_U A i)) {post : Int32 → Prop} {s : Nat} (hs : s < N) (ls : ms_U A s) (h : post 1) : wpY_known post (nI N, nI D, nI S, lv, us, fs, rt, sp, ub, pa, pt, g, m, v1, v2, v3, v4, v5, v6, v7, v8, v9) (nI s) :=
  my_inu hN _ (fun q => absurd ((hu s (by omega)).mp (q s hs rfl)) (fun z => z ls)) (fun _ _ _ _ => h)
theorem my_iu0 (hN : N ≤ 32) (hu : ∀ i, i < 32 → (us i = 0 ↔ ¬ ms_U A i)) {post : Int32 → Prop} {a1 : Int32} (hn : ¬ ∃ s, s < N ∧ a1 = nI s ∧ ms_U A s) (h : post 0) : wpY_known post (nI N, nI D, nI S, lv, us, fs, rt, sp, ub, pa, pt, g, m, v1, v2, v3, v4, v5, v6, v7, v8, v9) a1 :=
  my_inu hN _ (fun _ => h) (fun s hs q z => absurd ⟨s, hs, q, Classical.byContradiction fun y => z ((hu s (by omega)).mpr y)⟩ hn)
end
end
section
/-! the queries -/
theorem i_vc_fs {k : Nat} {u : SX} {v : SY} (I : i_Rel k u v) (hk : k + 5 ≤ 2563) (v1 : Int32) : wpX_fs (fun r => wpY_fs (fun r' => r' = r ∧ i_Rel (k + 5) u v) v v1) u v1 := by
  refine ms_el (P := fun u v => wpX_fs (fun r => wpY_fs (fun r' => r' = r ∧ i_Rel (k + 5) u v) v v1) u v1) I ?_
  intro N D S A lw rn e us fs rt sp pa pt g m ub lv rm w1 w2 w3 w4 w5 w6 w7 w8 w9 wa wb lvy usy fsy rty spy uby pay pty gy my v1y v2y v3y v4y v5y v6y v7y v8y v9y hI h hl hr he hE h' hl'
  have J : i_Rel (k + 5) (nI N, nI D, nI S, us, fs, rt, sp, pa, pt, g, m, ub, lv, rm, w1, w2, w3, w4, w5, w6, w7, w8, w9, wa, wb) (nI N, nI D, nI S, lvy, usy, fsy, rty, spy, uby, pay, pty, gy, my, v1y, v2y, v3y, v4y, v5y, v6y, v7y, v8y, v9y) := ms_mk hI h hl hr he hE h' hl'
  obtain ⟨hN, _, _, _, hF, hL⟩ := hI
  unfold wpX_fs wpY_fs
  dsimp only
  by_cases c : ∃ s, s < N ∧ v1 = nI s ∧ ms_U A s
  · obtain ⟨s, hs, rfl, us1⟩ := c
    have s32 : s < 32 := by omega
    have vs : vp_in (nI s) 32 := vp_in_nI s32 (by omega)
    refine mx_iu1 hN (fun i hi => ms_CR_u h hi) hs us1 (br_f ms_10 ⟨vs, ?_⟩)
    refine my_iu1 hN (fun i hi => ms_CR_u h' hi) hs us1 (br_f ms_10 ⟨vs, ?_⟩)
    rw [nI_clamp (by omega)]
    refine ⟨?_, J⟩
    rw [ms_CR_f h s32, ms_CR_f h' s32]
  · exact mx_iu0 hN (fun i hi => ms_CR_u h hi) c (br_t rfl (my_iu0 hN (fun i hi => ms_CR_u h' hi) c (br_t rfl ⟨rfl, J⟩)))
theorem i_vc_root {k : Nat} {u : SX} {v : SY} (I : i_Rel k u v) (hk : k + 5 ≤ 2563) (v1 : Int32) : wpX_root (fun r => wpY_root (fun r' => r' = r ∧ i_Rel (k + 5) u v) v v1) u v1 := by
  refine ms_el (P := fun u v => wpX_root (fun r => wpY_root (fun r' => r' = r ∧ i_Rel (k + 5) u v) v v1) u v1) I ?_
  intro N D S A lw rn e us fs rt sp pa pt g m ub lv rm w1 w2 w3 w4 w5 w6 w7 w8 w9 wa wb lvy usy fsy rty spy uby pay pty gy my v1y v2y v3y v4y v5y v6y v7y v8y v9y hI h hl hr he hE h' hl'
  have J : i_Rel (k + 5) (nI N, nI D, nI S, us, fs, rt, sp, pa, pt, g, m, ub, lv, rm, w1, w2, w3, w4, w5, w6, w7, w8, w9, wa, wb) (nI N, nI D, nI S, lvy, usy, fsy, rty, spy, uby, pay, pty, gy, my, v1y, v2y, v3y, v4y, v5y, v6y, v7y, v8y, v9y) := ms_mk hI h hl hr he hE h' hl'
  obtain ⟨hN, _, _, _, hF, hL⟩ := hI
  unfold wpX_root wpY_root
  dsimp only
  by_cases c : ∃ s, s < N ∧ v1 = nI s ∧ ms_U A s
  · obtain ⟨s, hs, rfl, us1⟩ := c
    have s32 : s < 32 := by omega
    have vs : vp_in (nI s) 32 := vp_in_nI s32 (by omega)
    refine mx_iu1 hN (fun i hi => ms_CR_u h hi) hs us1 (br_f ms_10 ⟨vs, ?_⟩)
    refine my_iu1 hN (fun i hi => ms_CR_u h' hi) hs us1 (br_f ms_10 ⟨vs, ?_⟩)
    rw [nI_clamp (by omega)]
    refine ⟨?_, J⟩
    rw [ms_CR_r h s32, ms_CR_r h' s32]
  · exact mx_iu0 hN (fun i hi => ms_CR_u h hi) c (br_t rfl (my_iu0 hN (fun i hi => ms_CR_u h' hi) c (br_t rfl ⟨rfl, J⟩)))
theorem i_vc_space {k : Nat} {u : SX} {v : SY} (I : i_Rel k u v) (hk : k + 5 ≤ 2563) (v1 : Int32) : wpX_space (fun r => wpY_space (fun r' => r' = r ∧ i_Rel (k + 5) u v) v v1) u v1 := by
  refine ms_el (P := fun u v => wpX_space (fun r => wpY_space (fun r' => r' = r ∧ i_Rel (k + 5) u v) v v1) u v1) I ?_
  intro N D S A lw rn e us fs rt sp pa pt g m ub lv rm w1 w2 w3 w4 w5 w6 w7 w8 w9 wa wb lvy usy fsy rty spy uby pay pty gy my v1y v2y v3y v4y v5y v6y v7y v8y v9y hI h hl hr he hE h' hl'
  have J : i_Rel (k + 5) (nI N, nI D, nI S, us, fs, rt, sp, pa, pt, g, m, ub, lv, rm, w1, w2, w3, w4, w5, w6, w7, w8, w9, wa, wb) (nI N, nI D, nI S, lvy, usy, fsy, rty, spy, uby, pay, pty, gy, my, v1y, v2y, v3y, v4y, v5y, v6y, v7y, v8y, v9y) := ms_mk hI h hl hr he hE h' hl'
  obtain ⟨hN, _, _, _, hF, hL⟩ := hI
  unfold wpX_space wpY_space
  dsimp only
  by_cases c : ∃ s, s < N ∧ v1 = nI s ∧ ms_U A s
  · obtain ⟨s, hs, rfl, us1⟩ := c
    have s32 : s < 32 := by omega
    have vs : vp_in (nI s) 32 := vp_in_nI s32 (by omega)
    refine mx_iu1 hN (fun i hi => ms_CR_u h hi) hs us1 (br_f ms_10 ⟨vs, ?_⟩)
    refine my_iu1 hN (fun i hi => ms_CR_u h' hi) hs us1 (br_f ms_10 ⟨vs, ?_⟩)
    rw [nI_clamp (by omega)]
    refine ⟨?_, J⟩
    rw [ms_CR_s h s32, ms_CR_s h' s32]
  · exact mx_iu0 hN (fun i hi => ms_CR_u h hi) c (br_t rfl (my_iu0 hN (fun i hi => ms_CR_u h' hi) c (br_t rfl ⟨rfl, J⟩)))
theorem i_vc_parent {k : Nat} {u : SX} {v : SY} (I : i_Rel k u v) (hk : k + 5 ≤ 2563) (v1 : Int32) : wpX_parent (fun r => wpY_parent (fun r' => r' = r ∧ i_Rel (k + 5) u v) v v1) u v1 := by
  refine ms_el (P := fun u v => wpX_parent (fun r => wpY_parent (fun r' => r' = r ∧ i_Rel (k + 5) u v) v v1) u v1) I ?_
  intro N D S A lw rn e us fs rt sp pa pt g m ub lv rm w1 w2 w3 w4 w5 w6 w7 w8 w9 wa wb lvy usy fsy rty spy uby pay pty gy my v1y v2y v3y v4y v5y v6y v7y v8y v9y hI h hl hr he hE h' hl'
  have J : i_Rel (k + 5) (nI N, nI D, nI S, us, fs, rt, sp, pa, pt, g, m, ub, lv, rm, w1, w2, w3, w4, w5, w6, w7, w8, w9, wa, wb) (nI N, nI D, nI S, lvy, usy, fsy, rty, spy, uby, pay, pty, gy, my, v1y, v2y, v3y, v4y, v5y, v6y, v7y, v8y, v9y) := ms_mk hI h hl hr he hE h' hl'
  obtain ⟨hN, _, _, _, hF, hL⟩ := hI
  unfold wpX_parent wpY_parent
  dsimp only
  by_cases c : ∃ s, s < N ∧ v1 = nI s ∧ ms_U A s
  · obtain ⟨s, hs, rfl, us1⟩ := c
    have s32 : s < 32 := by omega
    have vs : vp_in (nI s) 32 := vp_in_nI s32 (by omega)
    refine mx_iu1 hN (fun i hi => ms_CR_u h hi) hs us1 (br_f ms_10 ⟨vs, ?_⟩)
    refine my_iu1 hN (fun i hi => ms_CR_u h' hi) hs us1 (br_f ms_10 ⟨vs, ?_⟩)
    rw [nI_clamp (by omega)]
    refine ⟨?_, J⟩
    rw [ms_CR_p h s32 us1, ms_CR_p h' s32 us1]
  · exact mx_iu0 hN (fun i hi => ms_CR_u h hi) c (br_t rfl (my_iu0 hN (fun i hi => ms_CR_u h' hi) c (br_t rfl ⟨rfl, J⟩)))
theorem i_vc_point {k : Nat} {u : SX} {v : SY} (I : i_Rel k u v) (hk : k + 5 ≤ 2563) (v1 : Int32) : wpX_point (fun r => wpY_point (fun r' => r' = r ∧ i_Rel (k + 5) u v) v v1) u v1 := by
  refine ms_el (P := fun u v => wpX_point (fun r => wpY_point (fun r' => r' = r ∧ i_Rel (k + 5) u v) v v1) u v1) I ?_
  intro N D S A lw rn e us fs rt sp pa pt g m ub lv rm w1 w2 w3 w4 w5 w6 w7 w8 w9 wa wb lvy usy fsy rty spy uby pay pty gy my v1y v2y v3y v4y v5y v6y v7y v8y v9y hI h hl hr he hE h' hl'
  have J : i_Rel (k + 5) (nI N, nI D, nI S, us, fs, rt, sp, pa, pt, g, m, ub, lv, rm, w1, w2, w3, w4, w5, w6, w7, w8, w9, wa, wb) (nI N, nI D, nI S, lvy, usy, fsy, rty, spy, uby, pay, pty, gy, my, v1y, v2y, v3y, v4y, v5y, v6y, v7y, v8y, v9y) := ms_mk hI h hl hr he hE h' hl'
  obtain ⟨hN, _, _, _, hF, hL⟩ := hI
  unfold wpX_point wpY_point
  dsimp only
  by_cases c : ∃ s, s < N ∧ v1 = nI s ∧ ms_U A s
  · obtain ⟨s, hs, rfl, us1⟩ := c
    have s32 : s < 32 := by omega
    have vs : vp_in (nI s) 32 := vp_in_nI s32 (by omega)
    refine mx_iu1 hN (fun i hi => ms_CR_u h hi) hs us1 (br_f ms_10 ⟨vs, ?_⟩)
    refine my_iu1 hN (fun i hi => ms_CR_u h' hi) hs us1 (br_f ms_10 ⟨vs, ?_⟩)
    rw [nI_clamp (by omega)]
    refine ⟨?_, J⟩
    rw [ms_CR_q h s32 us1, ms_CR_q h' s32 us1]
  · exact mx_iu0 hN (fun i hi => ms_CR_u h hi) c (br_t rfl (my_iu0 hN (fun i hi => ms_CR_u h' hi) c (br_t rfl ⟨rfl, J⟩)))
theorem i_vc_unbindable {k : Nat} {u : SX} {v : SY} (I : i_Rel k u v) (hk : k + 5 ≤ 2563) (v1 : Int32) : wpX_unbindable (fun r => wpY_unbindable (fun r' => r' = r ∧ i_Rel (k + 5) u v) v v1) u v1 := by
  refine ms_el (P := fun u v => wpX_unbindable (fun r => wpY_unbindable (fun r' => r' = r ∧ i_Rel (k + 5) u v) v v1) u v1) I ?_
  intro N D S A lw rn e us fs rt sp pa pt g m ub lv rm w1 w2 w3 w4 w5 w6 w7 w8 w9 wa wb lvy usy fsy rty spy uby pay pty gy my v1y v2y v3y v4y v5y v6y v7y v8y v9y hI h hl hr he hE h' hl'
  have J : i_Rel (k + 5) (nI N, nI D, nI S, us, fs, rt, sp, pa, pt, g, m, ub, lv, rm, w1, w2, w3, w4, w5, w6, w7, w8, w9, wa, wb) (nI N, nI D, nI S, lvy, usy, fsy, rty, spy, uby, pay, pty, gy, my, v1y, v2y, v3y, v4y, v5y, v6y, v7y, v8y, v9y) := ms_mk hI h hl hr he hE h' hl'
  obtain ⟨hN, _, _, _, hF, hL⟩ := hI
  unfold wpX_unbindable wpY_unbindable
  dsimp only
  by_cases c : ∃ s, s < N ∧ v1 = nI s ∧ ms_U A s
  · obtain ⟨s, hs, rfl, us1⟩ := c
    have s32 : s < 32 := by omega
    have vs : vp_in (nI s) 32 := vp_in_nI s32 (by omega)
    refine mx_iu1 hN (fun i hi => ms_CR_u h hi) hs us1 (br_f ms_10 ⟨vs, ?_⟩)
    refine my_iu1 hN (fun i hi => ms_CR_u h' hi) hs us1 (br_f ms_10 ⟨vs, ?_⟩)
    rw [nI_clamp (by omega)]
    refine ⟨?_, J⟩
    rw [ms_CR_b h s32, ms_CR_b h' s32]
  · exact mx_iu0 hN (fun i hi => ms_CR_u h hi) c (br_t rfl (my_iu0 hN (fun i hi => ms_CR_u h' hi) c (br_t rfl ⟨rfl, J⟩)))
theorem i_vc_peer {k : Nat} {u : SX} {v : SY} (I : i_Rel k u v) (hk : k + 5 ≤ 2563) (v1 : Int32) : wpX_peer (fun r => wpY_peer (fun r' => r' = r ∧ i_Rel (k + 5) u v) v v1) u v1 := by
  refine ms_el (P := fun u v => wpX_peer (fun r => wpY_peer (fun r' => r' = r ∧ i_Rel (k + 5) u v) v v1) u v1) I ?_
  intro N D S A lw rn e us fs rt sp pa pt g m ub lv rm w1 w2 w3 w4 w5 w6 w7 w8 w9 wa wb lvy usy fsy rty spy uby pay pty gy my v1y v2y v3y v4y v5y v6y v7y v8y v9y hI h hl hr he hE h' hl'
  have J : i_Rel (k + 5) (nI N, nI D, nI S, us, fs, rt, sp, pa, pt, g, m, ub, lv, rm, w1, w2, w3, w4, w5, w6, w7, w8, w9, wa, wb) (nI N, nI D, nI S, lvy, usy, fsy, rty, spy, uby, pay, pty, gy, my, v1y, v2y, v3y, v4y, v5y, v6y, v7y, v8y, v9y) := ms_mk hI h hl hr he hE h' hl'
  obtain ⟨hN, _, _, _, hF, hL⟩ := hI
  unfold wpX_peer wpY_peer
  dsimp only
  by_cases c : ∃ s, s < N ∧ v1 = nI s ∧ ms_U A s
  · obtain ⟨s, hs, rfl, us1⟩ := c
    have s32 : s < 32 := by omega
    have vs : vp_in (nI s) 32 := vp_in_nI s32 (by omega)
    refine mx_iu1 hN (fun i hi => ms_CR_u h hi) hs us1 (br_f ms_10 ⟨vs, ?_⟩)
    rw [nI_clamp (by omega)]
    have la : ms_La A (ms_G A s) := ms_La_G s32
    have l32 := ms_La_le hL la
    rw [ms_CR_g h s32]
    by_cases z : ms_G A s < 32
    · refine mx_low hN (ms_c_le.mpr z) ?_
      refine my_iu1 hN (fun i hi => ms_CR_u h' hi) hs us1 (br_f ms_10 ⟨vs, ?_⟩)
      rw [ms_CR_g h' s32]
      refine my_low (fun q => ?_) ⟨?_, J⟩
      · rw [← he] at q
        have := hE _ _ la (Or.inl rfl) q
        omega
      · rw [← ms_lo_cut hN (fun j a b q => ?_)]
        · refine congrArg ms_c (ms_lo_congr (Nat.le_refl _) fun c hc => ?_)
          rw [ms_CR_g h' hc, ms_CR_g h hc, ms_E_iff hE (ms_La_G hc) la, ms_c_inj (hL.1 c hc).1 l32]
        · rw [ms_CR_g h b, ms_c_inj (hL.1 j b).1 l32] at q
          have u : ms_U A j := Classical.byContradiction fun n => by have := (hL.2.1 j b n).1; omega
          have := (hF.1 j b u).1
          omega
    · refine mx_low_n (fun q => z (ms_c_le.mp q)) ?_
      refine my_iu1 hN (fun i hi => ms_CR_u h' hi) hs us1 (br_f ms_10 ⟨vs, ?_⟩)
      rw [ms_CR_g h' s32]
      refine my_low_n ?_ ⟨rfl, J⟩
      rw [show ms_G A s = 32 by omega, he]
  · exact mx_iu0 hN (fun i hi => ms_CR_u h hi) c (br_t rfl (my_iu0 hN (fun i hi => ms_CR_u h' hi) c (br_t rfl ⟨rfl, J⟩)))
theorem i_vc_master {k : Nat} {u : SX} {v : SY} (I : i_Rel k u v) (hk : k + 5 ≤ 2563) (v1 : Int32) : wpX_master (fun r => wpY_master (fun r' => r' = r ∧ i_Rel (k + 5) u v) v v1) u v1 := by
  refine ms_el (P := fun u v => wpX_master (fun r => wpY_master (fun r' => r' = r ∧ i_Rel (k + 5) u v) v v1) u v1) I ?_
  intro N D S A lw rn e us fs rt sp pa pt g m ub lv rm w1 w2 w3 w4 w5 w6 w7 w8 w9 wa wb lvy usy fsy rty spy uby pay pty gy my v1y v2y v3y v4y v5y v6y v7y v8y v9y hI h hl hr he hE h' hl'
  have J : i_Rel (k + 5) (nI N, nI D, nI S, us, fs, rt, sp, pa, pt, g, m, ub, lv, rm, w1, w2, w3, w4, w5, w6, w7, w8, w9, wa, wb) (nI N, nI D, nI S, lvy, usy, fsy, rty, spy, uby, pay, pty, gy, my, v1y, v2y, v3y, v4y, v5y, v6y, v7y, v8y, v9y) := ms_mk hI h hl hr he hE h' hl'
  obtain ⟨hN, _, _, _, hF, hL⟩ := hI
  unfold wpX_master wpY_master
  dsimp only
  by_cases c : ∃ s, s < N ∧ v1 = nI s ∧ ms_U A s
  · obtain ⟨s, hs, rfl, us1⟩ := c
    have s32 : s < 32 := by omega
    have vs : vp_in (nI s) 32 := vp_in_nI s32 (by omega)
    refine mx_iu1 hN (fun i hi => ms_CR_u h hi) hs us1 (br_f ms_10 ⟨vs, ?_⟩)
    rw [nI_clamp (by omega)]
    have la : ms_La A (ms_M A s) := ms_La_M hL s32
    have l32 := ms_La_le hL la
    rw [ms_CR_m h s32]
    by_cases z : ms_M A s < 32
    · refine mx_low hN (ms_c_le.mpr z) ?_
      refine my_iu1 hN (fun i hi => ms_CR_u h' hi) hs us1 (br_f ms_10 ⟨vs, ?_⟩)
      rw [ms_CR_m h' s32]
      refine my_low (fun q => ?_) ⟨?_, J⟩
      · rw [← he] at q
        have := hE _ _ la (Or.inl rfl) q
        omega
      · rw [← ms_lo_cut hN (fun j a b q => ?_)]
        · refine congrArg ms_c (ms_lo_congr (Nat.le_refl _) fun c hc => ?_)
          rw [ms_CR_g h' hc, ms_CR_g h hc, ms_E_iff hE (ms_La_G hc) la, ms_c_inj (hL.1 c hc).1 l32]
        · rw [ms_CR_g h b, ms_c_inj (hL.1 j b).1 l32] at q
          have u : ms_U A j := Classical.byContradiction fun n => by have := (hL.2.1 j b n).1; omega
          have := (hF.1 j b u).1
          omega
    · refine mx_low_n (fun q => z (ms_c_le.mp q)) ?_
      refine my_iu1 hN (fun i hi => ms_CR_u h' hi) hs us1 (br_f ms_10 ⟨vs, ?_⟩)
      rw [ms_CR_m h' s32]
      refine my_low_n ?_ ⟨rfl, J⟩
      rw [show ms_M A s = 32 by omega, he]
  · exact mx_iu0 hN (fun i hi => ms_CR_u h hi) c (br_t rfl (my_iu0 hN (fun i hi => ms_CR_u h' hi) c (br_t rfl ⟨rfl, J⟩)))
theorem i_vc_resolve {k : Nat} {u : SX} {v : SY} (I : i_Rel k u v) (hk : k + 5 ≤ 2563) (v1 : Int32) (v2 : Int32) : wpX_resolve (fun r => wpY_resolve (fun r' => r' = r ∧ i_Rel (k + 5) u v) v v1 v2) u v1 v2 := by
  refine ms_el (P := fun u v => wpX_resolve (fun r => wpY_resolve (fun r' => r' = r ∧ i_Rel (k + 5) u v) v v1 v2) u v1 v2) I ?_
  intro N D S A lw rn e us fs rt sp pa pt g m ub lv rm w1 w2 w3 w4 w5 w6 w7 w8 w9 wa wb lvy usy fsy rty spy uby pay pty gy my v1y v2y v3y v4y v5y v6y v7y v8y v9y hI h hl hr he hE h' hl'
  have J : i_Rel (k + 5) (nI N, nI D, nI S, us, fs, rt, sp, pa, pt, g, m, ub, lv, rm, w1, w2, w3, w4, w5, w6, w7, w8, w9, wa, wb) (nI N, nI D, nI S, lvy, usy, fsy, rty, spy, uby, pay, pty, gy, my, v1y, v2y, v3y, v4y, v5y, v6y, v7y, v8y, v9y) := ms_mk hI h hl hr he hE h' hl'
  obtain ⟨hN, _, hD, hS, hF, hL⟩ := hI
  unfold wpX_resolve wpY_resolve
  dsimp only
  by_cases c : ∃ s, s < S ∧ v1 = nI s ∧ lw s
  · obtain ⟨s, hs, rfl, ls⟩ := c
    exact mx_il1 hS hl hs ls (br_f ms_10 (mx_walk h hF hN hD (by omega) ls (hr s (by omega) ls) (my_il1 hS hl' hs ls (br_f ms_10 (my_walk h' hF hN hD (by omega) ls ⟨rfl, J⟩)))))
  · exact mx_il0 hS hl c (br_t rfl (my_il0 hS hl' c (br_t rfl ⟨rfl, J⟩)))
end
section
/-! the constructors -/
def ms_cl (p a b : Int32) : Int32 := if a ≤ p then (if p ≤ b then p else b) else a
theorem ms_cl_n (p : Int32) {a b : Nat} (h : a ≤ b) (hb : b < 2 ^ 31) : ∃ n, a ≤ n ∧ n ≤ b ∧ ms_cl p (nI a) (nI b) = nI n := by
  unfold ms_cl
  by_cases z : nI a ≤ p
  · rw [if_pos z]
    by_cases y : p ≤ nI b
    · rw [if_pos y]
      have p0 : ¬ p < 0 := fun q => by
        have a0 := nI_pos' (n := a) (by omega)
        exact absurd (Int32.lt_of_le_of_lt (Int32.le_trans a0 z) q) (by decide)
      obtain ⟨j, hj, e⟩ := nI_of p0
      subst e
      rw [nI_leI (by omega) hj] at z
      rw [nI_leI hj hb] at y
      exact ⟨j, z, y, rfl⟩
    · rw [if_neg y]; exact ⟨b, h, Nat.le_refl _, rfl⟩
  · rw [if_neg z]; exact ⟨a, Nat.le_refl _, h, rfl⟩
theorem mx_clamp {post : Int32 → Prop} {u : SX} {p a b : Int32} (h : post (ms_cl p a b)) : wpX_clamp post u p a b := by
  obtain ⟨f1, f2, f3, us, fs, rt, sp, pa, pt, g, m, ub, lv, rm, w1, w2, w3, w4, w5, w6, w7, w8, w9, wa, wb⟩ := u
  unfold ms_cl at h
  refine br_c (fun z => ?_) (fun z => ?_)
  · rw [if_pos z] at h
    refine br_c (fun y => ?_) (fun y => ?_)
    · rw [if_pos y] at h; exact h
    · rw [if_neg y] at h; exact h
  · rw [if_neg z] at h; exact h
def ms_A0 : ms_AS := (fun i => i = 0, fun _ => 0, fun _ => 0, fun _ => 0, fun _ => 32, fun _ => 32, fun _ => 32, fun _ => 32, fun _ => 0)
theorem ms_A0_F {N : Nat} (hN : 8 ≤ N) : ms_FI N (fun s => s = 0) (fun _ => 0) ms_A0 := by
  simp only [ms_FI, ms_A0, ms_U_mk, ms_S_mk, ms_P_mk, ms_Q_mk, ms_R_mk]
  refine ⟨fun i _ e => ⟨by omega, by omega, trivial, by omega, by omega⟩, fun i _ => by omega, fun i _ _ h => by omega, fun s _ e => ⟨by omega, trivial, e.symm, trivial, fun i _ u _ _ => u⟩, fun _ => 0, fun i _ _ h => by omega⟩
theorem ms_A0_L : ms_LI ms_A0 := by
  simp only [ms_LI, ms_A0, ms_U_mk, ms_G_mk, ms_M_mk]
  exact ⟨fun i _ => ⟨by omega, by omega⟩, fun i _ _ => ⟨trivial, trivial⟩, fun i _ h => by omega, fun i j _ _ _ _ => trivial, fun _ => 0, fun i _ h => by omega⟩
theorem ms_cl_br {A : Int32 → Prop} {p a b : Int32} (h : A (ms_cl p a b)) : (a ≤ p → (p ≤ b → A p) ∧ (¬ p ≤ b → A b)) ∧ (¬ a ≤ p → A a) := by
  unfold ms_cl at h
  refine br_c (fun z => br_c (fun y => ?_) (fun y => ?_)) (fun z => ?_)
  · rw [if_pos z, if_pos y] at h; exact h
  · rw [if_pos z, if_neg y] at h; exact h
  · rw [if_neg z] at h; exact h
theorem my_init {post : SY → Prop} {k0 k1 k2 : Int32} (h : wY_init_227 post (ms_cl k2 2 4) (ms_cl k0 8 32) (ms_cl k1 3 15) 0 (fun _ => 0) (fun _ => 0) (fun _ => 0) (fun _ => 0) (fun _ => 0) (fun _ => 0) (fun _ => 0) (fun _ => 0) (fun _ => 0) (fun _ => 0) (fun _ => 0) (fun _ => 0) (fun _ => 0) (fun _ => 0) (fun _ => 0) (fun _ => 0) (fun _ => 0) (fun _ => 0) (fun _ => 0)) : wpY_init post k0 k1 k2 :=
  ms_cl_br (A := fun a => wY_init_179 post k1 k2 a 0 0 0 (fun _ => 0) (fun _ => 0) (fun _ => 0) (fun _ => 0) (fun _ => 0) (fun _ => 0) (fun _ => 0) (fun _ => 0) (fun _ => 0) (fun _ => 0) (fun _ => 0) (fun _ => 0) (fun _ => 0) (fun _ => 0) (fun _ => 0) (fun _ => 0) (fun _ => 0) (fun _ => 0) (fun _ => 0)) (ms_cl_br (A := fun b => wY_init_204 post k2 b (ms_cl k0 8 32) 0 0 (fun _ => 0) (fun _ => 0) (fun _ => 0) (fun _ => 0) (fun _ => 0) (fun _ => 0) (fun _ => 0) (fun _ => 0) (fun _ => 0) (fun _ => 0) (fun _ => 0) (fun _ => 0) (fun _ => 0) (fun _ => 0) (fun _ => 0) (fun _ => 0) (fun _ => 0) (fun _ => 0) (fun _ => 0)) (ms_cl_br (A := fun c => wY_init_227 post c (ms_cl k0 8 32) (ms_cl k1 3 15) 0 (fun _ => 0) (fun _ => 0) (fun _ => 0) (fun _ => 0) (fun _ => 0) (fun _ => 0) (fun _ => 0) (fun _ => 0) (fun _ => 0) (fun _ => 0) (fun _ => 0) (fun _ => 0) (fun _ => 0) (fun _ => 0) (fun _ => 0) (fun _ => 0) (fun _ => 0) (fun _ => 0) (fun _ => 0)) h))
theorem mx_init {post : SX → Prop} {k0 k1 k2 : Int32} (h : ∀ us pa pt g m lv : Nat → Int32, (∀ j, j < 32 → (us j = 0 ↔ ¬ j = 0) ∧ pa j = -1 ∧ pt j = -1 ∧ g j = -1 ∧ m j = -1) → (∀ s, s < 4 → (lv s = 0 ↔ ¬ s = 0)) → post (ms_cl k0 8 32, ms_cl k1 3 15, ms_cl k2 2 4, us, (fun _ => 0), (fun _ => 0), (fun _ => 0), pa, pt, g, m, (fun _ => 0), lv, (fun _ => 0), (fun _ => 0), (fun _ => 0), (fun _ => 0), (fun _ => 0), (fun _ => 0), (fun _ => 0), (fun _ => 0), (fun _ => 0), (fun _ => 0), (fun _ => 0), (fun _ => 0))) : wpX_init post k0 k1 k2 := by
  unfold wpX_init
  refine mx_clamp (mx_clamp (mx_clamp ?_))
  refine ms_lp (fun n i (s : (Nat → Int32) × (Nat → Int32) × (Nat → Int32) × (Nat → Int32)) => wX_init_218 post (ms_cl k0 8 32) (ms_cl k1 3 15) (ms_cl k2 2 4) n i (fun _ => 0) (fun _ => 0) (fun _ => 0) (fun _ => 0) s.1 s.2.1 s.2.2.1 s.2.2.2 (fun _ => 0) (fun _ => 0) (fun _ => 0) (fun _ => 0) (fun _ => 0) (fun _ => 0) (fun _ => 0) (fun _ => 0) (fun _ => 0) (fun _ => 0) (fun _ => 0) (fun _ => 0) (fun _ => 0) (fun _ => 0)) (fun i s => ∀ j, j < i → s.1 j = -1 ∧ s.2.1 j = -1 ∧ s.2.2.1 j = -1 ∧ s.2.2.2 j = -1) 32 (Nat.le_refl _) ((fun _ => 0), (fun _ => 0), (fun _ => 0), (fun _ => 0)) lt_0 (fun n s hI => ?_) (fun n i s hi ci vi ni hI go => ?_)
  · refine br_t (nI_le (b := 32) (Nat.le_refl _) (by omega)) (nm_e (nm_e (h _ _ _ _ _ _ (fun j hj => ⟨?_, hI j hj⟩) (fun s hs => ?_))))
    · by_cases q : j = 0
      · subst q
        rw [ms_us, ms_b1]
        exact ⟨fun z => absurd z ms_10, fun z => absurd rfl z⟩
      · rw [ms_un' q]
        exact ⟨fun _ => q, fun _ => rfl⟩
    · by_cases q : s = 0
      · subst q
        rw [ms_us, ms_b1]
        exact ⟨fun z => absurd z ms_10, fun z => absurd rfl z⟩
      · rw [ms_un' q]
        exact ⟨fun _ => q, fun _ => rfl⟩
  · refine br_f ni ⟨vi, ?_⟩
    rw [ci]
    refine nm_e ⟨vi, nm_e ⟨vi, nm_e ⟨vi, nm_e (go (upd s.1 i (-1), upd s.2.1 i (-1), upd s.2.2.1 i (-1), upd s.2.2.2 i (-1)) (lt_s (fun j hj => ?_) ?_))⟩⟩⟩
    · dsimp only
      rw [ms_un' (by omega), ms_un' (by omega), ms_un' (by omega), ms_un' (by omega)]; exact hI j hj
    · dsimp only
      rw [ms_us, ms_us, ms_us, ms_us]; exact ⟨rfl, rfl, rfl, rfl⟩
theorem i_vc0 (k0 : Int32) (k1 : Int32) (k2 : Int32) : wpX_init (fun u => wpY_init (fun v => i_Rel 3 u v) k0 k1 k2) k0 k1 k2 := by
  obtain ⟨N, n1, n2, eN⟩ := ms_cl_n k0 (a := 8) (b := 32) (by omega) (by omega)
  obtain ⟨D, d1, d2, eD⟩ := ms_cl_n k1 (a := 3) (b := 15) (by omega) (by omega)
  obtain ⟨S, s1, s2, eS⟩ := ms_cl_n k2 (a := 2) (b := 4) (by omega) (by omega)
  have eN' : ms_cl k0 8 32 = nI N := eN
  have eD' : ms_cl k1 3 15 = nI D := eD
  have eS' : ms_cl k2 2 4 = nI S := eS
  have hE : ms_E (fun _ => (0 : Int32)) ms_A0 := by
    have l : ∀ a, ms_La ms_A0 a → a = 32 := fun a h => h.elim id fun ⟨_, _, q⟩ => q.symm
    exact fun a b ha hb _ => by rw [l a ha, l b hb]
  refine mx_init fun us pa pt g m lv hX hlv => my_init ?_
  rw [eN', eD', eS']
  refine nm_e (nm_e (nm_e (nm_e (ms_mk (A := ms_A0) (lw := fun s => s = 0) (rn := fun _ => 0) (e := fun _ => 0) ⟨n2, n1, d2, s2, ms_A0_F n1, ms_A0_L⟩ ?_ hlv (fun _ _ _ => rfl) rfl hE ?_ ?_))))
  · intro i hi
    obtain ⟨a1, a2, a3, a4, a5⟩ := hX i hi
    simp only [ms_A0, ms_U_mk, ms_F_mk, ms_R_mk, ms_S_mk, ms_P_mk, ms_Q_mk, ms_G_mk, ms_M_mk, ms_B_mk, ms_c_32, nI_0]
    exact ⟨a1, trivial, trivial, trivial, fun _ => ⟨a2, a3⟩, a4, a5, trivial⟩
  · intro i hi
    simp only [ms_A0, ms_U_mk, ms_F_mk, ms_R_mk, ms_S_mk, ms_P_mk, ms_Q_mk, ms_G_mk, ms_M_mk, ms_B_mk, ms_c_32, nI_0]
    by_cases q : i = 0
    · subst q
      simp only [ms_us, ms_b1]
      exact ⟨⟨fun z => absurd z ms_10, fun z => absurd trivial z⟩, trivial, trivial, trivial, fun _ => ⟨trivial, trivial⟩, trivial, trivial, trivial⟩
    · simp only [ms_un' q]
      exact ⟨⟨fun _ => q, fun _ => trivial⟩, trivial, trivial, trivial, fun z => absurd z q, trivial, trivial, trivial⟩
  · intro s hs
    by_cases q : s = 0
    · subst q
      rw [ms_us, ms_b1]
      exact ⟨fun z => absurd z ms_10, fun z => absurd rfl z⟩
    · rw [ms_un' q]
      exact ⟨fun _ => q, fun _ => rfl⟩
end
section
/-! dropSpace and setKind -/
noncomputable def ms_df (s x : Nat) (A : ms_AS) : ms_AS := ms_ic (ms_U A x ∧ ms_S A x = s) (ms_rv A x) A
theorem ms_df_t {A : ms_AS} {s x : Nat} (h : ms_U A x ∧ ms_S A x = s) : ms_df s x A = ms_rv A x := ms_ic_t h
theorem ms_df_f {A : ms_AS} {s x : Nat} (h : ¬ (ms_U A x ∧ ms_S A x = s)) : ms_df s x A = A := ms_ic_f h
def ms_DI (A : ms_AS) (s i : Nat) (B : ms_AS) : Prop := ms_LI B ∧ (∀ j, ms_U B j ↔ (ms_U A j ∧ ¬ (j < i ∧ ms_S A j = s))) ∧ ms_F B = ms_F A ∧ ms_R B = ms_R A ∧ ms_S B = ms_S A ∧ ms_P B = ms_P A ∧ ms_Q B = ms_Q A ∧ ms_B B = ms_B A
theorem ms_rv_k {A : ms_AS} {x : Nat} : (∀ j, ms_U (ms_rv A x) j ↔ (ms_U A j ∧ j ≠ x)) ∧ ms_F (ms_rv A x) = ms_F A ∧ ms_R (ms_rv A x) = ms_R A ∧ ms_S (ms_rv A x) = ms_S A ∧ ms_P (ms_rv A x) = ms_P A ∧ ms_Q (ms_rv A x) = ms_Q A ∧ ms_B (ms_rv A x) = ms_B A := by
  obtain ⟨l1, l2, l3, l4, l5, l6⟩ := ms_lv_k (A := A) (x := x)
  refine ⟨fun j => ?_, l1, l2, l3, l4, l5, l6⟩
  have : ms_U (ms_rv A x) j = (ms_U (ms_lv A x) j ∧ j ≠ x) := rfl
  rw [this, ms_lv_U]
theorem ms_DI_s {A B : ms_AS} {s i : Nat} (hi : i < 32) (h : ms_DI A s i B) : ms_DI A s (i + 1) (ms_df s i B) := by
  obtain ⟨h1, h2, h3, h4, h5, h6, h7, h8⟩ := h
  unfold ms_df
  by_cases z : ms_U B i ∧ ms_S B i = s
  · rw [ms_ic_t z]
    obtain ⟨r0, r1, r2, r3, r4, r5, r6⟩ := ms_rv_k (A := B) (x := i)
    refine ⟨ms_LI_rv h1 hi, fun j => ?_, r1.trans h3, r2.trans h4, r3.trans h5, r4.trans h6, r5.trans h7, r6.trans h8⟩
    rw [r0, h2]
    have sz : ms_S A i = s := by rw [← h5]; exact z.2
    constructor
    · rintro ⟨⟨a, b⟩, c⟩
      exact ⟨a, fun q => b ⟨by omega, q.2⟩⟩
    · rintro ⟨a, b⟩
      exact ⟨⟨a, fun q => b ⟨by omega, q.2⟩⟩, fun q => b ⟨by omega, by rw [q]; exact sz⟩⟩
  · rw [ms_ic_f z]
    refine ⟨h1, fun j => ?_, h3, h4, h5, h6, h7, h8⟩
    rw [h2]
    constructor
    · rintro ⟨a, b⟩
      refine ⟨a, fun q => b ⟨?_, q.2⟩⟩
      have : j ≠ i := fun e => by
        subst e
        exact z ⟨(h2 j).mpr ⟨a, b⟩, by rw [h5]; exact q.2⟩
      omega
    · rintro ⟨a, b⟩
      exact ⟨a, fun q => b ⟨by omega, q.2⟩⟩
theorem ms_DI_i {A : ms_AS} {s : Nat} (hL : ms_LI A) : ∀ i, i ≤ 32 → ms_DI A s i (ms_fo (ms_df s) A i)
  | 0, _ => ⟨hL, fun _ => ⟨fun a => ⟨a, fun q => Nat.not_lt_zero _ q.1⟩, fun a => a.1⟩, rfl, rfl, rfl, rfl, rfl, rfl⟩
  | i + 1, h => ms_DI_s (by omega) (ms_DI_i hL i (by omega))
theorem ms_df_E {e : Nat → Int32} {A : ms_AS} {s x : Nat} (h : ms_E e A) : ms_E e (ms_df s x A) := by
  unfold ms_df
  by_cases z : ms_U A x ∧ ms_S A x = s
  · rw [ms_ic_t z]; exact ms_E_rv h
  · rw [ms_ic_f z]; exact h
section
variable {N D S : Nat} {us fs rt sp pa pt g m ub lv rm w1 w2 w3 w4 w5 w6 w7 w8 w9 wa wb : Nat → Int32}
variable {A : ms_AS} {lw : Nat → Prop} {rn : Nat → Nat}
theorem mx_drop (h : ms_CR ms_c A us fs rt sp pa pt g m ub) (hF : ms_FI N lw rn A) (hL : ms_LI A) (hN : N ≤ 32) {post : Int32 → SX → Prop} {s : Nat} (hs : s < 4)
    (hq : ∀ us' pa' pt' g' m', ms_CR ms_c (ms_fo (ms_df s) A N) us' fs rt sp pa' pt' g' m' ub → post (nI (ms_cn (fun x => ms_U A x ∧ ms_S A x = s) N)) (nI N, nI D, nI S, us', fs, rt, sp, pa', pt', g', m', ub, upd lv s (vp_nar .boolean 0), rm, w1, w2, w3, w4, w5, w6, w7, w8, w9, wa, wb)) : ∃ n, wX_dropSpace_22 post (nI s) n 0 0 (nI N) (nI D) (nI S) us fs rt sp pa pt g m ub lv rm w1 w2 w3 w4 w5 w6 w7 w8 w9 wa wb := by
  refine ms_lp (fun n i (t : Int32 × (Nat → Int32) × (Nat → Int32) × (Nat → Int32) × (Nat → Int32) × (Nat → Int32)) => wX_dropSpace_22 post (nI s) n t.1 i (nI N) (nI D) (nI S) t.2.1 fs rt sp t.2.2.1 t.2.2.2.1 t.2.2.2.2.1 t.2.2.2.2.2 ub lv rm w1 w2 w3 w4 w5 w6 w7 w8 w9 wa wb) (fun i t => t.1 = nI (ms_cn (fun x => ms_U A x ∧ ms_S A x = s) i) ∧ ms_CR ms_c (ms_fo (ms_df s) A i) t.2.1 fs rt sp t.2.2.1 t.2.2.2.1 t.2.2.2.2.1 t.2.2.2.2.2 ub) N hN (0, us, pa, pt, g, m) ⟨rfl, h⟩ (fun n t hI => ?_) (fun n i t hi ci vi ni hI go => ?_)
  · refine br_t (nI_le (Nat.le_refl _) (by omega)) ⟨vp_in_nI hs (by omega), ?_⟩
    rw [nI_clamp (by omega), hI.1]
    exact nm_e (hq _ _ _ _ _ hI.2)
  · obtain ⟨c, us', pa', pt', g', m'⟩ := t
    obtain ⟨ec, hI⟩ := hI
    dsimp only at ec hI ⊢
    obtain ⟨d1, d2, d3, d4, d5, d6, d7, d8⟩ := ms_DI_i (A := A) (s := s) hL i (by omega)
    have hU : ∀ j, j < 32 → ms_U (ms_fo (ms_df s) A i) j → j < N := fun j hj u => (hF.1 j hj ((d2 j).mp u).1).1
    have hu := ms_CR_u hI (i := i) (by omega)
    have ui : ms_U (ms_fo (ms_df s) A i) i ↔ ms_U A i := (d2 i).trans ⟨fun a => a.1, fun a => ⟨a, fun q => Nat.lt_irrefl _ q.1⟩⟩
    have es : ms_fo (ms_df s) A (i + 1) = ms_df s i (ms_fo (ms_df s) A i) := rfl
    have skip : ¬ (ms_U A i ∧ ms_S A i = s) → ∀ y, y = nI i + 1 → wX_dropSpace_22 post (nI s) n c y (nI N) (nI D) (nI S) us' fs rt sp pa' pt' g' m' ub lv rm w1 w2 w3 w4 w5 w6 w7 w8 w9 wa wb := fun no => go (c, us', pa', pt', g', m') ⟨by rw [ms_cn_sf (P := fun x => ms_U A x ∧ ms_S A x = s) no]; exact ec, by
      rw [es]
      rw [ms_df_f (by rw [ui, d5]; exact no)]
      exact hI⟩
    refine br_f ni ⟨vi, ?_⟩
    rw [ci]
    refine br_c (fun z => skip fun q => hu.mp z (ui.mpr q.1)) (fun z => ⟨vi, ?_⟩)
    have u : ms_U A i := ui.mp (Classical.byContradiction fun n => z (hu.mpr n))
    have s4 := (hF.1 i (by omega) u).2.1
    rw [ms_CR_s hI (by omega), d5]
    refine br_c (fun z2 => ?_) (fun z2 => skip fun q => z2 (by rw [q.2]))
    have eS := (nI_eq (by omega) (by omega)).mp z2
    refine mx_rmv hI d1 hU hN (by omega) fun us2 pa2 pt2 g2 m2 h2 => ?_
    rw [ec]
    refine nm_r (nI_1 _) (go (nI (ms_cn (fun x => ms_U A x ∧ ms_S A x = s) i + 1), us2, pa2, pt2, g2, m2) ⟨by rw [ms_cn_st (P := fun x => ms_U A x ∧ ms_S A x = s) ⟨u, eS⟩], ?_⟩)
    rw [es]
    rw [ms_df_t (by rw [ui, d5]; exact ⟨u, eS⟩)]
    exact h2
end
section
variable {N D S : Nat} {lv us fs rt sp ub pa pt g m v1 v2 v3 v4 v5 v6 v7 v8 v9 : Nat → Int32}
variable {e : Nat → Int32} {A : ms_AS} {lw : Nat → Prop} {rn : Nat → Nat}
theorem my_drop (h : ms_CR e A us fs rt sp pa pt g m ub) (hE : ms_E e A) (he : e 32 = 0) (hF : ms_FI N lw rn A) (hL : ms_LI A) (hN : N ≤ 32) {post : Int32 → SY → Prop} {s : Nat} (hs : s < 4)
    (hq : ∀ us' g' m', ms_E e (ms_fo (ms_df s) A N) → ms_CR e (ms_fo (ms_df s) A N) us' fs rt sp pa pt g' m' ub → post (nI (ms_cn (fun x => ms_U A x ∧ ms_S A x = s) N)) (nI N, nI D, nI S, upd lv s (vp_nar .boolean 0), us', fs, rt, sp, ub, pa, pt, g', m', v1, v2, v3, v4, v5, v6, v7, v8, v9)) : ∃ n, wY_dropSpace_22 post (nI s) n 0 0 (nI N) (nI D) (nI S) lv us fs rt sp ub pa pt g m v1 v2 v3 v4 v5 v6 v7 v8 v9 := by
  refine ms_lp (fun n i (t : Int32 × (Nat → Int32) × (Nat → Int32) × (Nat → Int32)) => wY_dropSpace_22 post (nI s) n t.1 i (nI N) (nI D) (nI S) lv t.2.1 fs rt sp ub pa pt t.2.2.1 t.2.2.2 v1 v2 v3 v4 v5 v6 v7 v8 v9) (fun i t => t.1 = nI (ms_cn (fun x => ms_U A x ∧ ms_S A x = s) i) ∧ ms_E e (ms_fo (ms_df s) A i) ∧ ms_CR e (ms_fo (ms_df s) A i) t.2.1 fs rt sp pa pt t.2.2.1 t.2.2.2 ub) 32 (Nat.le_refl _) (0, us, g, m) ⟨rfl, hE, h⟩ (fun n t hI => ?_) (fun n i t hi ci vi ni hI go => ?_)
  · refine br_t (nI_le (b := 32) (Nat.le_refl _) (by omega)) ⟨vp_in_nI hs (by omega), ?_⟩
    have cut : ms_fo (ms_df s) A 32 = ms_fo (ms_df s) A N := by
      have key : ∀ d, N + d ≤ 32 → ms_fo (ms_df s) A (N + d) = ms_fo (ms_df s) A N := by
        intro d
        induction d with
        | zero => intro _; rfl
        | succ d ih =>
          intro hd
          show ms_df s (N + d) (ms_fo (ms_df s) A (N + d)) = _
          rw [← ih (by omega)]
          rw [ms_df_f]
          intro q
          have d2 := (ms_DI_i (A := A) (s := s) hL (N + d) (by omega)).2.1
          have := (hF.1 (N + d) (by omega) ((d2 _).mp q.1).1).1
          omega
      have := key (32 - N) (by omega)
      rw [show N + (32 - N) = 32 by omega] at this
      exact this
    rw [nI_clamp (by omega), hI.1, ms_cn_cut hN fun j a b q => by have := (hF.1 j b q.1).1; omega]
    have hE' := hI.2.1
    have hC' := hI.2.2
    rw [cut] at hE' hC'
    exact nm_e (hq _ _ _ hE' hC')
  · obtain ⟨c, us', g', m'⟩ := t
    obtain ⟨ec, hE', hI⟩ := hI
    dsimp only at ec hI hE' ⊢
    obtain ⟨d1, d2, d3, d4, d5, d6, d7, d8⟩ := ms_DI_i (A := A) (s := s) hL i (by omega)
    have hu := ms_CR_u hI (i := i) (by omega)
    have ui : ms_U (ms_fo (ms_df s) A i) i ↔ ms_U A i := (d2 i).trans ⟨fun a => a.1, fun a => ⟨a, fun q => Nat.lt_irrefl _ q.1⟩⟩
    have es : ms_fo (ms_df s) A (i + 1) = ms_df s i (ms_fo (ms_df s) A i) := rfl
    have hEs : ms_E e (ms_fo (ms_df s) A (i + 1)) := ms_df_E hE'
    have skip : ¬ (ms_U A i ∧ ms_S A i = s) → ∀ y, y = nI i + 1 → wY_dropSpace_22 post (nI s) n c y (nI N) (nI D) (nI S) lv us' fs rt sp ub pa pt g' m' v1 v2 v3 v4 v5 v6 v7 v8 v9 := fun no => go (c, us', g', m') ⟨by rw [ms_cn_sf (P := fun x => ms_U A x ∧ ms_S A x = s) no]; exact ec, hEs, by
      rw [es]
      rw [ms_df_f (by rw [ui, d5]; exact no)]
      exact hI⟩
    refine br_f ni ⟨vi, ?_⟩
    rw [ci]
    refine br_c (fun z => skip fun q => hu.mp z (ui.mpr q.1)) (fun z => ⟨vi, ?_⟩)
    have u : ms_U A i := ui.mp (Classical.byContradiction fun n => z (hu.mpr n))
    have s4 := (hF.1 i (by omega) u).2.1
    rw [ms_CR_s hI (by omega), d5]
    refine br_c (fun z2 => ?_) (fun z2 => skip fun q => z2 (by rw [q.2]))
    have eS := (nI_eq (by omega) (by omega)).mp z2
    refine my_rmv hI hE' he d1 (by omega) fun us2 g2 m2 h2 => ?_
    rw [ec]
    refine nm_r (nI_1 _) (go (nI (ms_cn (fun x => ms_U A x ∧ ms_S A x = s) i + 1), us2, g2, m2) ⟨by rw [ms_cn_st (P := fun x => ms_U A x ∧ ms_S A x = s) ⟨u, eS⟩], hEs, ?_⟩)
    rw [es]
    rw [ms_df_t (by rw [ui, d5]; exact ⟨u, eS⟩)]
    exact h2
end
theorem i_vc_dropSpace {k : Nat} {u : SX} {v : SY} (I : i_Rel k u v) (hk : k + 5 ≤ 2563) (v1 : Int32) : wpX_dropSpace (fun r u' => wpY_dropSpace (fun r' v' => r' = r ∧ i_Rel (k + 5) u' v') v v1) u v1 := by
  refine ms_el (P := fun u v => wpX_dropSpace (fun r u' => wpY_dropSpace (fun r' v' => r' = r ∧ i_Rel (k + 5) u' v') v v1) u v1) I ?_
  intro N D S A lw rn e us fs rt sp pa pt g m ub lv rm w1 w2 w3 w4 w5 w6 w7 w8 w9 wa wb lvy usy fsy rty spy uby pay pty gy my v1y v2y v3y v4y v5y v6y v7y v8y v9y hI h hl hr he hE h' hl'
  have J : i_Rel (k + 5) (nI N, nI D, nI S, us, fs, rt, sp, pa, pt, g, m, ub, lv, rm, w1, w2, w3, w4, w5, w6, w7, w8, w9, wa, wb) (nI N, nI D, nI S, lvy, usy, fsy, rty, spy, uby, pay, pty, gy, my, v1y, v2y, v3y, v4y, v5y, v6y, v7y, v8y, v9y) := ms_mk hI h hl hr he hE h' hl'
  obtain ⟨hN, hN8, hD, hS, hF, hL⟩ := hI
  unfold wpX_dropSpace wpY_dropSpace
  dsimp only
  by_cases c : ∃ s, s < S ∧ v1 = nI s ∧ lw s
  · obtain ⟨s, hs, rfl, ls⟩ := c
    refine mx_il1 hS hl hs ls (br_f ms_10 ?_)
    by_cases s0 : s = 0
    · subst s0
      exact br_t rfl (my_il1 hS hl' hs ls (br_f ms_10 (br_t rfl ⟨rfl, J⟩)))
    · refine br_f (nI_ne0 (by omega) (by omega)) (mx_drop h hF hL hN (by omega) fun us2 pa2 pt2 g2 m2 h2 => ?_)
      refine my_il1 hS hl' hs ls (br_f ms_10 (br_f (nI_ne0 (by omega) (by omega)) (my_drop h' hE he hF hL hN (by omega) fun usz gz mz hEz hz => ⟨rfl, ?_⟩)))
      obtain ⟨d1, d2, d3, d4, d5, d6, d7, d8⟩ := ms_DI_i (A := A) (s := s) hL N hN
      have hF' : ms_FI N (fun i => lw i ∧ i ≠ s) rn (ms_fo (ms_df s) A N) := ms_FI_dr hF (fun i hi => (d2 i).trans ⟨fun a => ⟨a.1, fun q => a.2 ⟨(hF.1 i hi a.1).1, q⟩⟩, fun a => ⟨a.1, fun q => a.2 q.2⟩⟩) d4 d5 d6 d7
      have lv2 : ∀ w : Nat → Int32, (∀ s, s < 4 → (w s = 0 ↔ ¬ lw s)) → ∀ j, j < 4 → (upd w s (vp_nar .boolean 0) j = 0 ↔ ¬ (lw j ∧ j ≠ s)) := by
        intro w hw j hj
        by_cases q : j = s
        · subst q
          rw [ms_us, ms_b0]
          exact ⟨fun _ z => z.2 rfl, fun _ => rfl⟩
        · rw [ms_un' q, hw j hj]
          exact ⟨fun z y => z y.1, fun z y => z ⟨y, q⟩⟩
      exact ms_mk ⟨hN, hN8, hD, hS, hF', d1⟩ h2 (lv2 _ hl) (fun j hj l => hr j hj l.1) he hEz hz (lv2 _ hl')
  · exact mx_il0 hS hl c (br_t rfl (my_il0 hS hl' c (br_t rfl ⟨rfl, J⟩)))
end
section
/-! setKind -/
noncomputable def ms_kf (T : Nat → Prop) (k : Int32) (x : Nat) (A : ms_AS) : ms_AS := ms_ic (T x) (ms_kd A x k) A
theorem ms_kf_t {T : Nat → Prop} {k : Int32} {x : Nat} {A : ms_AS} (h : T x) : ms_kf T k x A = ms_kd A x k := ms_ic_t h
theorem ms_kf_f {T : Nat → Prop} {k : Int32} {x : Nat} {A : ms_AS} (h : ¬ T x) : ms_kf T k x A = A := ms_ic_f h
def ms_KI (A B : ms_AS) : Prop := ms_LI B ∧ ms_U B = ms_U A ∧ ms_F B = ms_F A ∧ ms_R B = ms_R A ∧ ms_S B = ms_S A ∧ ms_P B = ms_P A ∧ ms_Q B = ms_Q A
theorem ms_KI_i {A : ms_AS} {T : Nat → Prop} {k : Int32} (hL : ms_LI A) (hT : ∀ x, T x → x < 32 ∧ ms_U A x) : ∀ i, ms_KI A (ms_fo (ms_kf T k) A i)
  | 0 => ⟨hL, rfl, rfl, rfl, rfl, rfl, rfl⟩
  | i + 1 => by
    have ih := ms_KI_i (k := k) hL hT i
    show ms_KI A (ms_kf T k i (ms_fo (ms_kf T k) A i))
    by_cases z : T i
    · rw [ms_kf_t z]
      obtain ⟨h1, h2, h3, h4, h5, h6, h7⟩ := ih
      obtain ⟨q1, q2, q3, q4, q5, q6⟩ := ms_kd_k (A := ms_fo (ms_kf T k) A i) (x := i) (k := k)
      exact ⟨ms_LI_kd h1 (hT i z).1 (by rw [h2]; exact (hT i z).2) k, q1.trans h2, q2.trans h3, q3.trans h4, q4.trans h5, q5.trans h6, q6.trans h7⟩
    · rw [ms_kf_f z]; exact ih
theorem ms_kf_1 {A : ms_AS} {k : Int32} {x : Nat} : ∀ N, x < N → ms_fo (ms_kf (fun i => i = x) k) A N = ms_kd A x k := by
  have lo : ∀ i, i ≤ x → ms_fo (ms_kf (fun i => i = x) k) A i = A := by
    intro i
    induction i with
    | zero => intro _; rfl
    | succ i ih =>
      intro hi
      show ms_kf (fun i => i = x) k i (ms_fo (ms_kf (fun i => i = x) k) A i) = A
      rw [ih (by omega), ms_kf_f (T := fun i => i = x) (show ¬ i = x by omega)]
  intro N hN
  have hi : ∀ d, ms_fo (ms_kf (fun i => i = x) k) A (x + 1 + d) = ms_kd A x k := by
    intro d
    induction d with
    | zero =>
      show ms_kf (fun i => i = x) k x (ms_fo (ms_kf (fun i => i = x) k) A x) = _
      rw [lo x (Nat.le_refl _), ms_kf_t (T := fun i => i = x) rfl]
    | succ d ih =>
      show ms_kf (fun i => i = x) k (x + 1 + d) (ms_fo (ms_kf (fun i => i = x) k) A (x + 1 + d)) = _
      rw [ih, ms_kf_f (T := fun i => i = x) (show ¬ x + 1 + d = x by omega)]
  have := hi (N - (x + 1))
  rw [show x + 1 + (N - (x + 1)) = N by omega] at this
  exact this
theorem ms_kf_e {A : ms_AS} {T T' : Nat → Prop} {k : Int32} (h : ∀ i, T i ↔ T' i) : ∀ N, ms_fo (ms_kf T k) A N = ms_fo (ms_kf T' k) A N
  | 0 => rfl
  | N + 1 => by
    show ms_ic (T N) _ _ = ms_ic (T' N) _ _
    rw [ms_kf_e h N]
    exact ms_ic_c (h N)
/-- what setKind changes -/
def ms_kT (A : ms_AS) (q : Nat) (dp : Int32) (x : Nat) : Prop := x = q ∨ (¬ dp = 0 ∧ ms_Cl (ms_Rt A (fun _ => True)) q x)
section
variable {N D S : Nat} {us fs rt sp pa pt g m ub lv rm w1 w2 w3 w4 w5 w6 w7 w8 w9 wa wb : Nat → Int32}
variable {A : ms_AS} {lw : Nat → Prop} {rn : Nat → Nat}
theorem mx_kloop (h : ms_CR ms_c A us fs rt sp pa pt g m ub) (hF : ms_FI N lw rn A) (hL : ms_LI A) (hN : N ≤ 32) {T : Nat → Prop} (hT : ∀ x, T x → x < 32 ∧ ms_U A x) (hw : ∀ i, i < 32 → (¬ w5 i = 0 ↔ T i)) {post : Int32 → SX → Prop} {k c : Int32}
    (hq : ∀ g' m' ub', ms_CR ms_c (ms_fo (ms_kf T k) A N) us fs rt sp pa pt g' m' ub' → post c (nI N, nI D, nI S, us, fs, rt, sp, pa, pt, g', m', ub', lv, rm, w1, w2, w3, w4, w5, w6, w7, w8, w9, wa, wb)) : ∃ n, wX_setKind_87 post k c n 0 (nI N) (nI D) (nI S) us fs rt sp pa pt g m ub lv rm w1 w2 w3 w4 w5 w6 w7 w8 w9 wa wb := by
  refine ms_lp (fun n i (t : (Nat → Int32) × (Nat → Int32) × (Nat → Int32)) => wX_setKind_87 post k c n i (nI N) (nI D) (nI S) us fs rt sp pa pt t.1 t.2.1 t.2.2 lv rm w1 w2 w3 w4 w5 w6 w7 w8 w9 wa wb) (fun i t => ms_CR ms_c (ms_fo (ms_kf T k) A i) us fs rt sp pa pt t.1 t.2.1 t.2.2) N hN (g, m, ub) h (fun n t hI => br_t (nI_le (Nat.le_refl _) (by omega)) (hq _ _ _ hI)) (fun n i t hi ci vi ni hI go => ?_)
  obtain ⟨g', m', ub'⟩ := t
  dsimp only at hI ⊢
  obtain ⟨d1, d2, d3, d4, d5, d6, d7⟩ := ms_KI_i (A := A) (k := k) hL hT i
  refine br_f ni ⟨vi, ?_⟩
  rw [ci]
  refine br_c (fun z => go (g', m', ub') ?_) (fun z => mx_chk hI d1 (fun j hj u => (hF.1 j hj (by rw [← d2]; exact u)).1) hN (by omega) fun g2 m2 ub2 h2 => go (g2, m2, ub2) ?_)
  · show ms_CR ms_c (ms_kf T k i (ms_fo (ms_kf T k) A i)) us fs rt sp pa pt g' m' ub'
    rw [ms_kf_f (fun q => (hw i (by omega)).mpr q z)]; exact hI
  · show ms_CR ms_c (ms_kf T k i (ms_fo (ms_kf T k) A i)) us fs rt sp pa pt g2 m2 ub2
    rw [ms_kf_t ((hw i (by omega)).mp z)]; exact h2
end
section
variable {N D S : Nat} {lv us fs rt sp ub pa pt g m v1 v2 v3 v4 v5 v6 v7 v8 v9 : Nat → Int32}
variable {e : Nat → Int32} {A : ms_AS} {lw : Nat → Prop} {rn : Nat → Nat}
theorem my_kloop (h : ms_CR e A us fs rt sp pa pt g m ub) (hE : ms_E e A) (he : e 32 = 0) (hF : ms_FI N lw rn A) (hL : ms_LI A) (hN : N ≤ 32) {q : Nat} (hq32 : q < 32) (uq : ms_U A q) {post : Int32 → SY → Prop} {k dp : Int32}
    (hq : ∀ e' g' m' ub', e' 32 = 0 → ms_E e' (ms_fo (ms_kf (ms_kT A q dp) k) A N) → ms_CR e' (ms_fo (ms_kf (ms_kT A q dp) k) A N) us fs rt sp pa pt g' m' ub' → post (nI (ms_cn (ms_kT A q dp) N)) (nI N, nI D, nI S, lv, us, fs, rt, sp, ub', pa, pt, g', m', v1, v2, v3, v4, v5, v6, v7, v8, v9)) : ∃ n, wY_setKind_69 post k dp (nI q) n 0 0 (nI N) (nI D) (nI S) lv us fs rt sp ub pa pt g m v1 v2 v3 v4 v5 v6 v7 v8 v9 := by
  have hT : ∀ x, ms_kT A q dp x → x < 32 ∧ ms_U A x := fun x t => t.elim (fun z => by rw [z]; exact ⟨hq32, uq⟩) fun z => ⟨ms_Cl_32 hq32 z.2, ms_Cl_U uq z.2⟩
  refine ms_lp (fun n i (t : Int32 × (Nat → Int32) × (Nat → Int32) × (Nat → Int32)) => wY_setKind_69 post k dp (nI q) n t.1 i (nI N) (nI D) (nI S) lv us fs rt sp t.2.2.2 pa pt t.2.1 t.2.2.1 v1 v2 v3 v4 v5 v6 v7 v8 v9) (fun i t => t.1 = nI (ms_cn (ms_kT A q dp) i) ∧ ∃ e', e' 32 = 0 ∧ ms_E e' (ms_fo (ms_kf (ms_kT A q dp) k) A i) ∧ ms_CR e' (ms_fo (ms_kf (ms_kT A q dp) k) A i) us fs rt sp pa pt t.2.1 t.2.2.1 t.2.2.2) 32 (Nat.le_refl _) (0, g, m, ub) ⟨rfl, e, he, hE, h⟩ (fun n t hI => ?_) (fun n i t hi ci vi ni hI go => ?_)
  · obtain ⟨ec, e', z1, z2, z3⟩ := hI
    have cut : ms_fo (ms_kf (ms_kT A q dp) k) A 32 = ms_fo (ms_kf (ms_kT A q dp) k) A N := ms_fo_cut hN fun i s a b => ms_kf_f fun t => by have := (hF.1 i b (hT i t).2).1; omega
    rw [cut] at z2 z3
    rw [ec, ms_cn_cut hN fun j a b t => by have := (hF.1 j b (hT j t).2).1; omega]
    exact br_t (nI_le (b := 32) (Nat.le_refl _) (by omega)) (hq e' _ _ _ z1 z2 z3)
  · obtain ⟨c, g', m', ub'⟩ := t
    obtain ⟨ec, e', z1, z2, z3⟩ := hI
    dsimp only at ec z1 z2 z3 ⊢
    obtain ⟨d1, d2, d3, d4, d5, d6, d7⟩ := ms_KI_i (A := A) (k := k) hL hT i
    have hF' : ms_FI N lw rn (ms_fo (ms_kf (ms_kT A q dp) k) A i) := ms_FI_ext hF ⟨d2, d3, d4, d5, d6, d7⟩
    have es : ms_fo (ms_kf (ms_kT A q dp) k) A (i + 1) = ms_kf (ms_kT A q dp) k i (ms_fo (ms_kf (ms_kT A q dp) k) A i) := rfl
    have hu := ms_CR_u z3 hi
    rw [d2] at hu
    have skip : ¬ ms_kT A q dp i → ∀ y, y = nI i + 1 → wY_setKind_69 post k dp (nI q) n c y (nI N) (nI D) (nI S) lv us fs rt sp ub' pa pt g' m' v1 v2 v3 v4 v5 v6 v7 v8 v9 := fun no => go (c, g', m', ub') ⟨by rw [ms_cn_sf no]; exact ec, e', z1, by rw [es, ms_kf_f no]; exact z2, by rw [es, ms_kf_f no]; exact z3⟩
    have doit : ms_kT A q dp i → wY_setKind_109 post (wY_setKind_69 post k dp (nI q) n) k dp (nI q) c (nI i) (nI N) (nI D) (nI S) lv us fs rt sp ub' pa pt g' m' v1 v2 v3 v4 v5 v6 v7 v8 v9 := by
      intro yes
      refine my_chk z3 z2 z1 d1 hi fun e2 g2 m2 ub2 y1 y2 y3 => ?_
      rw [ec, nI_1 (ms_cn (ms_kT A q dp) i), ← ms_cn_st (P := ms_kT A q dp) yes]
      exact go (nI (ms_cn (ms_kT A q dp) (i + 1)), g2, m2, ub2) ⟨rfl, e2, y1, by rw [es, ms_kf_t yes]; exact y2, by rw [es, ms_kf_t yes]; exact y3⟩
    refine br_f ni ⟨vi, ?_⟩
    rw [ci]
    refine br_c (fun z => skip fun t => hu.mp z (hT i t).2) (fun z => ?_)
    have u : ms_U A i := Classical.byContradiction fun n => z (hu.mpr n)
    refine br_c (fun z4 => doit (Or.inl ((nI_eq (by omega) (by omega)).mp z4))) (fun z4 => br_c (fun z5 => skip fun t => ?_) (fun z5 => ?_))
    · exact t.elim (fun y => z4 (by rw [y])) fun y => y.1 z5
    · have rt' : ms_Rt (ms_fo (ms_kf (ms_kT A q dp) k) A i) (fun _ => True) = ms_Rt A (fun _ => True) := by
        funext a b
        unfold ms_Rt
        rw [d2, d6]
      refine my_int z3 hF' hi (by rw [d2]; exact u) hq32 (fun y => ?_) (fun y => ?_)
      · rw [rt'] at y
        exact br_f ms_10 (doit (Or.inr ⟨z5, y⟩))
      · rw [rt'] at y
        exact br_t rfl (skip fun t => t.elim (fun w => z4 (by rw [w])) fun w => y w.2)
end
theorem i_vc_setKind {k : Nat} {u : SX} {v : SY} (I : i_Rel k u v) (hk : k + 5 ≤ 2563) (v1 : Int32) (v2 : Int32) (v3 : Int32) (v4 : Int32) : wpX_setKind (fun r u' => wpY_setKind (fun r' v' => r' = r ∧ i_Rel (k + 5) u' v') v v1 v2 v3 v4) u v1 v2 v3 v4 := by
  refine ms_el (P := fun u v => wpX_setKind (fun r u' => wpY_setKind (fun r' v' => r' = r ∧ i_Rel (k + 5) u' v') v v1 v2 v3 v4) u v1 v2 v3 v4) I ?_
  intro N D S A lw rn e us fs rt sp pa pt g m ub lv rm w1 w2 w3 w4 w5 w6 w7 w8 w9 wa wb lvy usy fsy rty spy uby pay pty gy my v1y v2y v3y v4y v5y v6y v7y v8y v9y hI h hl hr he hE h' hl'
  have J : i_Rel (k + 5) (nI N, nI D, nI S, us, fs, rt, sp, pa, pt, g, m, ub, lv, rm, w1, w2, w3, w4, w5, w6, w7, w8, w9, wa, wb) (nI N, nI D, nI S, lvy, usy, fsy, rty, spy, uby, pay, pty, gy, my, v1y, v2y, v3y, v4y, v5y, v6y, v7y, v8y, v9y) := ms_mk hI h hl hr he hE h' hl'
  obtain ⟨hN, hN8, hD, hS, hF, hL⟩ := hI
  unfold wpX_setKind wpY_setKind
  dsimp only
  by_cases c : ∃ s, s < S ∧ v1 = nI s ∧ lw s
  · obtain ⟨s, hs, rfl, ls⟩ := c
    have s4 : s < 4 := by omega
    refine mx_il1 hS hl hs ls (br_f ms_10 ?_)
    by_cases k0 : v3 < 0
    · exact br_t k0 (my_il1 hS hl' hs ls (br_f ms_10 (br_t k0 ⟨rfl, J⟩)))
    refine br_f k0 ?_
    by_cases k3 : v3 ≤ 3
    · refine br_t k3 (mx_walk h hF hN hD s4 ls (hr s s4 ls) ?_)
      cases hw : ms_wk N D A v2 16 (ms_cr N A 32 (rn s) (ms_R A (rn s))) with
      | none =>
        refine br_f (by decide) (my_il1 hS hl' hs ls (br_f ms_10 (br_f k0 (br_t k3 (my_walk h' hF hN hD s4 ls ?_)))))
        rw [hw]
        exact br_f (by decide) ⟨rfl, J⟩
      | some q =>
        obtain ⟨r1, r2, r3, r4, _⟩ := hF.2.2.2.1 s s4 ls
        have hR := hF.2.1 _ r1
        have gq : ms_gd A s (q / 16) (q % 16) := ms_gd_wk hF hN hD 16 _ q (ms_gd_cr hF hN 32 _ _ ⟨r1, r2, r3, hR, ms_un_r _ (by omega)⟩) hw
        have q5 := ms_gd_q gq
        have q31 : q < 2 ^ 31 := by omega
        obtain ⟨g1, g2, g3, g4, g5⟩ := gq
        have hRq := hF.2.1 _ g1
        have qN := (hF.1 _ g1 g2).1
        have vq : vp_in (nI (q / 16)) 32 := vp_in_nI g1 (by omega)
        have cq : (nI (q / 16)).toNatClampNeg = q / 16 := nI_clamp (by omega)
        -- the reference up to its loop
        have ypre : ∀ P : Int32 → SY → Prop, ((q % 16 = ms_R A (q / 16) → ∃ n, wY_setKind_69 P v3 v4 (nI (q / 16)) n 0 0 (nI N) (nI D) (nI S) lvy usy fsy rty spy uby pay pty gy my v1y v2y v3y v4y v5y v6y v7y v8y v9y) ∧ (¬ q % 16 = ms_R A (q / 16) → P (-2) (nI N, nI D, nI S, lvy, usy, fsy, rty, spy, uby, pay, pty, gy, my, v1y, v2y, v3y, v4y, v5y, v6y, v7y, v8y, v9y))) → wpY_isLive (fun r_1 => (r_1 = 0 → P (-6) (nI N, nI D, nI S, lvy, usy, fsy, rty, spy, uby, pay, pty, gy, my, v1y, v2y, v3y, v4y, v5y, v6y, v7y, v8y, v9y)) ∧ (¬ r_1 = 0 → (v3 < 0 → P (-2) (nI N, nI D, nI S, lvy, usy, fsy, rty, spy, uby, pay, pty, gy, my, v1y, v2y, v3y, v4y, v5y, v6y, v7y, v8y, v9y)) ∧ (¬ v3 < 0 → (v3 ≤ 3 → wpY_walk (fun r_27 => (0 ≤ r_27 → ¬ (16 : Int32) = 0 ∧ ∀ x6_52, x6_52 = r_27 / 16 → ¬ (16 : Int32) = 0 ∧ vp_in x6_52 32 ∧ (r_27 - r_27 / 16 * 16 = rty x6_52.toNatClampNeg → ∃ n69, wY_setKind_69 P v3 v4 x6_52 n69 0 0 (nI N) (nI D) (nI S) lvy usy fsy rty spy uby pay pty gy my v1y v2y v3y v4y v5y v6y v7y v8y v9y) ∧ (¬ r_27 - r_27 / 16 * 16 = rty x6_52.toNatClampNeg → P (-2) (nI N, nI D, nI S, lvy, usy, fsy, rty, spy, uby, pay, pty, gy, my, v1y, v2y, v3y, v4y, v5y, v6y, v7y, v8y, v9y))) ∧ (¬ 0 ≤ r_27 → P (-1) (nI N, nI D, nI S, lvy, usy, fsy, rty, spy, uby, pay, pty, gy, my, v1y, v2y, v3y, v4y, v5y, v6y, v7y, v8y, v9y))) (nI N, nI D, nI S, lvy, usy, fsy, rty, spy, uby, pay, pty, gy, my, v1y, v2y, v3y, v4y, v5y, v6y, v7y, v8y, v9y) (nI s) v2) ∧ (¬ v3 ≤ 3 → P (-2) (nI N, nI D, nI S, lvy, usy, fsy, rty, spy, uby, pay, pty, gy, my, v1y, v2y, v3y, v4y, v5y, v6y, v7y, v8y, v9y))))) (nI N, nI D, nI S, lvy, usy, fsy, rty, spy, uby, pay, pty, gy, my, v1y, v2y, v3y, v4y, v5y, v6y, v7y, v8y, v9y) (nI s) := by
          intro P hP
          refine my_il1 hS hl' hs ls (br_f ms_10 (br_f k0 (br_t k3 (my_walk h' hF hN hD s4 ls ?_))))
          rw [hw]
          refine br_t (nI_pos' q31) ⟨by decide, nm_r (ms_pd q31) ⟨by decide, vq, ?_⟩⟩
          show (nI q - nI q / 16 * 16 = _ → _) ∧ (¬ nI q - nI q / 16 * 16 = _ → _)
          rw [cq, ms_pr q31, ms_CR_r h' g1, nI_eq (by omega) (by omega)]
          exact hP
        refine br_t (nI_pos' q31) (nm_r (ms_p4 q31) ⟨vq, ?_⟩)
        show (nI q &&& 15 = _ → _) ∧ (¬ nI q &&& 15 = _ → _)
        rw [cq, ms_p15 q31, ms_CR_r h g1, nI_eq (by omega) (by omega)]
        refine br_c (fun zr => ?_) (fun zr => ypre (fun r' v' => r' = -2 ∧ i_Rel (k + 5) (nI N, nI D, nI S, us, fs, rt, sp, pa, pt, g, m, ub, lv, rm, w1, w2, w3, w4, w5, w6, w7, w8, w9, wa, wb) v') (br_f zr ⟨rfl, J⟩))
        refine br_c (fun zd => ?_) (fun zd => ?_)
        · refine mx_chk h hL (fun i hi u => (hF.1 i hi u).1) hN g1 fun gx mx ubx hx => ypre (fun r' v' => r' = 1 ∧ i_Rel (k + 5) (nI N, nI D, nI S, us, fs, rt, sp, pa, pt, gx, mx, ubx, lv, rm, w1, w2, w3, w4, w5, w6, w7, w8, w9, wa, wb) v') (br_t zr (my_kloop h' hE he hF hL hN g1 g2 fun e' gz mz ubz a1 a2 a3 => ?_))
          have eT : ∀ i, ms_kT A (q / 16) v4 i ↔ i = q / 16 := fun i => ⟨fun t => t.elim id fun t => absurd zd t.1, Or.inl⟩
          rw [ms_kf_e eT, ms_kf_1 N qN] at a2 a3
          refine ⟨?_, ?_⟩
          · rw [ms_cn_eq (Q := fun i => i = q / 16) fun i _ => eT i, ms_cn_one qN]; rfl
          · exact ms_mk ⟨hN, hN8, hD, hS, ms_FI_ext hF ms_kd_k, ms_LI_kd hL g1 g2 v3⟩ hx hl hr a1 a2 a3 hl'
        · have hT : ∀ x, ms_kT A (q / 16) v4 x → x < 32 ∧ ms_U A x := fun x t => t.elim (fun z => by rw [z]; exact ⟨g1, g2⟩) fun z => ⟨ms_Cl_32 g1 z.2, ms_Cl_U g2 z.2⟩
          have eT : ∀ i, ms_Cl (ms_Rt A (fun _ => True)) (q / 16) i ↔ ms_kT A (q / 16) v4 i := fun i => ⟨fun t => Or.inr ⟨zd, t⟩, fun t => t.elim (fun z => by rw [z]; exact ms_Cl_r) fun z => z.2⟩
          refine mx_mtr h hF hN qN fun w hwt => mx_kloop h hF hL hN hT (fun i hi => (hwt i hi).trans (eT i)) fun gx mx ubx hx => ypre (fun r' v' => r' = nI (ms_cn (ms_Cl (ms_Rt A (fun _ => True)) (q / 16)) N) ∧ i_Rel (k + 5) (nI N, nI D, nI S, us, fs, rt, sp, pa, pt, gx, mx, ubx, lv, rm, w1, w2, w3, w4, w, w6, w7, w8, w9, wa, wb) v') (br_t zr (my_kloop h' hE he hF hL hN g1 g2 fun e' gz mz ubz a1 a2 a3 => ⟨?_, ?_⟩))
          · rw [ms_cn_eq (P := ms_kT A (q / 16) v4) (Q := ms_Cl (ms_Rt A (fun _ => True)) (q / 16)) fun i _ => (eT i).symm]
          · obtain ⟨d1, d2⟩ := ms_KI_i (A := A) (k := v3) hL hT N
            exact ms_mk ⟨hN, hN8, hD, hS, ms_FI_ext hF d2, d1⟩ hx hl hr a1 a2 a3 hl'
    · exact br_f k3 (my_il1 hS hl' hs ls (br_f ms_10 (br_f k0 (br_f k3 ⟨rfl, J⟩))))
  · exact mx_il0 hS hl c (br_t rfl (my_il0 hS hl' c (br_t rfl ⟨rfl, J⟩)))
end
section
/-! unmount: the candidates and their removal -/
abbrev ms_US : Type := ms_AS × (Nat → Prop) × Nat
def ms_rb (N : Nat) (A : ms_AS) (c : Nat) : Prop := ms_cn (fun x => ms_U A x ∧ ms_P A x = c) N = 0 ∨ (ms_cn (fun x => ms_U A x ∧ ms_P A x = c) N = 1 ∧ ms_at N A c (ms_R A c) < 32)
noncomputable def ms_rc (N : Nat) (A : ms_AS) (c : Nat) : ms_AS := ms_rv (ms_lk A (ms_at N A c (ms_R A c)) (ms_P A c) (ms_Q A c)) c
noncomputable def ms_uf (N c : Nat) (s : ms_US) : ms_US := ms_ic (s.2.1 c ∧ ms_rb N s.1 c) (ms_rc N s.1 c, fun i => s.2.1 i ∧ i ≠ c, s.2.2 + 1) s
theorem ms_uf_t {N c : Nat} {s : ms_US} (h : s.2.1 c ∧ ms_rb N s.1 c) : ms_uf N c s = (ms_rc N s.1 c, fun i => s.2.1 i ∧ i ≠ c, s.2.2 + 1) := ms_ic_t h
theorem ms_uf_f {N c : Nat} {s : ms_US} (h : ¬ (s.2.1 c ∧ ms_rb N s.1 c)) : ms_uf N c s = s := ms_ic_f h
def ms_UI (N : Nat) (lw : Nat → Prop) (rn : Nat → Nat) (s : ms_US) : Prop := ms_FI N lw rn s.1 ∧ ms_LI s.1 ∧ ∀ c, s.2.1 c → c < 32 ∧ ms_U s.1 c ∧ ms_P s.1 c < 32
/-- what a step keeps -/
def ms_UK (s t : ms_US) : Prop := ms_F t.1 = ms_F s.1 ∧ ms_R t.1 = ms_R s.1 ∧ ms_S t.1 = ms_S s.1 ∧ ms_B t.1 = ms_B s.1 ∧ (∀ j, j < 32 → ms_La t.1 (ms_G t.1 j) → ms_La s.1 (ms_G t.1 j))
section
variable {N : Nat} {lw : Nat → Prop} {rn : Nat → Nat} {s : ms_US}
theorem ms_UI_s (hN : N ≤ 32) (h : ms_UI N lw rn s) (c : Nat) : ms_UI N lw rn (ms_uf N c s) := by
  by_cases z : s.2.1 c ∧ ms_rb N s.1 c
  · rw [ms_uf_t z]
    obtain ⟨hF, hL, hC⟩ := h
    obtain ⟨c32, cu, cp⟩ := hC c z.1
    obtain ⟨r0, r1, r2, r3, r4, r5, r6⟩ := ms_rv_k (A := ms_lk s.1 (ms_at N s.1 c (ms_R s.1 c)) (ms_P s.1 c) (ms_Q s.1 c)) (x := c)
    have kid : ms_at N s.1 c (ms_R s.1 c) < 32 → ms_U s.1 (ms_at N s.1 c (ms_R s.1 c)) ∧ ms_P s.1 (ms_at N s.1 c (ms_R s.1 c)) = c := fun a => ⟨(ms_at_ok hN a).1, (ms_at_ok hN a).2.1⟩
    have only : ∀ i, i < 32 → ms_U s.1 i → ms_P s.1 i = c → i = ms_at N s.1 c (ms_R s.1 c) := by
      intro i hi u p
      have iN := (hF.1 i hi u).1
      rcases z.2 with e | ⟨e, a⟩
      · exact absurd ⟨u, p⟩ (ms_cn_0 e i iN)
      · exact ms_cn_1 e iN (ms_lo_lt hN a) ⟨u, p⟩ (kid a)
    refine ⟨?_, ?_, ?_⟩
    · exact ms_FI_rm hF c32 cu cp only kid r0 r2 r3 r4 r5
    · exact ms_LI_rv (A := ms_lk s.1 _ _ _) hL c32
    · rintro i ⟨ci, ni⟩
      obtain ⟨i32, iu, ip⟩ := hC i ci
      refine ⟨i32, (r0 i).mpr ⟨iu, ni⟩, ?_⟩
      show ms_P (ms_rc N s.1 c) i < 32
      have e : ms_P (ms_rc N s.1 c) = ms_fu (ms_P s.1) (ms_at N s.1 c (ms_R s.1 c)) (ms_P s.1 c) := r4
      rw [e]
      by_cases q : i = ms_at N s.1 c (ms_R s.1 c)
      · rw [q, ms_fu_s]; exact cp
      · rw [ms_fu_n q]; exact ip
  · rw [ms_uf_f z]; exact h
theorem ms_UI_i (hN : N ≤ 32) (h : ms_UI N lw rn s) : ∀ i, ms_UI N lw rn (ms_fo (ms_uf N) s i)
  | 0 => h
  | i + 1 => ms_UI_s hN (ms_UI_i hN h i) i
noncomputable def ms_up' (N : Nat) (s : ms_US) : ms_US := ms_fo (ms_uf N) s N
theorem ms_UI_p (hN : N ≤ 32) (h : ms_UI N lw rn s) : ∀ k, ms_UI N lw rn (ms_fo (fun _ s => ms_up' N s) s k)
  | 0 => h
  | k + 1 => ms_UI_i hN (ms_UI_p hN h k) N
/-- the removed and the candidates left -/
theorem ms_uf_n (hC : ∀ c, s.2.1 c → c < N) (c : Nat) : ms_cn (ms_uf N c s).2.1 N + (ms_uf N c s).2.2 = ms_cn s.2.1 N + s.2.2 ∧ (ms_uf N c s = s ∨ (ms_uf N c s).2.2 = s.2.2 + 1) := by
  by_cases z : s.2.1 c ∧ ms_rb N s.1 c
  · rw [ms_uf_t z]
    refine ⟨?_, Or.inr rfl⟩
    have e : ms_cn s.2.1 N = ms_cn (fun i => s.2.1 i ∧ i ≠ c) N + 1 := by
      rw [← ms_cn_add (P := fun i => s.2.1 i ∧ i ≠ c) (a := c) (fun q => q.2 rfl) (hC c z.1)]
      refine ms_cn_eq fun k _ => ⟨fun q => ?_, fun q => q.elim (fun q => q.1) fun q => q ▸ z.1⟩
      by_cases w : k = c
      · exact Or.inr w
      · exact Or.inl ⟨q, w⟩
    show ms_cn (fun i => s.2.1 i ∧ i ≠ c) N + (s.2.2 + 1) = _
    omega
  · rw [ms_uf_f z]; exact ⟨rfl, Or.inl rfl⟩
theorem ms_uf_c {c : Nat} : ∀ i, (ms_uf N c s).2.1 i → s.2.1 i := by
  by_cases z : s.2.1 c ∧ ms_rb N s.1 c
  · rw [ms_uf_t z]; exact fun i q => q.1
  · rw [ms_uf_f z]; exact fun i q => q
theorem ms_fo_n (hC : ∀ c, s.2.1 c → c < N) : ∀ i, (∀ c, (ms_fo (ms_uf N) s i).2.1 c → s.2.1 c) ∧ ms_cn (ms_fo (ms_uf N) s i).2.1 N + (ms_fo (ms_uf N) s i).2.2 = ms_cn s.2.1 N + s.2.2 ∧ (ms_fo (ms_uf N) s i = s ∨ s.2.2 + 1 ≤ (ms_fo (ms_uf N) s i).2.2)
  | 0 => ⟨fun _ q => q, rfl, Or.inl rfl⟩
  | i + 1 => by
    obtain ⟨a, b, d⟩ := ms_fo_n hC i
    obtain ⟨e, f⟩ := ms_uf_n (s := ms_fo (ms_uf N) s i) (fun c q => hC c (a c q)) i
    refine ⟨fun c q => a c (ms_uf_c c q), ?_, ?_⟩
    · show ms_cn (ms_uf N i (ms_fo (ms_uf N) s i)).2.1 N + (ms_uf N i (ms_fo (ms_uf N) s i)).2.2 = _
      omega
    · show ms_uf N i (ms_fo (ms_uf N) s i) = s ∨ s.2.2 + 1 ≤ (ms_uf N i (ms_fo (ms_uf N) s i)).2.2
      rcases f with f | f
      · rw [f]; exact d
      · rcases d with d | d
        · rw [d] at f ⊢; exact Or.inr (by omega)
        · exact Or.inr (by omega)
/-- after N passes nothing more goes -/
theorem ms_up_fix (hC : ∀ c, s.2.1 c → c < N) : ∀ K, N ≤ K → ms_fo (fun _ s => ms_up' N s) s K = ms_fo (fun _ s => ms_up' N s) s N := by
  have key : ∀ k, (∀ c, (ms_fo (fun _ s => ms_up' N s) s k).2.1 c → s.2.1 c) ∧ ms_cn (ms_fo (fun _ s => ms_up' N s) s k).2.1 N + (ms_fo (fun _ s => ms_up' N s) s k).2.2 = ms_cn s.2.1 N + s.2.2 ∧ (ms_up' N (ms_fo (fun _ s => ms_up' N s) s k) = ms_fo (fun _ s => ms_up' N s) s k ∨ s.2.2 + k ≤ (ms_fo (fun _ s => ms_up' N s) s k).2.2) := by
    intro k
    induction k with
    | zero => exact ⟨fun _ q => q, rfl, Or.inr (Nat.le_refl _)⟩
    | succ k ih =>
      obtain ⟨a, b, d⟩ := ih
      obtain ⟨a', b', d'⟩ := ms_fo_n (s := ms_fo (fun _ s => ms_up' N s) s k) (fun c q => hC c (a c q)) N
      have e : ms_fo (fun _ s => ms_up' N s) s (k + 1) = ms_up' N (ms_fo (fun _ s => ms_up' N s) s k) := rfl
      have e' : ms_fo (ms_uf N) (ms_fo (fun _ s => ms_up' N s) s k) N = ms_up' N (ms_fo (fun _ s => ms_up' N s) s k) := rfl
      rw [e'] at a' b' d'
      rw [e]
      refine ⟨fun c q => a c (a' c q), by omega, ?_⟩
      rcases d with d | d
      · rw [d]; exact Or.inl d
      · rcases d' with d' | d'
        · rw [d']; exact Or.inl d'
        · exact Or.inr (by omega)
  have fix : ms_up' N (ms_fo (fun _ s => ms_up' N s) s N) = ms_fo (fun _ s => ms_up' N s) s N := by
    obtain ⟨a, b, d⟩ := key N
    rcases d with d | d
    · exact d
    · have c0 : ms_cn (ms_fo (fun _ s => ms_up' N s) s N).2.1 N = 0 := by
        have := ms_cn_le s.2.1 N
        omega
      have none : ∀ c, ¬ (ms_fo (fun _ s => ms_up' N s) s N).2.1 c := fun c q => ms_cn_0 c0 c (hC c (a c q)) q
      have stay : ∀ i, ms_fo (ms_uf N) (ms_fo (fun _ s => ms_up' N s) s N) i = ms_fo (fun _ s => ms_up' N s) s N := by
        intro i
        induction i with
        | zero => rfl
        | succ i ih =>
          show ms_uf N i (ms_fo (ms_uf N) (ms_fo (fun _ s => ms_up' N s) s N) i) = _
          rw [ih]
          exact ms_uf_f fun q => none i q.1
      exact stay N
  intro K hK
  have go : ∀ d, ms_fo (fun _ s => ms_up' N s) s (N + d) = ms_fo (fun _ s => ms_up' N s) s N := by
    intro d
    induction d with
    | zero => rfl
    | succ d ih =>
      show ms_up' N (ms_fo (fun _ s => ms_up' N s) s (N + d)) = _
      rw [ih]; exact fix
  have := go (K - N)
  rw [show N + (K - N) = K by omega] at this
  exact this
/-- the inner pass over 32 is the one over N -/
theorem ms_uf_cut (hN : N ≤ 32) (hC : ∀ c, s.2.1 c → c < N) : ms_fo (ms_uf N) s 32 = ms_up' N s := by
  have go : ∀ d, ms_fo (ms_uf N) s (N + d) = ms_fo (ms_uf N) s N := by
    intro d
    induction d with
    | zero => rfl
    | succ d ih =>
      show ms_uf N (N + d) (ms_fo (ms_uf N) s (N + d)) = _
      rw [ih]
      refine ms_uf_f fun q => ?_
      have := hC _ ((ms_fo_n hC N).1 _ q.1)
      omega
  have := go (32 - N)
  rw [show N + (32 - N) = 32 by omega] at this
  exact this
theorem ms_uf_E {e : Nat → Int32} (h : ms_E e s.1) (c : Nat) : ms_E e (ms_uf N c s).1 := by
  by_cases z : s.2.1 c ∧ ms_rb N s.1 c
  · rw [ms_uf_t z]
    exact ms_E_rv (A := ms_lk s.1 _ _ _) h
  · rw [ms_uf_f z]; exact h
end
/-- the candidates at (p, d) -/
def ms_cd' (A : ms_AS) (p d c : Nat) : Prop := c < 32 ∧ ms_U A c ∧ ms_P A c < 32 ∧ ms_Sp A p (ms_P A c) ∧ ms_Q A c = d
end
section
/-! unmount: the component -/
theorem ms_wz {w : Nat → Int32} {i k : Nat} : (¬ upd w i (vp_nar .boolean 0) k = 0) ↔ (¬ w k = 0 ∧ k ≠ i) := by
  by_cases z : k = i
  · subst z
    rw [ms_us, ms_b0]
    exact ⟨fun q => absurd rfl q, fun q => absurd rfl q.2⟩
  · rw [ms_un' z]
    exact ⟨fun q => ⟨q, z⟩, fun q => q.1⟩
theorem ms_wb {w : Nat → Int32} {i : Nat} {v : Int32} {c : Prop} {T : Nat → Prop} (hI : ∀ j, j < i → (¬ w j = 0 ↔ T j)) (hv : ¬ v = 0 ↔ c) (hc : c ↔ T i) : ∀ j, j < i + 1 → (¬ upd w i v j = 0 ↔ T j) := by
  refine lt_s (fun j hj => ?_) ?_
  · rw [ms_un' (by omega)]; exact hI j hj
  · rw [ms_us]; exact hv.trans hc
theorem ms_v0 {c : Prop} (h : ¬ c) : ¬ vp_nar .boolean 0 = 0 ↔ c := by rw [ms_b0]; exact ⟨fun q => absurd rfl q, fun q => absurd q h⟩
theorem ms_v1 {c : Prop} (h : c) : ¬ vp_nar .boolean 1 = 0 ↔ c := by rw [ms_b1]; exact ⟨fun _ => h, fun _ => ms_10⟩
section
variable {N D S : Nat} {us fs rt sp pa pt g m ub lv rm w1 w2 w3 w4 w5 w6 w7 w8 w9 wa wb : Nat → Int32}
variable {A : ms_AS} {lw : Nat → Prop} {rn : Nat → Nat}
theorem mx_mca (h : ms_CR ms_c A us fs rt sp pa pt g m ub) (hF : ms_FI N lw rn A) (hL : ms_LI A) (hN : N ≤ 32) {post : SX → Prop} {p d : Nat} (hp : p < N) (hd : d < 32)
    (hq : ∀ w c, (∀ i, i < 32 → (¬ c i = 0 ↔ ms_cd' A p d i)) → post (nI N, nI D, nI S, us, fs, rt, sp, pa, pt, g, m, ub, lv, rm, w, w2, c, w4, w5, w6, w7, w8, w9, wa, wb)) : wpX_markCandidates post (nI N, nI D, nI S, us, fs, rt, sp, pa, pt, g, m, ub, lv, rm, w1, w2, w3, w4, w5, w6, w7, w8, w9, wa, wb) (nI p) (nI d) := by
  unfold wpX_markCandidates
  refine mx_msp h hF hL hN hp fun w hw => ?_
  refine ms_lp (fun n i (c : Nat → Int32) => wX_markCandidates_7 post (nI d) (nI N) (nI D) (nI S) n i us fs rt sp pa pt g m ub lv rm w w2 c w4 w5 w6 w7 w8 w9 wa wb) (fun i c => ∀ j, j < i → (¬ c j = 0 ↔ ms_cd' A p d j)) 32 (Nat.le_refl _) w3 lt_0 (fun n c hI => br_t (nI_le (b := 32) (Nat.le_refl _) (by omega)) (hq _ _ hI)) (fun n i c hi ci vi ni hI go => ?_)
  have no : ¬ ms_cd' A p d i → ∀ c', c' = upd c i (vp_nar .boolean 0) → ∀ y, y = nI i + 1 → wX_markCandidates_7 post (nI d) (nI N) (nI D) (nI S) n y us fs rt sp pa pt g m ub lv rm w w2 c' w4 w5 w6 w7 w8 w9 wa wb := fun z c' ec => go c' (by rw [ec]; exact ms_wb hI (ms_v0 z) Iff.rfl)
  have yes : ms_cd' A p d i → ∀ c', c' = upd c i (vp_nar .boolean 1) → ∀ y, y = nI i + 1 → wX_markCandidates_7 post (nI d) (nI N) (nI D) (nI S) n y us fs rt sp pa pt g m ub lv rm w w2 c' w4 w5 w6 w7 w8 w9 wa wb := fun z c' ec => go c' (by rw [ec]; exact ms_wb hI (ms_v1 z) Iff.rfl)
  have hu := ms_CR_u h hi
  refine br_f ni ⟨vi, ?_⟩
  rw [ci]
  refine br_c (fun z => ⟨vi, no fun q => hu.mp z q.2.1⟩) (fun z => ⟨vi, ?_⟩)
  have u : ms_U A i := Classical.byContradiction fun n => z (hu.mpr n)
  rw [ms_CR_p h hi u, ms_CR_q h hi u]
  refine br_c (fun z2 => ⟨vi, no fun q => ms_c_neg.mp z2 q.2.2.1⟩) (fun z2 => ?_)
  have p32 : ms_P A i < 32 := Classical.byContradiction fun n => z2 (ms_c_neg.mpr n)
  refine ⟨vi, ms_c_in p32, ?_⟩
  rw [ms_c_cl p32]
  refine br_c (fun z3 => ⟨vi, no fun q => (hw _ p32).mpr q.2.2.2.1 z3⟩) (fun z3 => ⟨vi, br_c (fun z4 => ⟨vi, yes ⟨hi, u, p32, (hw _ p32).mp z3, (ms_c_eq hd).mp z4⟩⟩) (fun z4 => ⟨vi, no fun q => z4 ((ms_c_eq hd).mpr q.2.2.2.2)⟩)⟩)
theorem mx_rmb (h : ms_CR ms_c A us fs rt sp pa pt g m ub) (hF : ms_FI N lw rn A) (hN : N ≤ 32) {post : Int32 → Prop} {c : Nat} (hc : c < 32) (h1 : ms_rb N A c → post 1) (h0 : ¬ ms_rb N A c → post 0) : wpX_removable post (nI N, nI D, nI S, us, fs, rt, sp, pa, pt, g, m, ub, lv, rm, w1, w2, w3, w4, w5, w6, w7, w8, w9, wa, wb) (nI c) := by
  unfold wpX_removable
  refine mx_cct hN ?_
  rw [ms_rd_cc h hN hc]
  have le := ms_cn_le (fun x => ms_U A x ∧ ms_P A x = c) N
  have hR := hF.2.1 c hc
  refine br_c (fun z => h1 (Or.inl ?_)) (fun z => br_c (fun z2 => ⟨vp_in_nI hc (by omega), ?_⟩) (fun z2 => h0 fun q => ?_))
  · have z' : nI (ms_cn (fun x => ms_U A x ∧ ms_P A x = c) N) = nI 0 := z
    exact (nI_eq (by omega) (by omega)).mp z'
  · have z2' : nI (ms_cn (fun x => ms_U A x ∧ ms_P A x = c) N) = nI 1 := z2
    have e1 := (nI_eq (by omega) (by omega)).mp z2'
    rw [nI_clamp (by omega), ms_CR_r h hc]
    refine mx_at h hN hc (by omega) (br_c (fun y => h0 fun q => ?_) (fun y => h1 (Or.inr ⟨e1, Classical.byContradiction fun q => y (ms_c_neg.mpr q)⟩)))
    rcases q with q | q
    · omega
    · exact ms_c_neg.mp y q.2
  · rcases q with q | q
    · exact z (by rw [q]; rfl)
    · exact z2 (by rw [q.1]; rfl)
theorem mx_lif (h : ms_CR ms_c A us fs rt sp pa pt g m ub) (hF : ms_FI N lw rn A) (hN : N ≤ 32) {post : SX → Prop} {c : Nat} (hc : c < 32) (uc : ms_U A c)
    (hq : ∀ pa' pt', ms_CR ms_c (ms_lk A (ms_at N A c (ms_R A c)) (ms_P A c) (ms_Q A c)) us fs rt sp pa' pt' g m ub → post (nI N, nI D, nI S, us, fs, rt, sp, pa', pt', g, m, ub, lv, rm, w1, w2, w3, w4, w5, w6, w7, w8, w9, wa, wb)) : wpX_lift post (nI N, nI D, nI S, us, fs, rt, sp, pa, pt, g, m, ub, lv, rm, w1, w2, w3, w4, w5, w6, w7, w8, w9, wa, wb) (nI c) := by
  have vc : vp_in (nI c) 32 := vp_in_nI hc (by omega)
  have cc : (nI c).toNatClampNeg = c := nI_clamp (by omega)
  have hR := hF.2.1 c hc
  refine ⟨vc, ?_⟩
  rw [cc, ms_CR_r h hc]
  refine mx_at h hN hc (by omega) (br_c (fun z => ⟨vc, ?_⟩) (fun z => hq _ _ (ms_CR_lk32 h (fun q => z (ms_c_le.mpr q)) _ _)))
  have a := ms_c_le.mp z
  refine ⟨ms_c_in a, ?_⟩
  rw [ms_c_cl a]
  refine nm_e ⟨vc, ms_c_in a, nm_e ?_⟩
  have k := ms_CR_lk h (ms_at N A c (ms_R A c)) (ms_P A c) (ms_Q A c)
  rw [← ms_CR_p h hc uc, ← ms_CR_q h hc uc] at k
  exact hq _ _ k
theorem mx_rca {c0 : Nat → Prop} (h : ms_CR ms_c A us fs rt sp pa pt g m ub) (hU : ms_UI N lw rn (A, c0, 0)) (hw : ∀ i, i < 32 → (¬ w3 i = 0 ↔ c0 i)) (hN : N ≤ 32) {post : Int32 → SX → Prop}
    (hq : ∀ us' pa' pt' g' m' c', ms_CR ms_c (ms_fo (fun _ s => ms_up' N s) (A, c0, 0) N).1 us' fs rt sp pa' pt' g' m' ub → post (nI (ms_fo (fun _ s => ms_up' N s) (A, c0, 0) N).2.2) (nI N, nI D, nI S, us', fs, rt, sp, pa', pt', g', m', ub, lv, rm, w1, w2, c', w4, w5, w6, w7, w8, w9, wa, wb)) : wpX_removeCandidates post (nI N, nI D, nI S, us, fs, rt, sp, pa, pt, g, m, ub, lv, rm, w1, w2, w3, w4, w5, w6, w7, w8, w9, wa, wb) := by
  refine ms_lp (fun n k (t : Int32 × (Nat → Int32) × (Nat → Int32) × (Nat → Int32) × (Nat → Int32) × (Nat → Int32) × (Nat → Int32)) => wX_removeCandidates_4 post n t.1 k (nI N) (nI D) (nI S) t.2.1 fs rt sp t.2.2.1 t.2.2.2.1 t.2.2.2.2.1 t.2.2.2.2.2.1 ub lv rm w1 w2 t.2.2.2.2.2.2 w4 w5 w6 w7 w8 w9 wa wb) (fun k t => t.1 = nI (ms_fo (fun _ s => ms_up' N s) (A, c0, 0) k).2.2 ∧ ms_CR ms_c (ms_fo (fun _ s => ms_up' N s) (A, c0, 0) k).1 t.2.1 fs rt sp t.2.2.1 t.2.2.2.1 t.2.2.2.2.1 t.2.2.2.2.2.1 ub ∧ ∀ i, i < 32 → (¬ t.2.2.2.2.2.2 i = 0 ↔ (ms_fo (fun _ s => ms_up' N s) (A, c0, 0) k).2.1 i)) N hN (0, us, pa, pt, g, m, w3) ⟨rfl, h, hw⟩ (fun n t hI => ?_) (fun n k t0 hk ck vk nk hI go => ?_)
  · rw [hI.1]
    exact br_t (nI_le (Nat.le_refl _) (by omega)) (hq _ _ _ _ _ _ hI.2.1)
  · have hU0 := ms_UI_p hN hU k
    generalize hs0 : ms_fo (fun _ s => ms_up' N s) (A, c0, 0) k = s0 at hI hU0
    have es0 : ms_fo (fun _ s => ms_up' N s) (A, c0, 0) (k + 1) = ms_fo (ms_uf N) s0 N := by rw [← hs0]; rfl
    rw [es0] at go
    refine br_f nk (ms_lp (fun n' i (t : Int32 × (Nat → Int32) × (Nat → Int32) × (Nat → Int32) × (Nat → Int32) × (Nat → Int32) × (Nat → Int32)) => wX_removeCandidates_14 post (wX_removeCandidates_4 post n) (nI k) n' t.1 i (nI N) (nI D) (nI S) t.2.1 fs rt sp t.2.2.1 t.2.2.2.1 t.2.2.2.2.1 t.2.2.2.2.2.1 ub lv rm w1 w2 t.2.2.2.2.2.2 w4 w5 w6 w7 w8 w9 wa wb) (fun i t => t.1 = nI (ms_fo (ms_uf N) s0 i).2.2 ∧ ms_CR ms_c (ms_fo (ms_uf N) s0 i).1 t.2.1 fs rt sp t.2.2.1 t.2.2.2.1 t.2.2.2.2.1 t.2.2.2.2.2.1 ub ∧ ∀ j, j < 32 → (¬ t.2.2.2.2.2.2 j = 0 ↔ (ms_fo (ms_uf N) s0 i).2.1 j)) N hN t0 hI (fun n' t hJ => br_t (nI_le (Nat.le_refl _) (by omega)) (go t hJ)) (fun n' i t hi ci vi ni hJ go2 => ?_))
    obtain ⟨c, us', pa', pt', g', m', w'⟩ := t
    obtain ⟨ec, hC, hW⟩ := hJ
    dsimp only at ec hC hW ⊢
    obtain ⟨uF, uL, uC⟩ := ms_UI_i hN hU0 i
    have es : ms_fo (ms_uf N) s0 (i + 1) = ms_uf N i (ms_fo (ms_uf N) s0 i) := rfl
    rw [es] at go2
    generalize ms_fo (ms_uf N) s0 i = s1 at ec hC hW uF uL uC go2
    have skip : ¬ (s1.2.1 i ∧ ms_rb N s1.1 i) → ∀ y, y = nI i + 1 → wX_removeCandidates_14 post (wX_removeCandidates_4 post n) (nI k) n' c y (nI N) (nI D) (nI S) us' fs rt sp pa' pt' g' m' ub lv rm w1 w2 w' w4 w5 w6 w7 w8 w9 wa wb := fun no => by
      rw [ms_uf_f no] at go2
      exact go2 (c, us', pa', pt', g', m', w') ⟨ec, hC, hW⟩
    refine br_f ni ⟨vi, ?_⟩
    rw [ci]
    refine br_c (fun z => skip fun q => (hW i (by omega)).mpr q.1 z) (fun z => mx_rmb hC uF hN (by omega) (fun b => ?_) (fun b => br_t rfl (skip fun q => b q.2)))
    have ic := (hW i (by omega)).mp z
    obtain ⟨i32, iu, ip⟩ := uC i ic
    refine br_f ms_10 ⟨vi, nm_e (mx_lif hC uF hN i32 iu fun pa2 pt2 h2 => mx_rmv h2 uL (fun j hj u => (uF.1 j hj u).1) hN i32 fun us3 pa3 pt3 g3 m3 h3 => ?_)⟩
    rw [ms_uf_t ⟨ic, b⟩] at go2
    rw [ec]
    exact nm_r (nI_1 _) (go2 (nI (s1.2.2 + 1), us3, pa3, pt3, g3, m3, upd w' i (vp_nar .boolean 0)) ⟨rfl, h3, fun j hj => ms_wz.trans (and_congr (hW j hj) Iff.rfl)⟩)
end
end
section
/-! unmount: the reference, and the two together -/
section
variable {N D S : Nat} {lv us fs rt sp ub pa pt g m v1 v2 v3 v4 v5 v6 v7 v8 v9 : Nat → Int32}
variable {e : Nat → Int32} {A : ms_AS} {lw : Nat → Prop} {rn : Nat → Nat}
/-- the candidates -/
theorem my_mca (h : ms_CR e A us fs rt sp pa pt g m ub) {post : Int32 → SY → Prop} {p d : Nat} (hd : d < 32) (hw : ∀ i, i < 32 → (¬ v1 i = 0 ↔ ms_Sp A p i))
    (hq : ∀ c, (∀ i, i < 32 → (¬ c i = 0 ↔ ms_cd' A p d i)) → ∃ n, wY_unmount_199 post n 0 0 (nI N) (nI D) (nI S) lv us fs rt sp ub pa pt g m v1 v2 c v4 v5 v6 v7 v8 v9) : ∃ n, wY_unmount_121 post (nI d) (nI N) (nI D) (nI S) n 0 lv us fs rt sp ub pa pt g m v1 v2 v3 v4 v5 v6 v7 v8 v9 := by
  refine ms_lp (fun n i (c : Nat → Int32) => wY_unmount_121 post (nI d) (nI N) (nI D) (nI S) n i lv us fs rt sp ub pa pt g m v1 v2 c v4 v5 v6 v7 v8 v9) (fun i c => ∀ j, j < i → (¬ c j = 0 ↔ ms_cd' A p d j)) 32 (Nat.le_refl _) v3 lt_0 (fun n c hI => br_t (nI_le (b := 32) (Nat.le_refl _) (by omega)) (hq _ hI)) (fun n i c hi ci vi ni hI go => ?_)
  have no : ¬ ms_cd' A p d i → ∀ c', c' = upd c i (vp_nar .boolean 0) → ∀ y, y = nI i + 1 → wY_unmount_121 post (nI d) (nI N) (nI D) (nI S) n y lv us fs rt sp ub pa pt g m v1 v2 c' v4 v5 v6 v7 v8 v9 := fun z c' ec => go c' (by rw [ec]; exact ms_wb hI (ms_v0 z) Iff.rfl)
  have yes : ms_cd' A p d i → ∀ c', c' = upd c i (vp_nar .boolean 1) → ∀ y, y = nI i + 1 → wY_unmount_121 post (nI d) (nI N) (nI D) (nI S) n y lv us fs rt sp ub pa pt g m v1 v2 c' v4 v5 v6 v7 v8 v9 := fun z c' ec => go c' (by rw [ec]; exact ms_wb hI (ms_v1 z) Iff.rfl)
  have hu := ms_CR_u h hi
  refine br_f ni ⟨vi, ?_⟩
  rw [ci]
  refine br_c (fun z => ⟨vi, no fun q => hu.mp z q.2.1⟩) (fun z => ⟨vi, ?_⟩)
  have u : ms_U A i := Classical.byContradiction fun n => z (hu.mpr n)
  rw [ms_CR_p h hi u, ms_CR_q h hi u]
  refine br_c (fun z2 => ⟨vi, no fun q => ms_c_neg.mp z2 q.2.2.1⟩) (fun z2 => ⟨vi, ?_⟩)
  have p32 : ms_P A i < 32 := Classical.byContradiction fun n => z2 (ms_c_neg.mpr n)
  rw [ms_c_cl p32]
  exact br_c (fun z3 => ⟨vi, ms_c_in p32, br_c (fun z4 => ⟨vi, no fun q => (hw _ p32).mpr q.2.2.2.1 z4⟩) (fun z4 => ⟨vi, yes ⟨hi, u, p32, (hw _ p32).mp z4, (ms_c_eq hd).mp z3⟩⟩)⟩) (fun z3 => ⟨vi, no fun q => z3 ((ms_c_eq hd).mpr q.2.2.2.2)⟩)
/-- one candidate -/
theorem my_one (h : ms_CR e A us fs rt sp pa pt g m ub) (hE : ms_E e A) (he : e 32 = 0) (hF : ms_FI N lw rn A) (hL : ms_LI A) (hN : N ≤ 32) {post : Int32 → SY → Prop} {J1 J2 : Int32 → Int32 → Int32 → Int32 → Int32 → (Nat → Int32) → (Nat → Int32) → (Nat → Int32) → (Nat → Int32) → (Nat → Int32) → (Nat → Int32) → (Nat → Int32) → (Nat → Int32) → (Nat → Int32) → (Nat → Int32) → (Nat → Int32) → (Nat → Int32) → (Nat → Int32) → (Nat → Int32) → (Nat → Int32) → (Nat → Int32) → (Nat → Int32) → (Nat → Int32) → (Nat → Int32) → Prop} {a6 a7 : Int32} {c : Nat} (hc : c < 32) (uc : ms_U A c)
    (h0 : ¬ ms_rb N A c → ∀ y, y = nI c + 1 → J2 a6 y (nI N) (nI D) (nI S) lv us fs rt sp ub pa pt g m v1 v2 v3 v4 v5 v6 v7 v8 v9)
    (h1 : ms_rb N A c → ∀ us' pa' pt' g' m', ms_CR e (ms_rc N A c) us' fs rt sp pa' pt' g' m' ub → ∀ y, y = nI c + 1 → J2 (a6 + 1) y (nI N) (nI D) (nI S) lv us' fs rt sp ub pa' pt' g' m' v1 v2 (upd v3 c (vp_nar .boolean 0)) v4 v5 v6 v7 v8 v9) : ∃ n, wY_unmount_232 post J1 J2 a6 a7 (nI c) (nI N) (nI D) (nI S) lv us fs rt sp ub pa pt g m v1 v2 v3 v4 v5 v6 v7 v8 v9 n 0 0 := by
  have vc : vp_in (nI c) 32 := vp_in_nI hc (by omega)
  have cc : (nI c).toNatClampNeg = c := nI_clamp (by omega)
  have hR := hF.2.1 c hc
  have cut : ms_cn (fun x => ¬ us x = 0 ∧ pa x = nI c) 32 = ms_cn (fun x => ms_U A x ∧ ms_P A x = c) N := by
    rw [ms_rd_cc h (Nat.le_refl _) hc]
    exact ms_cn_cut hN fun j a b q => by have := (hF.1 j b q.1).1; omega
  have le := ms_cn_le (fun x => ms_U A x ∧ ms_P A x = c) N
  refine ms_ct (W := fun n k i => wY_unmount_232 post J1 J2 a6 a7 (nI c) (nI N) (nI D) (nI S) lv us fs rt sp ub pa pt g m v1 v2 v3 v4 v5 v6 v7 v8 v9 n k i) (P := fun x => ¬ us x = 0 ∧ pa x = nI c) (Nat.le_refl _) (fun n => ?_) (fun n i hi ci vi ni t f => ?_)
  · refine br_t (nI_le (b := 32) (Nat.le_refl _) (by omega)) ⟨vc, ?_⟩
    rw [cc, ms_CR_r h hc, cut]
    refine my_at h hF hN hc (by omega) ?_
    -- removal
    have last : ∀ pa' pt', ms_CR e (ms_lk A (ms_at N A c (ms_R A c)) (ms_P A c) (ms_Q A c)) us fs rt sp pa' pt' g m ub → ms_rb N A c → wY_unmount_334 post J1 J2 a6 a7 (nI c) (nI N) (nI D) (nI S) lv us fs rt sp ub pa' pt' g m v1 v2 v3 v4 v5 v6 v7 v8 v9 := by
      intro pa' pt' h2 b
      unfold wY_unmount_334
      refine my_rmv h2 hE he hL hc fun us3 g3 m3 h3 => ⟨vc, ?_⟩
      rw [cc]
      exact nm_e (nm_e (h1 b us3 pa' pt' g3 m3 h3))
    have lift : ms_rb N A c → wY_unmount_301 post J1 J2 a6 a7 (nI c) (ms_c (ms_at N A c (ms_R A c))) (nI N) (nI D) (nI S) lv us fs rt sp ub pa pt g m v1 v2 v3 v4 v5 v6 v7 v8 v9 := by
      intro b
      refine br_c (fun z => last _ _ (ms_CR_lk32 h (ms_c_neg.mp z) _ _) b) (fun z => ⟨vc, ?_⟩)
      have a : ms_at N A c (ms_R A c) < 32 := Classical.byContradiction fun q => z (ms_c_neg.mpr q)
      refine ⟨ms_c_in a, ?_⟩
      rw [ms_c_cl a, cc]
      have k := ms_CR_lk h (ms_at N A c (ms_R A c)) (ms_P A c) (ms_Q A c)
      rw [← ms_CR_p h hc uc, ← ms_CR_q h hc uc] at k
      exact nm_e ⟨vc, ms_c_in a, nm_e (last _ _ k b)⟩
    refine br_c (fun z => lift (Or.inl ?_)) (fun z => br_c (fun z2 => ?_) (fun z2 => h0 fun q => ?_))
    · have z' : nI (ms_cn (fun x => ms_U A x ∧ ms_P A x = c) N) = nI 0 := z
      exact (nI_eq (by omega) (by omega)).mp z'
    · have z2' : nI (ms_cn (fun x => ms_U A x ∧ ms_P A x = c) N) = nI 1 := z2
      have e1 := (nI_eq (by omega) (by omega)).mp z2'
      refine br_c (fun y => h0 fun q => ?_) (fun y => lift (Or.inr ⟨e1, Classical.byContradiction fun q => y (ms_c_neg.mpr q)⟩))
      rcases q with q | q
      · omega
      · exact ms_c_neg.mp y q.2
    · rcases q with q | q
      · exact z (by rw [q]; rfl)
      · exact z2 (by rw [q.1]; rfl)
  · refine br_f ni ⟨vi, ?_⟩
    rw [ci]
    exact br_c (fun z => f fun q => q.1 z) (fun z => ⟨vi, br_c (fun z2 => t ⟨z, z2⟩) (fun z2 => f fun q => z2 q.2)⟩)
theorem my_rca {c0 : Nat → Prop} (h : ms_CR e A us fs rt sp pa pt g m ub) (hE : ms_E e A) (he : e 32 = 0) (hU : ms_UI N lw rn (A, c0, 0)) (hw : ∀ i, i < 32 → (¬ v3 i = 0 ↔ c0 i)) (hN : N ≤ 32) {post : Int32 → SY → Prop}
    (hq : ∀ us' pa' pt' g' m' c', ms_E e (ms_fo (fun _ s => ms_up' N s) (A, c0, 0) N).1 → ms_CR e (ms_fo (fun _ s => ms_up' N s) (A, c0, 0) N).1 us' fs rt sp pa' pt' g' m' ub → post (nI (ms_fo (fun _ s => ms_up' N s) (A, c0, 0) N).2.2) (nI N, nI D, nI S, lv, us', fs, rt, sp, ub, pa', pt', g', m', v1, v2, c', v4, v5, v6, v7, v8, v9)) : ∃ n, wY_unmount_199 post n 0 0 (nI N) (nI D) (nI S) lv us fs rt sp ub pa pt g m v1 v2 v3 v4 v5 v6 v7 v8 v9 := by
  have hC0 : ∀ c, (A, c0, 0).2.1 c → c < N := fun c q => (hU.1.1 c (hU.2.2 c q).1 (hU.2.2 c q).2.1).1
  refine ms_lp (fun n k (t : Int32 × (Nat → Int32) × (Nat → Int32) × (Nat → Int32) × (Nat → Int32) × (Nat → Int32) × (Nat → Int32)) => wY_unmount_199 post n t.1 k (nI N) (nI D) (nI S) lv t.2.1 fs rt sp ub t.2.2.1 t.2.2.2.1 t.2.2.2.2.1 t.2.2.2.2.2.1 v1 v2 t.2.2.2.2.2.2 v4 v5 v6 v7 v8 v9) (fun k t => ms_E e (ms_fo (fun _ s => ms_up' N s) (A, c0, 0) k).1 ∧ t.1 = nI (ms_fo (fun _ s => ms_up' N s) (A, c0, 0) k).2.2 ∧ ms_CR e (ms_fo (fun _ s => ms_up' N s) (A, c0, 0) k).1 t.2.1 fs rt sp t.2.2.1 t.2.2.2.1 t.2.2.2.2.1 t.2.2.2.2.2.1 ub ∧ ∀ i, i < 32 → (¬ t.2.2.2.2.2.2 i = 0 ↔ (ms_fo (fun _ s => ms_up' N s) (A, c0, 0) k).2.1 i)) 32 (Nat.le_refl _) (0, us, pa, pt, g, m, v3) ⟨hE, rfl, h, hw⟩ (fun n t hI => ?_) (fun n k t0 hk ck vk nk hI go => ?_)
  · rw [ms_up_fix hC0 32 hN] at hI
    rw [hI.2.1]
    exact br_t (nI_le (b := 32) (Nat.le_refl _) (by omega)) (hq _ _ _ _ _ _ hI.1 hI.2.2.1)
  · have hU0 := ms_UI_p hN hU k
    have es0 : ms_fo (fun _ s => ms_up' N s) (A, c0, 0) (k + 1) = ms_up' N (ms_fo (fun _ s => ms_up' N s) (A, c0, 0) k) := rfl
    rw [es0] at go
    generalize ms_fo (fun _ s => ms_up' N s) (A, c0, 0) k = s0 at hI hU0 go
    have hC : ∀ c, s0.2.1 c → c < N := fun c q => (hU0.1.1 c (hU0.2.2 c q).1 (hU0.2.2 c q).2.1).1
    rw [← ms_uf_cut hN hC] at go
    refine br_f nk (ms_lp (fun n' i (t : Int32 × (Nat → Int32) × (Nat → Int32) × (Nat → Int32) × (Nat → Int32) × (Nat → Int32) × (Nat → Int32)) => wY_unmount_209 post (wY_unmount_199 post n) (nI k) n' t.1 i (nI N) (nI D) (nI S) lv t.2.1 fs rt sp ub t.2.2.1 t.2.2.2.1 t.2.2.2.2.1 t.2.2.2.2.2.1 v1 v2 t.2.2.2.2.2.2 v4 v5 v6 v7 v8 v9) (fun i t => ms_E e (ms_fo (ms_uf N) s0 i).1 ∧ t.1 = nI (ms_fo (ms_uf N) s0 i).2.2 ∧ ms_CR e (ms_fo (ms_uf N) s0 i).1 t.2.1 fs rt sp t.2.2.1 t.2.2.2.1 t.2.2.2.2.1 t.2.2.2.2.2.1 ub ∧ ∀ j, j < 32 → (¬ t.2.2.2.2.2.2 j = 0 ↔ (ms_fo (ms_uf N) s0 i).2.1 j)) 32 (Nat.le_refl _) t0 hI (fun n' t hJ => br_t (nI_le (b := 32) (Nat.le_refl _) (by omega)) (go t hJ)) (fun n' i t hi ci vi ni hJ go2 => ?_))
    obtain ⟨c, us', pa', pt', g', m', w'⟩ := t
    obtain ⟨hE1, ec, hC1, hW⟩ := hJ
    dsimp only at hE1 ec hC1 hW ⊢
    obtain ⟨uF, uL, uC⟩ := ms_UI_i hN hU0 i
    have es : ms_fo (ms_uf N) s0 (i + 1) = ms_uf N i (ms_fo (ms_uf N) s0 i) := rfl
    rw [es] at go2
    have hE2 := ms_uf_E (N := N) hE1 i
    generalize ms_fo (ms_uf N) s0 i = s1 at hE1 ec hC1 hW uF uL uC go2 hE2
    have skip : ¬ (s1.2.1 i ∧ ms_rb N s1.1 i) → ∀ y, y = nI i + 1 → wY_unmount_209 post (wY_unmount_199 post n) (nI k) n' c y (nI N) (nI D) (nI S) lv us' fs rt sp ub pa' pt' g' m' v1 v2 w' v4 v5 v6 v7 v8 v9 := fun no => by
      rw [ms_uf_f no] at go2
      exact go2 (c, us', pa', pt', g', m', w') ⟨hE1, ec, hC1, hW⟩
    refine br_f ni ⟨vi, ?_⟩
    rw [ci]
    refine br_c (fun z => skip fun q => (hW i hi).mpr q.1 z) (fun z => ?_)
    have ic := (hW i hi).mp z
    obtain ⟨i32, iu, ip⟩ := uC i ic
    refine my_one hC1 hE1 he uF uL hN i32 iu (fun b => skip fun q => b q.2) (fun b us3 pa3 pt3 g3 m3 h3 => ?_)
    rw [ms_uf_t ⟨ic, b⟩] at go2 hE2
    rw [ec, nI_1 s1.2.2]
    exact go2 (nI (s1.2.2 + 1), us3, pa3, pt3, g3, m3, upd w' i (vp_nar .boolean 0)) ⟨hE2, rfl, h3, fun j hj => ms_wz.trans (and_congr (hW j hj) Iff.rfl)⟩
end
theorem ms_up_k {N : Nat} {s : ms_US} : ∀ k, ms_F (ms_fo (fun _ s => ms_up' N s) s k).1 = ms_F s.1 ∧ ms_B (ms_fo (fun _ s => ms_up' N s) s k).1 = ms_B s.1 := fun _ => by
  have one : ∀ c (s : ms_US), ms_F (ms_uf N c s).1 = ms_F s.1 ∧ ms_B (ms_uf N c s).1 = ms_B s.1 := by
    intro c s
    by_cases z : s.2.1 c ∧ ms_rb N s.1 c
    · rw [ms_uf_t z]
      obtain ⟨_, r1, _, _, _, _, r6⟩ := ms_rv_k (A := ms_lk s.1 (ms_at N s.1 c (ms_R s.1 c)) (ms_P s.1 c) (ms_Q s.1 c)) (x := c)
      exact ⟨r1, r6⟩
    · rw [ms_uf_f z]; exact ⟨rfl, rfl⟩
  have inner : ∀ i (s : ms_US), ms_F (ms_fo (ms_uf N) s i).1 = ms_F s.1 ∧ ms_B (ms_fo (ms_uf N) s i).1 = ms_B s.1 := by
    intro i s
    induction i with
    | zero => exact ⟨rfl, rfl⟩
    | succ i ih => exact ⟨(one i _).1.trans ih.1, (one i _).2.trans ih.2⟩
  rename_i k
  induction k with
  | zero => exact ⟨rfl, rfl⟩
  | succ k ih => exact ⟨(inner N _).1.trans ih.1, (inner N _).2.trans ih.2⟩
theorem i_vc_unmount {k : Nat} {u : SX} {v : SY} (I : i_Rel k u v) (hk : k + 5 ≤ 2563) (v1 : Int32) (v2 : Int32) : wpX_unmount (fun r u' => wpY_unmount (fun r' v' => r' = r ∧ i_Rel (k + 5) u' v') v v1 v2) u v1 v2 := by
  refine ms_el (P := fun u v => wpX_unmount (fun r u' => wpY_unmount (fun r' v' => r' = r ∧ i_Rel (k + 5) u' v') v v1 v2) u v1 v2) I ?_
  intro N D S A lw rn e us fs rt sp pa pt g m ub lv rm w1 w2 w3 w4 w5 w6 w7 w8 w9 wa wb lvy usy fsy rty spy uby pay pty gy my v1y v2y v3y v4y v5y v6y v7y v8y v9y hI h hl hr he hE h' hl'
  have J : i_Rel (k + 5) (nI N, nI D, nI S, us, fs, rt, sp, pa, pt, g, m, ub, lv, rm, w1, w2, w3, w4, w5, w6, w7, w8, w9, wa, wb) (nI N, nI D, nI S, lvy, usy, fsy, rty, spy, uby, pay, pty, gy, my, v1y, v2y, v3y, v4y, v5y, v6y, v7y, v8y, v9y) := ms_mk hI h hl hr he hE h' hl'
  obtain ⟨hN, hN8, hD, hS, hF, hL⟩ := hI
  unfold wpX_unmount wpY_unmount
  dsimp only
  by_cases c : ∃ s, s < S ∧ v1 = nI s ∧ lw s
  · obtain ⟨s, hs, rfl, ls⟩ := c
    have s4 : s < 4 := by omega
    refine mx_il1 hS hl hs ls (br_f ms_10 (mx_walk h hF hN hD s4 ls (hr s s4 ls) ?_))
    cases hw : ms_wk N D A v2 16 (ms_cr N A 32 (rn s) (ms_R A (rn s))) with
    | none =>
      refine br_f (by decide) (my_il1 hS hl' hs ls (br_f ms_10 (my_walk h' hF hN hD s4 ls ?_)))
      rw [hw]
      exact br_f (by decide) ⟨rfl, J⟩
    | some q =>
      obtain ⟨r1, r2, r3, r4, _⟩ := hF.2.2.2.1 s s4 ls
      have hR := hF.2.1 _ r1
      have gq : ms_gd A s (q / 16) (q % 16) := ms_gd_wk hF hN hD 16 _ q (ms_gd_cr hF hN 32 _ _ ⟨r1, r2, r3, hR, ms_un_r _ (by omega)⟩) hw
      have q5 := ms_gd_q gq
      have q31 : q < 2 ^ 31 := by omega
      obtain ⟨g1, g2, g3, g4, g5⟩ := gq
      have hRq := hF.2.1 _ g1
      have qN := (hF.1 _ g1 g2).1
      have vq : vp_in (nI (q / 16)) 32 := vp_in_nI g1 (by omega)
      have cq : (nI (q / 16)).toNatClampNeg = q / 16 := nI_clamp (by omega)
      -- the reference up to its first loop
      have ypre : ∀ P : Int32 → SY → Prop, ((q % 16 = ms_R A (q / 16) → (ms_P A (q / 16) < 32 → ∃ n, wY_unmount_60 P (nI (q / 16)) (nI N) (nI D) (nI S) lvy usy fsy rty spy uby pay pty gy my v1y v2y v3y v4y v5y v6y v7y v8y v9y n 0) ∧ (¬ ms_P A (q / 16) < 32 → P (-2) (nI N, nI D, nI S, lvy, usy, fsy, rty, spy, uby, pay, pty, gy, my, v1y, v2y, v3y, v4y, v5y, v6y, v7y, v8y, v9y))) ∧ (¬ q % 16 = ms_R A (q / 16) → P (-2) (nI N, nI D, nI S, lvy, usy, fsy, rty, spy, uby, pay, pty, gy, my, v1y, v2y, v3y, v4y, v5y, v6y, v7y, v8y, v9y))) → wpY_isLive (fun r_1 => (r_1 = 0 → P (-6) (nI N, nI D, nI S, lvy, usy, fsy, rty, spy, uby, pay, pty, gy, my, v1y, v2y, v3y, v4y, v5y, v6y, v7y, v8y, v9y)) ∧ (¬ r_1 = 0 → wpY_walk (fun r_25 => (0 ≤ r_25 → ¬ (16 : Int32) = 0 ∧ ∀ x4_50, x4_50 = r_25 / 16 → ¬ (16 : Int32) = 0 ∧ vp_in x4_50 32 ∧ (r_25 - r_25 / 16 * 16 = rty x4_50.toNatClampNeg → vp_in x4_50 32 ∧ (0 ≤ pay x4_50.toNatClampNeg → ∃ n60, wY_unmount_60 P x4_50 (nI N) (nI D) (nI S) lvy usy fsy rty spy uby pay pty gy my v1y v2y v3y v4y v5y v6y v7y v8y v9y n60 0) ∧ (¬ 0 ≤ pay x4_50.toNatClampNeg → P (-2) (nI N, nI D, nI S, lvy, usy, fsy, rty, spy, uby, pay, pty, gy, my, v1y, v2y, v3y, v4y, v5y, v6y, v7y, v8y, v9y))) ∧ (¬ r_25 - r_25 / 16 * 16 = rty x4_50.toNatClampNeg → P (-2) (nI N, nI D, nI S, lvy, usy, fsy, rty, spy, uby, pay, pty, gy, my, v1y, v2y, v3y, v4y, v5y, v6y, v7y, v8y, v9y))) ∧ (¬ 0 ≤ r_25 → P (-1) (nI N, nI D, nI S, lvy, usy, fsy, rty, spy, uby, pay, pty, gy, my, v1y, v2y, v3y, v4y, v5y, v6y, v7y, v8y, v9y))) (nI N, nI D, nI S, lvy, usy, fsy, rty, spy, uby, pay, pty, gy, my, v1y, v2y, v3y, v4y, v5y, v6y, v7y, v8y, v9y) (nI s) v2)) (nI N, nI D, nI S, lvy, usy, fsy, rty, spy, uby, pay, pty, gy, my, v1y, v2y, v3y, v4y, v5y, v6y, v7y, v8y, v9y) (nI s) := by
        intro P hP
        refine my_il1 hS hl' hs ls (br_f ms_10 (my_walk h' hF hN hD s4 ls ?_))
        rw [hw]
        refine br_t (nI_pos' q31) ⟨by decide, nm_r (ms_pd q31) ⟨by decide, vq, ?_⟩⟩
        show (nI q - nI q / 16 * 16 = _ → _) ∧ (¬ nI q - nI q / 16 * 16 = _ → _)
        rw [cq, ms_pr q31, ms_CR_r h' g1, nI_eq (by omega) (by omega), ms_CR_p h' g1 g2, ms_c_le]
        exact br_c (fun z => ⟨vq, hP.1 z⟩) hP.2
      refine br_t (nI_pos' q31) (nm_r (ms_p4 q31) ⟨vq, ?_⟩)
      show (nI q &&& 15 = _ → _) ∧ (¬ nI q &&& 15 = _ → _)
      rw [cq, ms_p15 q31, ms_CR_r h g1, nI_eq (by omega) (by omega), ms_CR_p h g1 g2, ms_CR_q h g1 g2, ms_c_le]
      refine br_c (fun zr => ⟨vq, ?_⟩) (fun zr => ypre (fun r' v' => r' = -2 ∧ i_Rel (k + 5) (nI N, nI D, nI S, us, fs, rt, sp, pa, pt, g, m, ub, lv, rm, w1, w2, w3, w4, w5, w6, w7, w8, w9, wa, wb) v') (br_f zr ⟨rfl, J⟩))
      refine br_c (fun zp => ?_) (fun zp => ypre (fun r' v' => r' = -2 ∧ i_Rel (k + 5) (nI N, nI D, nI S, us, fs, rt, sp, pa, pt, g, m, ub, lv, rm, w1, w2, w3, w4, w5, w6, w7, w8, w9, wa, wb) v') (br_t zr (br_f zp ⟨rfl, J⟩)))
      refine mx_cct hN ?_
      rw [ms_rd_cc h hN g1]
      have le := ms_cn_le (fun x => ms_U A x ∧ ms_P A x = q / 16) N
      by_cases zk : ms_cn (fun x => ms_U A x ∧ ms_P A x = q / 16) N = 0
      · -- no children: the candidates go
        obtain ⟨p1, p2, p3, p4⟩ := hF.2.2.1 _ g1 g2 zp
        have pN := (hF.1 _ zp p1).1
        have d32 : ms_Q A (q / 16) < 32 := by omega
        rw [ms_c_lt zp, ms_c_lt d32]
        have hU : ms_UI N lw rn (A, ms_cd' A (ms_P A (q / 16)) (ms_Q A (q / 16)), 0) := ⟨hF, hL, fun c q => ⟨q.1, q.2.1, q.2.2.1⟩⟩
        refine br_t (by rw [zk]; decide) ⟨vq, vq, mx_mca h hF hL hN pN d32 fun w cw hcw => ?_⟩
        refine mx_rca h hU hcw hN fun us2 pa2 pt2 g2' m2 c2 h2 => ?_
        refine ypre (fun r' v' => r' = nI (ms_fo (fun _ s => ms_up' N s) (A, ms_cd' A (ms_P A (q / 16)) (ms_Q A (q / 16)), 0) N).2.2 ∧ i_Rel (k + 5) (nI N, nI D, nI S, us2, fs, rt, sp, pa2, pt2, g2', m2, ub, lv, rm, w, w2, c2, w4, w5, w6, w7, w8, w9, wa, wb) v') (br_t zr (br_t zp ?_))
        refine ms_sr (W := fun n i => wY_unmount_60 _ (nI (q / 16)) (nI N) (nI D) (nI S) lvy usy fsy rty spy uby pay pty gy my v1y v2y v3y v4y v5y v6y v7y v8y v9y n i) (P := fun _ => False) (Nat.le_refl 32) (fun n _ _ => ?_) (fun n i hi ci vi ni go _ => ?_)
        · refine br_t (nI_le (b := 32) (Nat.le_refl _) (by omega)) ⟨vq, ?_⟩
          rw [cq, ms_CR_q h' g1 g2, ms_CR_p h' g1 g2, ms_c_lt zp, ms_c_lt d32]
          refine nm_e ⟨vq, my_msp h' hE he hF hL hN pN fun wv hwv => my_mca h' d32 hwv fun cv hcv => ?_⟩
          refine my_rca h' hE he hU hcv hN fun us3 pa3 pt3 g3' m3 c3 hE3 h3 => ⟨rfl, ?_⟩
          obtain ⟨uF, uL, _⟩ := ms_UI_p hN hU N
          exact ms_mk ⟨hN, hN8, hD, hS, uF, uL⟩ h2 hl hr he hE3 h3 hl'
        · refine br_f ni ⟨vi, ?_⟩
          rw [ci]
          refine br_c (fun z => go id) (fun z => ⟨vi, br_c (fun z2 => ?_) (fun z2 => go id)⟩)
          exfalso
          have u : ms_U A i := Classical.byContradiction fun n => z ((ms_CR_u h' hi).mpr n)
          rw [ms_CR_p h' hi u, ms_c_eq g1] at z2
          exact ms_cn_0 zk i (hF.1 i hi u).1 ⟨u, z2⟩
      · refine br_f (fun z => ?_) (ypre (fun r' v' => r' = -3 ∧ i_Rel (k + 5) (nI N, nI D, nI S, us, fs, rt, sp, pa, pt, g, m, ub, lv, rm, w1, w2, w3, w4, w5, w6, w7, w8, w9, wa, wb) v') (br_t zr (br_t zp ?_)))
        · have z' : nI (ms_cn (fun x => ms_U A x ∧ ms_P A x = q / 16) N) ≤ nI 0 := z
          rw [nI_leI (by omega) (by omega)] at z'
          omega
        · refine ms_sr (W := fun n i => wY_unmount_60 _ (nI (q / 16)) (nI N) (nI D) (nI S) lvy usy fsy rty spy uby pay pty gy my v1y v2y v3y v4y v5y v6y v7y v8y v9y n i) (P := fun c => ms_U A c ∧ ms_P A c = q / 16) (Nat.le_refl 32) (fun n _ no => ?_) (fun n i hi ci vi ni go _ => ?_)
          · exact absurd (ms_cn_no fun i hi => no i (by omega)) zk
          · refine br_f ni ⟨vi, ?_⟩
            rw [ci]
            refine br_c (fun z => go fun y => (ms_CR_u h' hi).mp z y.1) (fun z => ⟨vi, br_c (fun z2 => ⟨rfl, J⟩) (fun z2 => go fun y => z2 ?_)⟩)
            rw [ms_CR_p h' hi y.1, ms_c_eq g1]
            exact y.2
  · exact mx_il0 hS hl c (br_t rfl (my_il0 hS hl' c (br_t rfl ⟨rfl, J⟩)))
end
section
/-! copying: the stages -/
def ms_sg (A : ms_AS) (ix : Nat → Nat) (k : Nat) (rt' : Nat → Nat) (s : Nat) (gl ml : Nat → Nat) (bl : Nat → Int32) : ms_AS :=
  (fun i => ix i < k ∨ ms_U A i, fun i => if ix i < k then ms_F A (ix i) else ms_F A i, fun i => if ix i < k then rt' (ix i) else ms_R A i, fun i => if ix i < k then s else ms_S A i,
   fun i => if ix i < k then 32 else ms_P A i, fun i => if ix i < k then 32 else ms_Q A i, fun i => if ix i < k then gl (ix i) else ms_G A i, fun i => if ix i < k then ml (ix i) else ms_M A i, fun i => if ix i < k then bl (ix i) else ms_B A i)
/-- the copies get their parents; c: whose turn has been -/
noncomputable def ms_ls (A : ms_AS) (ix y : Nat → Nat) (t : Nat) (pa0 pt0 : Nat → Nat) (c : Nat → Prop) : ms_AS :=
  (ms_U A, ms_F A, ms_R A, ms_S A, fun i => ms_ic (c i ∧ ix i < 32 ∧ ix i ≠ t) (y (pa0 (ix i))) (ms_P A i), fun i => ms_ic (c i ∧ ix i < 32 ∧ ix i ≠ t) (pt0 (ix i)) (ms_Q A i), ms_G A, ms_M A, ms_B A)
section
variable {e : Nat → Int32} {A : ms_AS} {ix y : Nat → Nat} {rt' : Nat → Nat} {s : Nat} {gl ml : Nat → Nat} {bl : Nat → Int32} {us fs rt sp pa pt g m ub : Nat → Int32}
theorem ms_sg_0 (h : ms_CR e A us fs rt sp pa pt g m ub) : ms_CR e (ms_sg A ix 0 rt' s gl ml bl) us fs rt sp pa pt g m ub := by
  refine ms_CR_ext h fun i hi => ?_
  simp only [ms_sg, ms_U_mk, ms_F_mk, ms_R_mk, ms_S_mk, ms_P_mk, ms_Q_mk, ms_G_mk, ms_M_mk, ms_B_mk, if_neg (Nat.not_lt_zero (ix i))]
  refine ⟨⟨Or.inr, fun q => q.elim (fun z => absurd z (Nat.not_lt_zero _)) id⟩, ?_, ?_, ?_, fun _ => ⟨?_, ?_⟩, ?_, ?_, ?_⟩ <;> first | trivial | rfl
theorem ms_sg_n {x : Nat} (hx : ∀ i, i < 32 → ix i ≠ x) (h : ms_CR e (ms_sg A ix x rt' s gl ml bl) us fs rt sp pa pt g m ub) : ms_CR e (ms_sg A ix (x + 1) rt' s gl ml bl) us fs rt sp pa pt g m ub := by
  refine ms_CR_ext h fun i hi => ?_
  have n := hx i hi
  have q : (ix i < x + 1) ↔ ix i < x := by omega
  simp only [ms_sg, ms_U_mk, ms_F_mk, ms_R_mk, ms_S_mk, ms_P_mk, ms_Q_mk, ms_G_mk, ms_M_mk, ms_B_mk, q]
  refine ⟨?_, ?_, ?_, ?_, fun _ => ⟨?_, ?_⟩, ?_, ?_, ?_⟩ <;> first | trivial | rfl | exact Iff.rfl
theorem ms_sg_s {x : Nat} (hx : ∀ i, i < 32 → (ix i = x ↔ i = y x)) (h : ms_CR e (ms_sB (ms_sM (ms_sG (ms_nw (ms_sg A ix x rt' s gl ml bl) (y x) (ms_F A x) (rt' x) s) (y x) (gl x)) (y x) (ml x)) (y x) (bl x)) us fs rt sp pa pt g m ub) : ms_CR e (ms_sg A ix (x + 1) rt' s gl ml bl) us fs rt sp pa pt g m ub := by
  refine ms_CR_ext h fun i hi => ?_
  simp only [ms_sB, ms_sM, ms_sG, ms_nw, ms_sg, ms_U_mk, ms_F_mk, ms_R_mk, ms_S_mk, ms_P_mk, ms_Q_mk, ms_G_mk, ms_M_mk, ms_B_mk]
  by_cases w : i = y x
  · have ei := (hx i hi).mpr w
    have lt : x < x + 1 := by omega
    simp only [ei, if_pos lt]
    subst w
    simp only [ms_fu_s]
    refine ⟨⟨fun _ => Or.inl lt, fun _ => Or.inl trivial⟩, ?_, ?_, ?_, fun _ => ⟨?_, ?_⟩, ?_, ?_, ?_⟩ <;> first | trivial | rfl
  · have n : ix i ≠ x := fun q => w ((hx i hi).mp q)
    have q : (ix i < x + 1) ↔ ix i < x := by omega
    simp only [ms_fu_n w, q]
    refine ⟨⟨fun z => z.elim (fun z => absurd z w) id, Or.inr⟩, ?_, ?_, ?_, fun _ => ⟨?_, ?_⟩, ?_, ?_, ?_⟩ <;> first | trivial | rfl
variable {t : Nat} {pa0 pt0 : Nat → Nat} {c c' : Nat → Prop}
theorem ms_ls_0 (h : ms_CR e A us fs rt sp pa pt g m ub) (hc : ∀ i, ¬ c i) : ms_CR e (ms_ls A ix y t pa0 pt0 c) us fs rt sp pa pt g m ub := by
  refine ms_CR_ext h fun i hi => ?_
  simp only [ms_ls, ms_U_mk, ms_F_mk, ms_R_mk, ms_S_mk, ms_P_mk, ms_Q_mk, ms_G_mk, ms_M_mk, ms_B_mk]
  rw [ms_ic_f (fun q => hc i q.1), ms_ic_f (fun q => hc i q.1)]
  refine ⟨?_, ?_, ?_, ?_, fun _ => ⟨?_, ?_⟩, ?_, ?_, ?_⟩ <;> first | trivial | rfl | exact Iff.rfl
theorem ms_ls_k (h : ms_CR e (ms_ls A ix y t pa0 pt0 c) us fs rt sp pa pt g m ub) (hc : ∀ i, i < 32 → ix i < 32 → ix i ≠ t → (c' i ↔ c i)) : ms_CR e (ms_ls A ix y t pa0 pt0 c') us fs rt sp pa pt g m ub := by
  refine ms_CR_ext h fun i hi => ?_
  simp only [ms_ls, ms_U_mk, ms_F_mk, ms_R_mk, ms_S_mk, ms_P_mk, ms_Q_mk, ms_G_mk, ms_M_mk, ms_B_mk]
  have q : (c i ∧ ix i < 32 ∧ ix i ≠ t) ↔ (c' i ∧ ix i < 32 ∧ ix i ≠ t) := ⟨fun z => ⟨(hc i hi z.2.1 z.2.2).mpr z.1, z.2⟩, fun z => ⟨(hc i hi z.2.1 z.2.2).mp z.1, z.2⟩⟩
  rw [ms_ic_c q, ms_ic_c q]
  refine ⟨?_, ?_, ?_, ?_, fun _ => ⟨?_, ?_⟩, ?_, ?_, ?_⟩ <;> first | trivial | rfl | exact Iff.rfl
/-- one copy j, of ix j, gets its parent -/
theorem ms_ls_s {j : Nat} (hj : j < 32) (h : ms_CR e (ms_ls A ix y t pa0 pt0 c) us fs rt sp pa pt g m ub) (h1 : ix j < 32) (h2 : ix j ≠ t) (hc : ∀ i, i < 32 → i ≠ j → ix i < 32 → ix i ≠ t → (c' i ↔ c i)) (cj : c' j) : ms_CR e (ms_ls A ix y t pa0 pt0 c') us fs rt sp (upd pa j (ms_c (y (pa0 (ix j))))) (upd pt j (ms_c (pt0 (ix j)))) g m ub := by
  refine ms_CR_ext (ms_CR_lk h j (y (pa0 (ix j))) (pt0 (ix j))) fun i hi => ?_
  simp only [ms_lk, ms_ls, ms_U_mk, ms_F_mk, ms_R_mk, ms_S_mk, ms_P_mk, ms_Q_mk, ms_G_mk, ms_M_mk, ms_B_mk]
  by_cases w : i = j
  · subst w
    rw [ms_fu_s, ms_fu_s, ms_ic_t ⟨cj, h1, h2⟩, ms_ic_t ⟨cj, h1, h2⟩]
    refine ⟨?_, ?_, ?_, ?_, fun _ => ⟨?_, ?_⟩, ?_, ?_, ?_⟩ <;> first | trivial | rfl | exact Iff.rfl
  · have q : (c i ∧ ix i < 32 ∧ ix i ≠ t) ↔ (c' i ∧ ix i < 32 ∧ ix i ≠ t) := ⟨fun z => ⟨(hc i hi w z.2.1 z.2.2).mpr z.1, z.2⟩, fun z => ⟨(hc i hi w z.2.1 z.2.2).mp z.1, z.2⟩⟩
    rw [ms_fu_n w, ms_fu_n w, ms_ic_c q, ms_ic_c q]
    refine ⟨?_, ?_, ?_, ?_, fun _ => ⟨?_, ?_⟩, ?_, ?_, ?_⟩ <;> first | trivial | rfl | exact Iff.rfl
/-- copied, linked: the copies of ms_gf, the top one not yet attached -/
theorem ms_ls_gf (h : ms_CR e (ms_ls (ms_sg A ix 32 rt' s gl ml bl) ix y t pa0 pt0 (fun _ => True)) us fs rt sp pa pt g m ub) : ms_CR e (ms_gf A ix y rt' s t 32 32 pa0 pt0 32 (fun i => if ix i < 32 then gl (ix i) else ms_G A i) (fun i => if ix i < 32 then ml (ix i) else ms_M A i) (fun i => if ix i < 32 then bl (ix i) else ms_B A i)) us fs rt sp pa pt g m ub := by
  refine ms_CR_ext h fun i hi => ?_
  have i32 : ¬ i = 32 := by omega
  simp only [ms_ls, ms_sg, ms_gf, ms_U_mk, ms_F_mk, ms_R_mk, ms_S_mk, ms_P_mk, ms_Q_mk, ms_G_mk, ms_M_mk, ms_B_mk, if_neg i32]
  refine ⟨by first | trivial | exact Iff.rfl, by first | trivial | rfl, by first | trivial | rfl, by first | trivial | rfl, fun _ => ?_, by first | trivial | rfl, by first | trivial | rfl, by first | trivial | rfl⟩
  by_cases z : ix i < 32
  · simp only [if_pos z]
    by_cases w : ix i = t
    · rw [ms_ic_f (fun q => q.2.2 w), ms_ic_f (fun q => q.2.2 w), if_pos w, if_pos w]; exact ⟨rfl, rfl⟩
    · rw [ms_ic_t ⟨trivial, z, w⟩, ms_ic_t ⟨trivial, z, w⟩, if_neg w, if_neg w]; exact ⟨rfl, rfl⟩
  · simp only [if_neg z]
    rw [ms_ic_f (fun q => z q.2.1), ms_ic_f (fun q => z q.2.1)]; exact ⟨rfl, rfl⟩
end
/-! facts of a copy map, at hand -/
section
variable {N : Nat} {A : ms_AS} {T : Nat → Prop} {ix y : Nat → Nat}
theorem ms_Cm_o (hc : ms_Cm N A T ix y) {i : Nat} (hi : i < 32) (u : ms_U A i) : ¬ ix i < 32 := fun n => by
  obtain ⟨a, b⟩ := hc.2 i hi n
  have := (hc.1 _ a).2.2.1
  rw [b] at this
  exact this u
theorem ms_Cm_i (hc : ms_Cm N A T ix y) {x : Nat} (hx : x < 32) (tx : T x) : ∀ i, i < 32 → (ix i = x ↔ i = y x) := fun i hi => by
  obtain ⟨y1, y2, y3, y4⟩ := hc.1 x tx
  constructor
  · intro q
    have k := (hc.2 i hi (by omega)).2
    rw [q] at k
    exact k.symm
  · intro q
    rw [q]; exact y4
end
/-! labels that are copied, or only a master -/
theorem ms_LI_map {A A' : ms_AS} (h : ms_LI A) (H : ∀ i, i < 32 → (∃ k, k < 32 ∧ ms_G A' i = ms_G A k ∧ ms_M A' i = ms_M A k) ∨ (ms_G A' i = 32 ∧ ms_La A (ms_M A' i))) (keep : ∀ j, j < 32 → ms_G A j < 32 → ∃ k, k < 32 ∧ ms_G A' k = ms_G A j) (hu : ∀ i, i < 32 → ¬ ms_U A' i → ms_G A' i = 32 ∧ ms_M A' i = 32) : ms_LI A' := by
  have lm : ∀ i, i < 32 → ms_La A (ms_M A' i) := fun i hi => (H i hi).elim (fun ⟨k, hk, _, e⟩ => by rw [e]; exact ms_La_M h hk) fun z => z.2
  have lg : ∀ i, i < 32 → ms_La A (ms_G A' i) := fun i hi => (H i hi).elim (fun ⟨k, hk, e, _⟩ => by rw [e]; exact ms_La_G hk) fun z => Or.inl z.1
  have pick : ∀ i, i < 32 → ms_G A' i < 32 → ∃ k, k < 32 ∧ ms_G A' i = ms_G A k ∧ ms_M A' i = ms_M A k := fun i hi g => (H i hi).elim id fun z => absurd g (by omega)
  obtain ⟨rk, h5⟩ := h.2.2.2.2
  refine ⟨fun i hi => ⟨ms_La_le h (lg i hi), ms_La_le h (lm i hi)⟩, hu, fun i hi hm => ?_, fun i j hi hj e hl => ?_, rk, fun i hi hg hm => ?_⟩
  · rcases lm i hi with z | ⟨j, hj, z⟩
    · omega
    · rw [← z] at hm ⊢
      exact keep j hj hm
  · obtain ⟨a, ha, a1, a2⟩ := pick i hi hl
    obtain ⟨b, hb, b1, b2⟩ := pick j hj (by omega)
    rw [a2, b2]
    exact h.2.2.2.1 a b ha hb (by omega) (by omega)
  · obtain ⟨a, ha, a1, a2⟩ := pick i hi hg
    rw [a1] at hg ⊢
    rw [a2] at hm ⊢
    exact h5 a ha hg hm
theorem ms_E_map {e : Nat → Int32} {A A' : ms_AS} (hE : ms_E e A) (H : ∀ i, i < 32 → ms_La A (ms_G A' i)) : ms_E e A' := ms_E_mono hE fun _ z => z.elim Or.inl fun ⟨j, hj, q⟩ => q ▸ H j hj
theorem ms_CR_sGn {e : Nat → Int32} {A : ms_AS} {us fs rt sp pa pt g m ub : Nat → Int32} (h : ms_CR e A us fs rt sp pa pt g m ub) {y l : Nat} (hl : ms_G A y = l) : ms_CR e (ms_sG A y l) us fs rt sp pa pt g m ub := by
  refine ms_CR_ext h fun i hi => ⟨Iff.rfl, rfl, rfl, rfl, fun _ => ⟨rfl, rfl⟩, ?_, rfl, rfl⟩
  by_cases q : i = y
  · subst q; rw [hl]; exact ms_fu_s.symm
  · exact (ms_fu_n q).symm
/-! numbers for copies at a stage -/
theorem ms_sg_lo {N : Nat} {A : ms_AS} {T : Nat → Prop} {rt' : Nat → Nat} {s : Nat} {gl ml : Nat → Nat} {bl : Nat → Int32} (hN : N ≤ 32) (room : ms_cn T 32 ≤ ms_cn (fun i => ¬ ms_U A i) N) {x : Nat} (hx : x ≤ 32) : ms_lo (fun c => ¬ ms_U (ms_sg A (ms_ix N (ms_U A) T) x rt' s gl ml bl) c) N = ms_yn N (ms_U A) T x := by
  refine ms_lo_congr hN fun c hc => not_congr ?_
  rw [ms_AU_ix hN room c x hx]
  exact Or.comm
theorem ms_ix_n {N : Nat} {U T : Nat → Prop} {x : Nat} (hx : x < 32) (nt : ¬ T x) : ∀ i, i < 32 → ms_ix N U T i ≠ x := fun i _ q => by
  have := (ms_ix_ok (N := N) (U := U) (T := T) (i := i) (by omega)).1
  rw [q] at this
  exact nt this
end
section
/-! cloneSpace: the component -/
def ms_cg (A : ms_AS) (sl : Int32) (x : Nat) : Nat := if sl = 0 then ms_G A x else 32
def ms_cm (A : ms_AS) (sl : Int32) (x : Nat) : Nat := if sl = 0 then ms_M A x else if ms_G A x < 32 then ms_G A x else ms_M A x
section
variable {N D S : Nat} {us fs rt sp pa pt g m ub lv rm w1 w2 w3 w4 w5 w6 w7 w8 w9 wa wb : Nat → Int32}
variable {A : ms_AS} {T : Nat → Prop} {t : Nat}
/-- the links of the copies -/
theorem mx_lnk {ix y : Nat → Nat} {rt' : Nat → Nat} {s : Nat} {gl ml : Nat → Nat} {bl : Nat → Int32} (hN : N ≤ 32) (hc : ms_Cm N A T ix y) (ht : ms_Tr T t (ms_P A) (ms_Q A) rt') (hT : ∀ x, T x → ms_U A x ∧ x < N) (tN : t < 32)
    (h : ms_CR ms_c (ms_sg A ix 32 rt' s gl ml bl) us fs rt sp pa pt g m ub) (hs : ∀ i, i < 32 → (¬ w4 i = 0 ↔ T i)) (hm : ∀ x, T x → w6 x = nI (y x)) {post : SX → Prop}
    (hq : ∀ pa' pt', ms_CR ms_c (ms_gf A ix y rt' s t 32 32 (ms_P A) (ms_Q A) 32 (fun i => if ix i < 32 then gl (ix i) else ms_G A i) (fun i => if ix i < 32 then ml (ix i) else ms_M A i) (fun i => if ix i < 32 then bl (ix i) else ms_B A i)) us fs rt sp pa' pt' g m ub → post (nI N, nI D, nI S, us, fs, rt, sp, pa', pt', g, m, ub, lv, rm, w1, w2, w3, w4, w5, w6, w7, w8, w9, wa, wb)) : wpX_linkCopies post (nI N, nI D, nI S, us, fs, rt, sp, pa, pt, g, m, ub, lv, rm, w1, w2, w3, w4, w5, w6, w7, w8, w9, wa, wb) (nI t) := by
  refine ms_lp (fun n i (z : (Nat → Int32) × (Nat → Int32)) => wX_linkCopies_2 post (nI t) (nI N) (nI D) (nI S) n i us fs rt sp z.1 z.2 g m ub lv rm w1 w2 w3 w4 w5 w6 w7 w8 w9 wa wb) (fun k z => ms_CR ms_c (ms_ls (ms_sg A ix 32 rt' s gl ml bl) ix y t (ms_P A) (ms_Q A) (fun i => ix i < k)) us fs rt sp z.1 z.2 g m ub) N hN (pa, pt) (ms_ls_0 h fun i q => Nat.not_lt_zero _ q) (fun n z hI => ?_) (fun n x z hi ci vi ni hI go => ?_)
  · refine br_t (nI_le (Nat.le_refl _) (by omega)) (hq _ _ (ms_ls_gf (ms_ls_k hI fun i i32 a _ => ⟨fun _ => (hT _ (hc.2 i i32 a).1).2, fun _ => trivial⟩)))
  · obtain ⟨pa', pt'⟩ := z
    dsimp only at hI ⊢
    have x32 : x < 32 := by omega
    have skip : (∀ i, i < 32 → ix i < 32 → ix i ≠ t → ix i ≠ x) → ∀ y', y' = nI x + 1 → wX_linkCopies_2 post (nI t) (nI N) (nI D) (nI S) n y' us fs rt sp pa' pt' g m ub lv rm w1 w2 w3 w4 w5 w6 w7 w8 w9 wa wb := fun no => go (pa', pt') (ms_ls_k hI fun i i32 a b => by have := no i i32 a b; omega)
    refine br_f ni ⟨vi, ?_⟩
    rw [ci]
    refine br_c (fun z => skip fun i i32 a b q => (hs x x32).mpr (q ▸ (hc.2 i i32 a).1) z) (fun z => ?_)
    have tx := (hs x x32).mp z
    refine br_c (fun z2 => skip fun i i32 a b q => b (q.trans ((nI_eq (by omega) (by omega)).mp z2))) (fun z2 => ⟨vi, ?_⟩)
    have xt : x ≠ t := fun q => z2 (by rw [q])
    obtain ⟨p1, p2, p3, p4⟩ := ht.2.2.1 x tx xt
    obtain ⟨y1, y2, y3, y4⟩ := hc.1 x tx
    have ox := ms_Cm_o hc x32 (hT x tx).1
    have ex : pa' x = ms_c (ms_P A x) := by
      rw [ms_CR_p hI x32 (Or.inr (hT x tx).1)]
      simp only [ms_ls, ms_sg, ms_P_mk, if_neg ox]
      rw [ms_ic_f (fun q => ox q.2.1)]
    have eq : pt' x = ms_c (ms_Q A x) := by
      rw [ms_CR_q hI x32 (Or.inr (hT x tx).1)]
      simp only [ms_ls, ms_sg, ms_Q_mk, if_neg ox]
      rw [ms_ic_f (fun q => ox q.2.1)]
    rw [ex, hm x tx, ms_c_cl p1, hm _ p2]
    refine br_f (fun q => ms_c_neg.mp q p1) ⟨vi, nm_e ⟨vi, ms_c_in p1, vp_in_nI y2 (by omega), ?_⟩⟩
    rw [nI_clamp (by omega)]
    refine nm_e ⟨vi, vp_in_nI y2 (by omega), ?_⟩
    rw [eq]
    refine nm_e (go (_, _) ?_)
    have k := ms_ls_s (c' := fun i => ix i < x + 1) y2 hI (by rw [y4]; exact x32) (by rw [y4]; exact xt) (fun i i32 ne a b => by have : ix i ≠ x := fun q => ne ((ms_Cm_i hc x32 tx i i32).mp q); omega) (by rw [y4]; omega)
    rw [y4, ms_c_lt (hc.1 _ p2).2.1] at k
    exact k
theorem mx_clm {s : Nat} {sl : Int32} (hN : N ≤ 32) (room : ms_cn T 32 ≤ ms_cn (fun i => ¬ ms_U A i) N) (hT : ∀ x, T x → ms_U A x ∧ x < N) {x : Nat} (hG : ms_G A x ≤ 32) (tx : T x)
    (h : ms_CR ms_c (ms_sg A (ms_ix N (ms_U A) T) x (ms_R A) s (ms_cg A sl) (ms_cm A sl) (ms_B A)) us fs rt sp pa pt g m ub) {post : SX → Prop}
    (hq : ∀ us' fs' rt' sp' pa' pt' g' m' ub', ms_CR ms_c (ms_sg A (ms_ix N (ms_U A) T) (x + 1) (ms_R A) s (ms_cg A sl) (ms_cm A sl) (ms_B A)) us' fs' rt' sp' pa' pt' g' m' ub' → post (nI N, nI D, nI S, us', fs', rt', sp', pa', pt', g', m', ub', lv, rm, w1, w2, w3, w4, w5, upd w6 x (nI (ms_yn N (ms_U A) T x)), w7, w8, w9, wa, wb)) : wpX_cloneMount post (nI N, nI D, nI S, us, fs, rt, sp, pa, pt, g, m, ub, lv, rm, w1, w2, w3, w4, w5, w6, w7, w8, w9, wa, wb) (nI x) (nI s) sl := by
  have x32 : x < 32 := by have := (hT x tx).2; omega
  have vx : vp_in (nI x) 32 := vp_in_nI x32 (by omega)
  have cx : (nI x).toNatClampNeg = x := nI_clamp (by omega)
  have hc : ms_Cm N A T (ms_ix N (ms_U A) T) (ms_yn N (ms_U A) T) := ms_Cm_yn hN room fun x q => by have := (hT x q).2; omega
  obtain ⟨y1, y2, y3, y4⟩ := hc.1 x tx
  have ox := ms_Cm_o hc x32 (hT x tx).1
  have nox : ¬ ms_ix N (ms_U A) T x < x := by omega
  have ny : x ≠ ms_yn N (ms_U A) T x := fun q => y3 (q ▸ (hT x tx).1)
  have ef : fs x = ms_F A x := by rw [ms_CR_f h x32]; simp only [ms_sg, ms_F_mk, if_neg nox]
  have er : rt x = nI (ms_R A x) := by rw [ms_CR_r h x32]; simp only [ms_sg, ms_R_mk, if_neg nox]
  have eg : g x = ms_c (ms_G A x) := by rw [ms_CR_g h x32]; simp only [ms_sg, ms_G_mk, if_neg nox]
  have em : m x = ms_c (ms_M A x) := by rw [ms_CR_m h x32]; simp only [ms_sg, ms_M_mk, if_neg nox]
  have eb : ub x = ms_B A x := by rw [ms_CR_b h x32]; simp only [ms_sg, ms_B_mk, if_neg nox]
  have vy : vp_in (nI (ms_yn N (ms_U A) T x)) 32 := vp_in_nI y2 (by omega)
  have cy : (nI (ms_yn N (ms_U A) T x)).toNatClampNeg = ms_yn N (ms_U A) T x := nI_clamp (by omega)
  have n1 := ms_CR_nw h ms_c_32 (ms_yn N (ms_U A) T x) (ms_F A x) (ms_R A x) s
  have step : ∀ {g' m' ub' : Nat → Int32} {us' fs' rt' sp' pa' pt' : Nat → Int32}, ms_CR ms_c (ms_sB (ms_sM (ms_sG (ms_nw (ms_sg A (ms_ix N (ms_U A) T) x (ms_R A) s (ms_cg A sl) (ms_cm A sl) (ms_B A)) (ms_yn N (ms_U A) T x) (ms_F A x) (ms_R A x) s) (ms_yn N (ms_U A) T x) (ms_cg A sl x)) (ms_yn N (ms_U A) T x) (ms_cm A sl x)) (ms_yn N (ms_U A) T x) (ms_B A x)) us' fs' rt' sp' pa' pt' g' m' ub' → post (nI N, nI D, nI S, us', fs', rt', sp', pa', pt', g', m', ub', lv, rm, w1, w2, w3, w4, w5, upd w6 x (nI (ms_yn N (ms_U A) T x)), w7, w8, w9, wa, wb) := fun k => hq _ _ _ _ _ _ _ _ _ (ms_sg_s (y := ms_yn N (ms_U A) T) (ms_Cm_i hc x32 tx) k)
  have ey := ms_sg_lo (A := A) (T := T) (rt' := ms_R A) (s := s) (gl := ms_cg A sl) (ml := ms_cm A sl) (bl := ms_B A) hN room (x := x) (by omega)
  generalize ms_yn N (ms_U A) T x = y at *
  have join : ms_cg A sl x = ms_G A x → ms_cm A sl x = ms_M A x → wX_cloneMount_69 post (nI x) (nI y) (nI N) (nI D) (nI S) (upd us y (vp_nar .boolean 1)) (upd fs y (ms_F A x)) (upd rt y (nI (ms_R A x))) (upd sp y (nI s)) (upd pa y (-1)) (upd pt y (-1)) (upd g y (-1)) (upd m y (-1)) (upd (upd ub y 0) y (ms_B A x)) lv rm w1 w2 w3 w4 w5 (upd w6 x (nI y)) w7 w8 w9 wa wb := by
    intro e1 e2
    rw [e1, e2] at step
    refine ⟨vx, vy, ?_⟩
    rw [cx, cy, ms_un' (f := g) ny, eg]
    refine nm_e ⟨vx, vy, ?_⟩
    rw [ms_un' (f := m) ny, em]
    exact nm_e (step (ms_CR_sB (ms_CR_sM (ms_CR_sG n1 y (ms_G A x)) y (ms_M A x)) y (ms_B A x)))
  refine ⟨vx, vx, ?_⟩
  rw [cx, ef, er]
  refine mx_nwm hN (y := y) (by rw [ms_rd_nw h hN]; exact ey) y2 ⟨vx, ?_⟩
  rw [cy]
  refine nm_e ⟨vx, vy, ?_⟩
  rw [ms_un' (f := ub) ny, eb]
  refine nm_e ⟨vx, ?_⟩
  rw [ms_un' (f := g) ny, eg]
  refine br_c (fun z => join ?_ ?_) (fun z => br_c (fun z2 => join ?_ ?_) (fun z2 => ⟨vx, vy, ?_⟩))
  · have g32 := ms_c_neg.mp z
    have gle : ms_G A x ≤ 32 := hG
    unfold ms_cg
    by_cases q : sl = 0
    · rw [if_pos q]
    · rw [if_neg q]; omega
  · have g32 := ms_c_neg.mp z
    unfold ms_cm
    by_cases q : sl = 0
    · rw [if_pos q]
    · rw [if_neg q, if_neg g32]
  · unfold ms_cg; rw [if_pos z2]
  · unfold ms_cm; rw [if_pos z2]
  · have g32 : ms_G A x < 32 := Classical.byContradiction fun q => z (ms_c_neg.mpr q)
    have e1 : ms_cg A sl x = 32 := by unfold ms_cg; rw [if_neg z2]
    have e2 : ms_cm A sl x = ms_G A x := by unfold ms_cm; rw [if_neg z2, if_pos g32]
    rw [e1, e2] at step
    have k : ms_G (ms_nw (ms_sg A (ms_ix N (ms_U A) T) x (ms_R A) s (ms_cg A sl) (ms_cm A sl) (ms_B A)) y (ms_F A x) (ms_R A x) s) y = 32 := ms_fu_s
    exact nm_e (step (ms_CR_sB (ms_CR_sM (ms_CR_sGn n1 k) y (ms_G A x)) y (ms_B A x)))
/-- all of a space is copied, linked, and has its root -/
theorem mx_cln {lw : Nat → Prop} {rn : Nat → Nat} {s s0 : Nat} {sl : Int32} (hN : N ≤ 32) (hL : ms_LI A) (room : ms_cn T 32 ≤ ms_cn (fun i => ¬ ms_U A i) N) (hT : ∀ x, T x → ms_U A x ∧ x < N) (ht : ms_Tr T t (ms_P A) (ms_Q A) (ms_R A)) (h : ms_CR ms_c A us fs rt sp pa pt g m ub) (hs : ∀ i, i < 32 → (¬ w4 i = 0 ↔ T i)) (s4 : s < 4) (s04 : s0 < 4) (hr : rm s0 = nI t) {post : Int32 → SX → Prop}
    (hq : ∀ us' fs' rt' sp' pa' pt' g' m' ub' w', ms_CR ms_c (ms_gf A (ms_ix N (ms_U A) T) (ms_yn N (ms_U A) T) (ms_R A) s t 32 32 (ms_P A) (ms_Q A) 32 (fun i => if ms_ix N (ms_U A) T i < 32 then ms_cg A sl (ms_ix N (ms_U A) T i) else ms_G A i) (fun i => if ms_ix N (ms_U A) T i < 32 then ms_cm A sl (ms_ix N (ms_U A) T i) else ms_M A i) (fun i => if ms_ix N (ms_U A) T i < 32 then ms_B A (ms_ix N (ms_U A) T i) else ms_B A i)) us' fs' rt' sp' pa' pt' g' m' ub' → post (nI s) (nI N, nI D, nI S, us', fs', rt', sp', pa', pt', g', m', ub', upd lv s (vp_nar .boolean 1), upd rm s (nI (ms_yn N (ms_U A) T t)), w1, w2, w3, w4, w5, w', w7, w8, w9, wa, wb)) : ∃ n, wX_cloneSpace_45 post (nI s0) sl (nI s) n 0 (nI N) (nI D) (nI S) us fs rt sp pa pt g m ub lv rm w1 w2 w3 w4 w5 w6 w7 w8 w9 wa wb := by
  have hT32 : ∀ x, T x → x < 32 := fun x q => by have := (hT x q).2; omega
  have hc : ms_Cm N A T (ms_ix N (ms_U A) T) (ms_yn N (ms_U A) T) := ms_Cm_yn hN room hT32
  have t32 := hT32 t ht.1
  refine ms_lp (fun n i (z : (Nat → Int32) × (Nat → Int32) × (Nat → Int32) × (Nat → Int32) × (Nat → Int32) × (Nat → Int32) × (Nat → Int32) × (Nat → Int32) × (Nat → Int32) × (Nat → Int32)) => wX_cloneSpace_45 post (nI s0) sl (nI s) n i (nI N) (nI D) (nI S) z.1 z.2.1 z.2.2.1 z.2.2.2.1 z.2.2.2.2.1 z.2.2.2.2.2.1 z.2.2.2.2.2.2.1 z.2.2.2.2.2.2.2.1 z.2.2.2.2.2.2.2.2.1 lv rm w1 w2 w3 w4 w5 z.2.2.2.2.2.2.2.2.2 w7 w8 w9 wa wb) (fun k z => ms_CR ms_c (ms_sg A (ms_ix N (ms_U A) T) k (ms_R A) s (ms_cg A sl) (ms_cm A sl) (ms_B A)) z.1 z.2.1 z.2.2.1 z.2.2.2.1 z.2.2.2.2.1 z.2.2.2.2.2.1 z.2.2.2.2.2.2.1 z.2.2.2.2.2.2.2.1 z.2.2.2.2.2.2.2.2.1 ∧ ∀ x, x < k → T x → z.2.2.2.2.2.2.2.2.2 x = nI (ms_yn N (ms_U A) T x)) N hN (us, fs, rt, sp, pa, pt, g, m, ub, w6) ⟨ms_sg_0 h, lt_0⟩ (fun n z hI => ?_) (fun n x z hi ci vi ni hI go => ?_)
  · have all : ∀ k, N ≤ k → k ≤ 32 → ms_CR ms_c (ms_sg A (ms_ix N (ms_U A) T) k (ms_R A) s (ms_cg A sl) (ms_cm A sl) (ms_B A)) z.1 z.2.1 z.2.2.1 z.2.2.2.1 z.2.2.2.2.1 z.2.2.2.2.2.1 z.2.2.2.2.2.2.1 z.2.2.2.2.2.2.2.1 z.2.2.2.2.2.2.2.2.1 := by
      intro k hk
      induction hk with
      | refl => intro _; exact hI.1
      | @step k hk ih =>
        intro h32
        refine ms_sg_n (ms_ix_n (by omega) fun q => ?_) (ih (by omega))
        have := (hT k q).2
        have : N ≤ k := hk
        omega
    refine br_t (nI_le (Nat.le_refl _) (by omega)) ⟨vp_in_nI s04 (by omega), ?_⟩
    rw [nI_clamp (by omega), hr]
    refine mx_lnk hN hc ht hT t32 (all 32 hN (Nat.le_refl _)) hs (fun x q => hI.2 x (hT x q).2 q) fun pa' pt' h' => ⟨vp_in_nI s04 (by omega), ?_⟩
    rw [hr]
    refine ⟨vp_in_nI t32 (by omega), vp_in_nI s4 (by omega), ?_⟩
    rw [nI_clamp (n := s) (by omega), nI_clamp (n := t) (by omega), hI.2 t (hT t ht.1).2 ht.1]
    exact nm_e ⟨vp_in_nI s4 (by omega), nm_e (hq _ _ _ _ _ _ _ _ _ _ h')⟩
  · obtain ⟨us', fs', rt', sp', pa', pt', g', m', ub', w'⟩ := z
    obtain ⟨hI, hW⟩ := hI
    dsimp only at hI hW ⊢
    have x32 : x < 32 := by omega
    refine br_f ni ⟨vi, ?_⟩
    rw [ci]
    refine br_c (fun z => go (us', fs', rt', sp', pa', pt', g', m', ub', w') ⟨ms_sg_n (ms_ix_n x32 fun q => (hs x x32).mpr q z) hI, lt_s hW fun q => absurd z ((hs x x32).mpr q)⟩) (fun z => ?_)
    have tx := (hs x x32).mp z
    refine mx_clm hN room hT (hL.1 x x32).1 tx hI fun us2 fs2 rt2 sp2 pa2 pt2 g2 m2 ub2 h2 => go (us2, fs2, rt2, sp2, pa2, pt2, g2, m2, ub2, upd w' x (nI (ms_yn N (ms_U A) T x))) ⟨h2, lt_s (fun j hj q => ?_) (fun _ => ms_us)⟩
    dsimp only
    rw [ms_un' (by omega)]
    exact hW j hj q
theorem mx_sel (h : ms_CR ms_c A us fs rt sp pa pt g m ub) {s0 : Nat} (hS : ∀ i, i < 32 → ms_U A i → ms_S A i < 4) (s04 : s0 < 4) {post : Int32 → SX → Prop} (hq : ∀ w, (∀ i, i < 32 → (¬ w i = 0 ↔ (i < 32 ∧ ms_U A i ∧ ms_S A i = s0))) → post (nI (ms_cn (fun i => i < 32 ∧ ms_U A i ∧ ms_S A i = s0) 32)) (nI N, nI D, nI S, us, fs, rt, sp, pa, pt, g, m, ub, lv, rm, w1, w2, w3, w, w5, w6, w7, w8, w9, wa, wb)) : wpX_selectSpace post (nI N, nI D, nI S, us, fs, rt, sp, pa, pt, g, m, ub, lv, rm, w1, w2, w3, w4, w5, w6, w7, w8, w9, wa, wb) (nI s0) := by
  refine ms_lp (fun n i (z : Int32 × (Nat → Int32)) => wX_selectSpace_4 post (nI s0) (nI N) (nI D) (nI S) n z.1 i us fs rt sp pa pt g m ub lv rm w1 w2 w3 z.2 w5 w6 w7 w8 w9 wa wb) (fun i z => z.1 = nI (ms_cn (fun i => i < 32 ∧ ms_U A i ∧ ms_S A i = s0) i) ∧ ∀ j, j < i → (¬ z.2 j = 0 ↔ (j < 32 ∧ ms_U A j ∧ ms_S A j = s0))) 32 (Nat.le_refl _) (0, w4) ⟨rfl, lt_0⟩ (fun n z hI => ?_) (fun n i z hi ci vi ni hI go => ?_)
  · rw [hI.1]
    exact br_t (nI_le (b := 32) (Nat.le_refl _) (by omega)) (hq _ hI.2)
  · obtain ⟨c, w⟩ := z
    obtain ⟨ec, hI⟩ := hI
    dsimp only at ec hI ⊢
    have fin : ∀ z0 : Int32, (z0 = 0 ∧ ¬ (i < 32 ∧ ms_U A i ∧ ms_S A i = s0)) ∨ (z0 = 1 ∧ (i < 32 ∧ ms_U A i ∧ ms_S A i = s0)) → wX_selectSpace_39 post (wX_selectSpace_4 post (nI s0) (nI N) (nI D) (nI S) n) (nI s0) c (nI i) z0 (nI i) (nI N) (nI D) (nI S) us fs rt sp pa pt g m ub lv rm w1 w2 w3 w w5 w6 w7 w8 w9 wa wb := by
      intro z0 hz
      refine ⟨vi, ?_⟩
      rw [ci]
      refine nm_e ⟨vi, ?_⟩
      rw [ms_us]
      rcases hz with ⟨e, no⟩ | ⟨e, yes⟩
      · subst e
        rw [ms_b0]
        exact br_t rfl (go (c, upd w i 0) ⟨by rw [ms_cn_sf (P := fun i => i < 32 ∧ ms_U A i ∧ ms_S A i = s0) no]; exact ec, ms_wb hI (v := 0) ⟨fun q => absurd rfl q, fun q => absurd q no⟩ Iff.rfl⟩)
      · subst e
        rw [ms_b1, ec]
        exact br_f ms_10 (nm_r (nI_1 _) (go (nI (ms_cn (fun i => i < 32 ∧ ms_U A i ∧ ms_S A i = s0) i + 1), upd w i 1) ⟨by rw [ms_cn_st (P := fun i => i < 32 ∧ ms_U A i ∧ ms_S A i = s0) yes], ms_wb hI (v := 1) ⟨fun _ => yes, fun _ => ms_10⟩ Iff.rfl⟩))
    have hu := ms_CR_u h hi
    refine br_f ni ⟨vi, ?_⟩
    rw [ci]
    refine br_c (fun z => fin 0 (Or.inl ⟨rfl, fun q => hu.mp z q.2.1⟩)) (fun z => ⟨vi, ?_⟩)
    have u : ms_U A i := Classical.byContradiction fun n => z (hu.mpr n)
    have i4 := hS i hi u
    rw [ms_CR_s h hi]
    refine br_c (fun z2 => fin 1 (Or.inr ⟨rfl, hi, u, (nI_eq (by omega) (by omega)).mp z2⟩)) (fun z2 => fin 0 (Or.inl ⟨rfl, fun q => z2 (by rw [q.2.2])⟩))
end
end
section
/-! cloneSpace: the reference, and the two together -/
section
variable {N D S : Nat} {lv us fs rt sp ub pa pt g m v1 v2 v3 v4 v5 v6 v7 v8 v9 : Nat → Int32}
variable {e : Nat → Int32} {A : ms_AS} {T : Nat → Prop} {t : Nat}
theorem my_clr {post : SY → Prop} (hq : ∀ a b, (∀ i, i < 32 → a i = -1 ∧ b i = -1) → post (nI N, nI D, nI S, lv, us, fs, rt, sp, ub, pa, pt, g, m, v1, v2, v3, v4, v5, v6, v7, a, b)) : wpY_clear post (nI N, nI D, nI S, lv, us, fs, rt, sp, ub, pa, pt, g, m, v1, v2, v3, v4, v5, v6, v7, v8, v9) := by
  refine ms_lp (fun n i (z : (Nat → Int32) × (Nat → Int32)) => wY_clear_2 post (nI N) (nI D) (nI S) n i lv us fs rt sp ub pa pt g m v1 v2 v3 v4 v5 v6 v7 z.1 z.2) (fun i z => ∀ j, j < i → z.1 j = -1 ∧ z.2 j = -1) 32 (Nat.le_refl _) (v8, v9) lt_0 (fun n z hI => br_t (nI_le (b := 32) (Nat.le_refl _) (by omega)) (hq _ _ hI)) (fun n i z hi ci vi ni hI go => ?_)
  refine br_f ni ⟨vi, ?_⟩
  rw [ci]
  refine nm_e ⟨vi, nm_e (go (upd z.1 i (-1), upd z.2 i (-1)) (lt_s (fun j hj => ?_) ?_))⟩
  · dsimp only; rw [ms_un' (by omega), ms_un' (by omega)]; exact hI j hj
  · dsimp only; rw [ms_us, ms_us]; exact ⟨rfl, rfl⟩
/-- the copy of p: by src and forR, where only src says anything -/
theorem my_cpx {ix y : Nat → Nat} {p : Nat} (hp : p < 32) (hc : ∀ i, i < 32 → (ix i = p ↔ i = y p)) (yp : y p < 32) (h8 : ∀ i, i < 32 → v8 i = ms_c (ix i)) (h9 : ∀ i, i < 32 → v9 i = -1) {post : Int32 → Prop} (hq : post (ms_c (y p))) : wpY_copyFor post (nI N, nI D, nI S, lv, us, fs, rt, sp, ub, pa, pt, g, m, v1, v2, v3, v4, v5, v6, v7, v8, v9) (ms_c p) (-1) := by
  refine my_cpf ?_
  rw [ms_lo_is (i := y p) (Nat.le_refl _) yp ⟨by rw [h8 _ yp, (hc _ yp).mpr rfl], h9 _ yp⟩ (fun j hj q => ?_)]
  · exact hq
  · have q1 := q.1
    rw [h8 j (by omega), ms_c_lt hp, ms_c_eq hp, hc j (by omega)] at q1
    omega
theorem my_cln {lw : Nat → Prop} {rn : Nat → Nat} {s s0 : Nat} {sl : Int32} (hN : N ≤ 32) (hF : ms_FI N lw rn A) (hE : ms_E e A) (he : e 32 = 0) (hL : ms_LI A) (room : ms_cn T 32 ≤ ms_cn (fun i => ¬ ms_U A i) N) (hT : ∀ x, T x ↔ (x < 32 ∧ ms_U A x ∧ ms_S A x = s0)) (ht : ms_Tr T t (ms_P A) (ms_Q A) (ms_R A)) (tp : ¬ ms_P A t < 32) (h : ms_CR e A us fs rt sp pa pt g m ub) (s4 : s < 4) (s04 : s0 < 4) (ss : s ≠ s0) (h8 : ∀ i, i < 32 → v8 i = -1) (h9 : ∀ i, i < 32 → v9 i = -1) {post : Int32 → SY → Prop}
    (hq : ∀ us' fs' rt' sp' pa' pt' g' m' ub' w', ms_CR e (ms_gf A (ms_ix N (ms_U A) T) (ms_yn N (ms_U A) T) (ms_R A) s t 32 32 (ms_P A) (ms_Q A) 32 (fun i => if ms_ix N (ms_U A) T i < 32 then ms_cg A sl (ms_ix N (ms_U A) T i) else ms_G A i) (fun i => if ms_ix N (ms_U A) T i < 32 then ms_cm A sl (ms_ix N (ms_U A) T i) else ms_M A i) (fun i => if ms_ix N (ms_U A) T i < 32 then ms_B A (ms_ix N (ms_U A) T i) else ms_B A i)) us' fs' rt' sp' pa' pt' g' m' ub' → post (nI s) (nI N, nI D, nI S, lv, us', fs', rt', sp', ub', pa', pt', g', m', v1, v2, v3, v4, v5, v6, v7, w', v9)) : ∃ n, wY_cloneSpace_116 post (nI s0) sl (nI s) n 0 (nI N) (nI D) (nI S) lv us fs rt sp ub pa pt g m v1 v2 v3 v4 v5 v6 v7 v8 v9 := by
  have hT32 : ∀ x, T x → x < 32 := fun x q => ((hT x).mp q).1
  have hc : ms_Cm N A T (ms_ix N (ms_U A) T) (ms_yn N (ms_U A) T) := ms_Cm_yn hN room hT32
  have t32 := hT32 t ht.1
  refine ms_lp (fun n i (z : (Nat → Int32) × (Nat → Int32) × (Nat → Int32) × (Nat → Int32) × (Nat → Int32) × (Nat → Int32) × (Nat → Int32) × (Nat → Int32) × (Nat → Int32) × (Nat → Int32)) => wY_cloneSpace_116 post (nI s0) sl (nI s) n i (nI N) (nI D) (nI S) lv z.1 z.2.1 z.2.2.1 z.2.2.2.1 z.2.2.2.2.2.2.2.2.1 z.2.2.2.2.1 z.2.2.2.2.2.1 z.2.2.2.2.2.2.1 z.2.2.2.2.2.2.2.1 v1 v2 v3 v4 v5 v6 v7 z.2.2.2.2.2.2.2.2.2 v9) (fun k z => ms_CR e (ms_sg A (ms_ix N (ms_U A) T) k (ms_R A) s (ms_cg A sl) (ms_cm A sl) (ms_B A)) z.1 z.2.1 z.2.2.1 z.2.2.2.1 z.2.2.2.2.1 z.2.2.2.2.2.1 z.2.2.2.2.2.2.1 z.2.2.2.2.2.2.2.1 z.2.2.2.2.2.2.2.2.1 ∧ ∀ i, i < 32 → z.2.2.2.2.2.2.2.2.2 i = ms_c (if ms_ix N (ms_U A) T i < k then ms_ix N (ms_U A) T i else 32)) 32 (Nat.le_refl _) (us, fs, rt, sp, pa, pt, g, m, ub, v8) ⟨ms_sg_0 h, fun i hi => by rw [if_neg (Nat.not_lt_zero _), ms_c_32]; exact h8 i hi⟩ (fun n z hI => ?_) (fun n x z hi ci vi ni hI go => ?_)
  · obtain ⟨us', fs', rt', sp', pa', pt', g', m', ub', w'⟩ := z
    obtain ⟨hI, hW⟩ := hI
    dsimp only at hI hW ⊢
    have hW' : ∀ i, i < 32 → w' i = ms_c (ms_ix N (ms_U A) T i) := fun i i32 => by
      rw [hW i i32]
      by_cases q : ms_ix N (ms_U A) T i < 32
      · rw [if_pos q]
      · rw [if_neg q, ms_c_ge q, ms_c_32]
    refine br_t (nI_le (b := 32) (Nat.le_refl _) (by omega)) ?_
    refine ms_lp (fun n j (z : (Nat → Int32) × (Nat → Int32)) => wY_cloneSpace_257 post (nI s) (nI N) (nI D) (nI S) n j lv us' fs' rt' sp' ub' z.1 z.2 g' m' v1 v2 v3 v4 v5 v6 v7 w' v9) (fun k z => ms_CR e (ms_ls (ms_sg A (ms_ix N (ms_U A) T) 32 (ms_R A) s (ms_cg A sl) (ms_cm A sl) (ms_B A)) (ms_ix N (ms_U A) T) (ms_yn N (ms_U A) T) t (ms_P A) (ms_Q A) (fun i => i < k)) us' fs' rt' sp' z.1 z.2 g' m' ub') 32 (Nat.le_refl _) (pa', pt') (ms_ls_0 hI fun i q => Nat.not_lt_zero _ q) (fun n z hJ => ?_) (fun n j z hj cj vj nj hJ go2 => ?_)
    · exact br_t (nI_le (b := 32) (Nat.le_refl _) (by omega)) (hq _ _ _ _ _ _ _ _ _ _ (ms_ls_gf (ms_ls_k hJ fun i i32 _ _ => ⟨fun _ => i32, fun _ => trivial⟩)))
    · obtain ⟨pa2, pt2⟩ := z
      dsimp only at hJ ⊢
      have skip : ¬ (ms_ix N (ms_U A) T j < 32 ∧ ms_ix N (ms_U A) T j ≠ t) → ∀ y', y' = nI j + 1 → wY_cloneSpace_257 post (nI s) (nI N) (nI D) (nI S) n y' lv us' fs' rt' sp' ub' pa2 pt2 g' m' v1 v2 v3 v4 v5 v6 v7 w' v9 := fun no => go2 (pa2, pt2) (ms_ls_k hJ fun i i32 a b => by
        have : i ≠ j := fun q => no (q ▸ ⟨a, b⟩)
        omega)
      refine br_f nj ⟨vj, ?_⟩
      rw [cj, hW' j hj]
      refine br_c (fun z => skip fun q => ms_c_neg.mp z q.1) (fun z => ?_)
      have x32 : ms_ix N (ms_U A) T j < 32 := Classical.byContradiction fun q => z (ms_c_neg.mpr q)
      obtain ⟨tx, yj⟩ := hc.2 j hj x32
      have ux := ((hT _).mp tx).2.1
      have ox := ms_Cm_o hc x32 ux
      generalize hx : ms_ix N (ms_U A) T j = x at *
      have ex : pa2 x = ms_c (ms_P A x) := by
        rw [ms_CR_p hJ x32 (Or.inr ux)]
        simp only [ms_ls, ms_sg, ms_P_mk, if_neg ox]
        rw [ms_ic_f (fun q => ox q.2.1)]
      have eq : pt2 x = ms_c (ms_Q A x) := by
        rw [ms_CR_q hJ x32 (Or.inr ux)]
        simp only [ms_ls, ms_sg, ms_Q_mk, if_neg ox]
        rw [ms_ic_f (fun q => ox q.2.1)]
      refine ⟨vj, ms_c_in x32, ?_⟩
      rw [ms_c_cl x32, ex]
      refine br_c (fun z2 => skip fun q => ?_) (fun z2 => ⟨vj, ms_c_in x32, ?_⟩)
      · exact ms_c_neg.mp z2 (ht.2.2.1 x tx q.2).1
      · have p32 : ms_P A x < 32 := Classical.byContradiction fun q => z2 (ms_c_neg.mpr q)
        have xt : x ≠ t := fun q => tp (q ▸ p32)
        obtain ⟨p1, p2, p3, p4⟩ := ht.2.2.1 x tx xt
        refine my_cpx p32 (ms_Cm_i hc p32 p2) (hc.1 _ p2).2.1 hW' h9 ⟨vj, nm_e ⟨vj, ms_c_in x32, vj, ?_⟩⟩
        have dif : x ≠ j := fun q => (hc.1 x tx).2.2.1 (by rw [yj, ← q]; exact ux)
        rw [eq]
        have k := ms_ls_s (c' := fun i => i < j + 1) hj hJ (by rw [hx]; exact x32) (by rw [hx]; exact xt) (fun i i32 ne a b => by omega) (by omega)
        rw [hx] at k
        exact nm_e (go2 (_, _) k)
  · obtain ⟨us', fs', rt', sp', pa', pt', g', m', ub', w'⟩ := z
    obtain ⟨hI, hW⟩ := hI
    dsimp only at hI hW ⊢
    have hu := ms_CR_u hI hi
    have skip : ¬ T x → ∀ y', y' = nI x + 1 → wY_cloneSpace_116 post (nI s0) sl (nI s) n y' (nI N) (nI D) (nI S) lv us' fs' rt' sp' ub' pa' pt' g' m' v1 v2 v3 v4 v5 v6 v7 w' v9 := fun no => go (us', fs', rt', sp', pa', pt', g', m', ub', w') ⟨ms_sg_n (ms_ix_n hi no) hI, fun i i32 => by
      have ne := ms_ix_n (N := N) (U := ms_U A) hi no i i32
      have : (ms_ix N (ms_U A) T i < x + 1) ↔ ms_ix N (ms_U A) T i < x := by omega
      simp only [this]
      exact hW i i32⟩
    refine br_f ni ⟨vi, ?_⟩
    rw [ci]
    refine br_c (fun z => skip fun q => hu.mp z (Or.inr ((hT x).mp q).2.1)) (fun z => ⟨vi, ?_⟩)
    have uu : ms_ix N (ms_U A) T x < x ∨ ms_U A x := Classical.byContradiction fun n => z (hu.mpr n)
    rw [ms_CR_s hI hi]
    have esp : ms_S (ms_sg A (ms_ix N (ms_U A) T) x (ms_R A) s (ms_cg A sl) (ms_cm A sl) (ms_B A)) x = if ms_ix N (ms_U A) T x < x then s else ms_S A x := rfl
    rw [esp]
    have lt4 : (if ms_ix N (ms_U A) T x < x then s else ms_S A x) < 4 := by
      by_cases q : ms_ix N (ms_U A) T x < x
      · rw [if_pos q]; exact s4
      · rw [if_neg q]; exact (hF.1 x hi (uu.elim (fun w => absurd w q) id)).2.1
    refine br_c (fun z2 => ?_) (fun z2 => skip fun q => z2 ?_)
    · have es := (nI_eq (by omega) (by omega)).mp z2
      have nox : ¬ ms_ix N (ms_U A) T x < x := fun q => by rw [if_pos q] at es; exact ss es
      rw [if_neg nox] at es
      have ux := uu.elim (fun w => absurd w nox) id
      have tx : T x := (hT x).mpr ⟨hi, ux, es⟩
      obtain ⟨y1, y2, y3, y4⟩ := hc.1 x tx
      have ny : x ≠ ms_yn N (ms_U A) T x := fun q => y3 (q ▸ ux)
      have ef : fs' x = ms_F A x := by rw [ms_CR_f hI hi]; simp only [ms_sg, ms_F_mk, if_neg nox]
      have er : rt' x = nI (ms_R A x) := by rw [ms_CR_r hI hi]; simp only [ms_sg, ms_R_mk, if_neg nox]
      have eg : g' x = e (ms_G A x) := by rw [ms_CR_g hI hi]; simp only [ms_sg, ms_G_mk, if_neg nox]
      have em : m' x = e (ms_M A x) := by rw [ms_CR_m hI hi]; simp only [ms_sg, ms_M_mk, if_neg nox]
      have eb : ub' x = ms_B A x := by rw [ms_CR_b hI hi]; simp only [ms_sg, ms_B_mk, if_neg nox]
      have gz : e (ms_G A x) = 0 ↔ ¬ ms_G A x < 32 := by rw [← ms_CR_g h hi]; exact ms_CR_gz h hE hL he hi
      have vy : vp_in (nI (ms_yn N (ms_U A) T x)) 32 := vp_in_nI y2 (by omega)
      have cy : (nI (ms_yn N (ms_U A) T x)).toNatClampNeg = ms_yn N (ms_U A) T x := nI_clamp (by omega)
      have n1 := ms_CR_nw hI he (ms_yn N (ms_U A) T x) (ms_F A x) (ms_R A x) s
      have hW2 : ∀ i, i < 32 → upd w' (ms_yn N (ms_U A) T x) (nI x) i = ms_c (if ms_ix N (ms_U A) T i < x + 1 then ms_ix N (ms_U A) T i else 32) := by
        intro i i32
        by_cases q : i = ms_yn N (ms_U A) T x
        · rw [q, ms_us, y4, if_pos (by omega), ms_c_lt hi]
        · rw [ms_un' q, hW i i32]
          have ne : ms_ix N (ms_U A) T i ≠ x := fun w => q ((ms_Cm_i hc hi tx i i32).mp w)
          have : (ms_ix N (ms_U A) T i < x + 1) ↔ ms_ix N (ms_U A) T i < x := by omega
          simp only [this]
      have step : ∀ {g2 m2 ub2 us2 fs2 rt2 sp2 pa2 pt2 : Nat → Int32}, ms_CR e (ms_sB (ms_sM (ms_sG (ms_nw (ms_sg A (ms_ix N (ms_U A) T) x (ms_R A) s (ms_cg A sl) (ms_cm A sl) (ms_B A)) (ms_yn N (ms_U A) T x) (ms_F A x) (ms_R A x) s) (ms_yn N (ms_U A) T x) (ms_cg A sl x)) (ms_yn N (ms_U A) T x) (ms_cm A sl x)) (ms_yn N (ms_U A) T x) (ms_B A x)) us2 fs2 rt2 sp2 pa2 pt2 g2 m2 ub2 → ∀ y', y' = nI x + 1 → wY_cloneSpace_116 post (nI s0) sl (nI s) n y' (nI N) (nI D) (nI S) lv us2 fs2 rt2 sp2 ub2 pa2 pt2 g2 m2 v1 v2 v3 v4 v5 v6 v7 (upd w' (ms_yn N (ms_U A) T x) (nI x)) v9 := fun k => go (_, _, _, _, _, _, _, _, _, _) ⟨ms_sg_s (y := ms_yn N (ms_U A) T) (ms_Cm_i hc hi tx) k, hW2⟩
      have ey := ms_sg_lo (A := A) (T := T) (rt' := ms_R A) (s := s) (gl := ms_cg A sl) (ml := ms_cm A sl) (bl := ms_B A) hN room (x := x) (by omega)
      generalize ms_yn N (ms_U A) T x = y at *
      refine ⟨vi, vi, ?_⟩
      rw [ef, er]
      refine my_nwm hN (y := y) (by rw [ms_rd_nw hI hN]; exact ey) y2 ⟨vy, ?_⟩
      rw [cy]
      refine nm_e ⟨vi, vy, ?_⟩
      rw [ms_un' (f := ub') ny, eb]
      refine nm_e ?_
      refine br_c (fun z3 => ⟨vi, vy, ?_⟩) (fun z3 => ⟨vy, ?_⟩)
      · have e1 : ms_cg A sl x = ms_G A x := if_pos z3
        have e2 : ms_cm A sl x = ms_M A x := if_pos z3
        rw [e1, e2] at step
        rw [cy, ms_un' (f := g') ny, eg]
        refine nm_e (br_t z3 ⟨vi, vy, ?_⟩)
        rw [ci, ms_un' (f := m') ny, em]
        exact nm_e (step (ms_CR_sB (ms_CR_sM (ms_CR_sG n1 y (ms_G A x)) y (ms_M A x)) y (ms_B A x)))
      · have e1 : ms_cg A sl x = 32 := if_neg z3
        have e2 : ms_cm A sl x = if ms_G A x < 32 then ms_G A x else ms_M A x := if_neg z3
        rw [e1, e2] at step
        have g1 := ms_CR_sG n1 y 32
        rw [he] at g1
        rw [cy]
        refine nm_e (br_f z3 ⟨vi, ?_⟩)
        rw [ci, ms_un' (f := upd g' y 0) ny, ms_un' (f := g') ny, eg, ms_un' (f := m') ny, em]
        refine br_c (fun z4 => ⟨vi, vy, ?_⟩) (fun z4 => ⟨vi, vy, ?_⟩)
        · rw [if_neg (gz.mp z4)] at step
          exact nm_e (step (ms_CR_sB (ms_CR_sM g1 y (ms_M A x)) y (ms_B A x)))
        · rw [if_pos (Classical.byContradiction fun q => z4 (gz.mpr q))] at step
          exact nm_e (step (ms_CR_sB (ms_CR_sM g1 y (ms_G A x)) y (ms_B A x)))
    · have ux := ((hT x).mp q).2
      rw [if_neg (fun w => ms_Cm_o hc hi ux.1 (by omega)), ux.2]
end
theorem ms_Tr_sp {N : Nat} {lw : Nat → Prop} {rn : Nat → Nat} {A : ms_AS} (hF : ms_FI N lw rn A) {s0 : Nat} (s04 : s0 < 4) (ls : lw s0) : ms_Tr (fun i => i < 32 ∧ ms_U A i ∧ ms_S A i = s0) (rn s0) (ms_P A) (ms_Q A) (ms_R A) := by
  obtain ⟨h1, h2, h3, h4, dp, h5⟩ := hF
  obtain ⟨r1, r2, r3, r4, r5⟩ := h4 s0 s04 ls
  have par : ∀ x, (x < 32 ∧ ms_U A x ∧ ms_S A x = s0) → x ≠ rn s0 → ms_P A x < 32 := fun x t n => by
    have := (h1 x t.1 t.2.1).2.2.2.1
    have : ms_P A x ≠ 32 := fun q => n (r5 x t.1 t.2.1 t.2.2 q)
    omega
  refine ⟨⟨r1, r2, r3⟩, fun x t => ⟨t.1, h2 x t.1⟩, fun x t n => ?_, dp, fun x t n => h5 x t.1 t.2.1 (par x t n)⟩
  have p := par x t n
  obtain ⟨b1, b2, b3, b4⟩ := h3 x t.1 t.2.1 p
  exact ⟨p, ⟨p, b1, by rw [b2]; exact t.2.2⟩, b3, b4⟩
theorem i_vc_cloneSpace {k : Nat} {u : SX} {v : SY} (I : i_Rel k u v) (hk : k + 5 ≤ 2563) (v1 : Int32) (v2 : Int32) : wpX_cloneSpace (fun r u' => wpY_cloneSpace (fun r' v' => r' = r ∧ i_Rel (k + 5) u' v') v v1 v2) u v1 v2 := by
  refine ms_el (P := fun u v => wpX_cloneSpace (fun r u' => wpY_cloneSpace (fun r' v' => r' = r ∧ i_Rel (k + 5) u' v') v v1 v2) u v1 v2) I ?_
  intro N D S A lw rn e us fs rt sp pa pt g m ub lv rm w1 w2 w3 w4 w5 w6 w7 w8 w9 wa wb lvy usy fsy rty spy uby pay pty gy my v1y v2y v3y v4y v5y v6y v7y v8y v9y hI h hl hr he hE h' hl'
  have J : i_Rel (k + 5) (nI N, nI D, nI S, us, fs, rt, sp, pa, pt, g, m, ub, lv, rm, w1, w2, w3, w4, w5, w6, w7, w8, w9, wa, wb) (nI N, nI D, nI S, lvy, usy, fsy, rty, spy, uby, pay, pty, gy, my, v1y, v2y, v3y, v4y, v5y, v6y, v7y, v8y, v9y) := ms_mk hI h hl hr he hE h' hl'
  obtain ⟨hN, hN8, hD, hS, hF, hL⟩ := hI
  unfold wpX_cloneSpace wpY_cloneSpace
  dsimp only
  by_cases c : ∃ s, s < S ∧ v1 = nI s ∧ lw s
  · obtain ⟨s0, hs0, rfl, ls⟩ := c
    have s04 : s0 < 4 := by omega
    refine mx_il1 hS hl hs0 ls (br_f ms_10 (mx_fsp hS ?_))
    rw [ms_lo_congr (Q := fun c => ¬ lw c) (by omega) fun c hc => hl c (by omega)]
    -- the reference's search of a free number
    have ysr : ∀ P : Int32 → SY → Prop, (ms_lo (fun c => ¬ lw c) S < 32 → ∃ n, wY_cloneSpace_53 P (nI s0) v2 (nI (ms_lo (fun c => ¬ lw c) S)) (nI N) (nI D) (nI S) lvy usy fsy rty spy uby pay pty gy my v1y v2y v3y v4y v5y v6y v7y v8y v9y n 0 0) → (¬ ms_lo (fun c => ¬ lw c) S < 32 → P (-4) (nI N, nI D, nI S, lvy, usy, fsy, rty, spy, uby, pay, pty, gy, my, v1y, v2y, v3y, v4y, v5y, v6y, v7y, v8y, v9y)) → ∃ n, wY_cloneSpace_13 P (nI s0) v2 (nI N) (nI D) (nI S) lvy usy fsy rty spy uby pay pty gy my v1y v2y v3y v4y v5y v6y v7y v8y v9y n 0 := by
      intro P a b
      refine ms_sr (W := fun n i => wY_cloneSpace_13 P (nI s0) v2 (nI N) (nI D) (nI S) lvy usy fsy rty spy uby pay pty gy my v1y v2y v3y v4y v5y v6y v7y v8y v9y n i) (P := fun c => ¬ lw c) (N := S) (by omega) (fun n q _ => ?_) (fun n i hi ci vi ni go fo => ?_)
      · refine br_t (nI_le (Nat.le_refl _) (by omega)) (br_f (nI_nlt (Nat.le_refl _) (by omega)) (b (by omega)))
      · refine br_f ni ⟨vp_in_nI (by omega) (by omega), ?_⟩
        rw [ci]
        refine br_c (fun z => br_t (nI_lt hi (by omega)) ?_) (fun z => go fun q => z ((hl' i (by omega)).mpr q))
        have q := fo ((hl' i (by omega)).mp z)
        rw [q] at a
        exact a (by omega)
    by_cases f : ms_lo (fun c => ¬ lw c) S < 32
    · have fS := ms_lo_lt (P := fun c => ¬ lw c) (by omega) f
      have fl := ms_lo_P (P := fun c => ¬ lw c) (N := S) (by omega) f
      generalize hs : ms_lo (fun c => ¬ lw c) S = s at *
      have s4 : s < 4 := by omega
      have ss : s ≠ s0 := fun q => fl (q ▸ ls)
      rw [ms_c_lt f]
      have hS4 : ∀ i, i < 32 → ms_U A i → ms_S A i < 4 := fun i hi u => (hF.1 i hi u).2.1
      refine br_t (nI_pos' (by omega)) (mx_sel h hS4 s04 fun w hw => mx_fct hN ?_)
      rw [ms_rd_fc h hN]
      have c1 := ms_cn_le (fun i => i < 32 ∧ ms_U A i ∧ ms_S A i = s0) 32
      have c2 := ms_cn_le (fun c => ¬ ms_U A c) N
      -- the reference's count
      have yct : ∀ P : Int32 → SY → Prop, (ms_cn (fun i => i < 32 ∧ ms_U A i ∧ ms_S A i = s0) 32 ≤ ms_cn (fun c => ¬ ms_U A c) N → ∀ a b, (∀ i, i < 32 → a i = -1 ∧ b i = -1) → ∃ n116, wY_cloneSpace_116 P (nI s0) v2 (nI s) n116 0 (nI N) (nI D) (nI S) (upd lvy s (vp_nar .boolean 1)) usy fsy rty spy uby pay pty gy my v1y v2y v3y v4y v5y v6y v7y a b) → (¬ ms_cn (fun i => i < 32 ∧ ms_U A i ∧ ms_S A i = s0) 32 ≤ ms_cn (fun c => ¬ ms_U A c) N → P (-4) (nI N, nI D, nI S, lvy, usy, fsy, rty, spy, uby, pay, pty, gy, my, v1y, v2y, v3y, v4y, v5y, v6y, v7y, v8y, v9y)) → ∃ n, wY_cloneSpace_53 P (nI s0) v2 (nI s) (nI N) (nI D) (nI S) lvy usy fsy rty spy uby pay pty gy my v1y v2y v3y v4y v5y v6y v7y v8y v9y n 0 0 := by
        intro P hP hn
        refine ms_ct (W := fun n c i => wY_cloneSpace_53 P (nI s0) v2 (nI s) (nI N) (nI D) (nI S) lvy usy fsy rty spy uby pay pty gy my v1y v2y v3y v4y v5y v6y v7y v8y v9y n c i) (P := fun i => i < 32 ∧ ms_U A i ∧ ms_S A i = s0) (Nat.le_refl _) (fun n => ?_) (fun n i hi ci vi ni t f => ?_)
        · refine br_t (nI_le (b := 32) (Nat.le_refl _) (by omega)) (my_fct hN ?_)
          rw [ms_rd_fc h' hN, nI_leI (by omega) (by omega)]
          refine br_c (fun z => ⟨vp_in_nI s4 (by omega), ?_⟩) hn
          rw [nI_clamp (by omega)]
          exact nm_e (my_clr fun a b hab => hP z a b hab)
        · have hu := ms_CR_u h' hi
          refine br_f ni ⟨vi, ?_⟩
          rw [ci]
          refine br_c (fun z => f fun q => hu.mp z q.2.1) (fun z => ⟨vi, ?_⟩)
          have u : ms_U A i := Classical.byContradiction fun n => z (hu.mpr n)
          have i4 := hS4 i hi u
          rw [ms_CR_s h' hi]
          exact br_c (fun z2 => t ⟨hi, u, (nI_eq (by omega) (by omega)).mp z2⟩) (fun z2 => f fun q => z2 (by rw [q.2.2]))
      rw [nI_leI (by omega) (by omega)]
      refine br_c (fun z => ?_) (fun z => ?_)
      · have ht := ms_Tr_sp hF s04 ls
        have hT : ∀ x, (x < 32 ∧ ms_U A x ∧ ms_S A x = s0) → ms_U A x ∧ x < N := fun x q => ⟨q.2.1, (hF.1 x q.1 q.2.1).1⟩
        have hc : ms_Cm N A (fun i => i < 32 ∧ ms_U A i ∧ ms_S A i = s0) (ms_ix N (ms_U A) (fun i => i < 32 ∧ ms_U A i ∧ ms_S A i = s0)) (ms_yn N (ms_U A) (fun i => i < 32 ∧ ms_U A i ∧ ms_S A i = s0)) := ms_Cm_yn hN z fun x q => q.1
        have r4 := (hF.2.2.2.1 s0 s04 ls).2.2.2.1
        refine mx_cln (rn := rn) (lw := lw) hN hL z hT ht h hw s4 s04 (hr s0 s04 ls) fun us2 fs2 rt2 sp2 pa2 pt2 g2 m2 ub2 w2' h2 => ?_
        refine my_il1 hS hl' hs0 ls (br_f ms_10 (ysr _ (fun _ => yct _ (fun _ a b hab => ?_) (fun q => absurd z q)) (fun q => absurd f q)))
        refine my_cln hN hF hE he hL z (fun x => Iff.rfl) ht (by rw [r4]; omega) h' s4 s04 ss (fun i hi => (hab i hi).1) (fun i hi => (hab i hi).2) fun us3 fs3 rt3 sp3 pa3 pt3 g3 m3 ub3 w3' h3 => ⟨rfl, ?_⟩
        generalize ms_ix N (ms_U A) (fun i => i < 32 ∧ ms_U A i ∧ ms_S A i = s0) = ix at *
        generalize ms_yn N (ms_U A) (fun i => i < 32 ∧ ms_U A i ∧ ms_S A i = s0) = y at *
        have hFc := ms_FI_cl (G' := (fun i => if ix i < 32 then ms_cg A v2 (ix i) else ms_G A i)) (M' := (fun i => if ix i < 32 then ms_cm A v2 (ix i) else ms_M A i)) (B' := (fun i => if ix i < 32 then ms_B A (ix i) else ms_B A i)) hF hc ht s4 fl
        have HL : ∀ i, i < 32 → (∃ k, k < 32 ∧ (if ix i < 32 then ms_cg A v2 (ix i) else ms_G A i) = ms_G A k ∧ (if ix i < 32 then ms_cm A v2 (ix i) else ms_M A i) = ms_M A k) ∨ ((if ix i < 32 then ms_cg A v2 (ix i) else ms_G A i) = 32 ∧ ms_La A (if ix i < 32 then ms_cm A v2 (ix i) else ms_M A i)) := by
          intro i hi
          by_cases q : ix i < 32
          · rw [if_pos q, if_pos q]
            by_cases sl : v2 = 0
            · left
              exact ⟨ix i, q, if_pos sl, if_pos sl⟩
            · right
              refine ⟨if_neg sl, ?_⟩
              have e2 : ms_cm A v2 (ix i) = if ms_G A (ix i) < 32 then ms_G A (ix i) else ms_M A (ix i) := if_neg sl
              rw [e2]
              by_cases w : ms_G A (ix i) < 32
              · rw [if_pos w]; exact ms_La_G q
              · rw [if_neg w]; exact ms_La_M hL q
          · rw [if_neg q, if_neg q]
            exact Or.inl ⟨i, hi, rfl, rfl⟩
        have HK : ∀ j, j < 32 → ms_G A j < 32 → ∃ k, k < 32 ∧ (if ix k < 32 then ms_cg A v2 (ix k) else ms_G A k) = ms_G A j := by
          intro j hj gj
          have uj : ms_U A j := Classical.byContradiction fun n => by have := (hL.2.1 j hj n).1; omega
          exact ⟨j, hj, by rw [if_neg (ms_Cm_o hc hj uj)]⟩
        have HU : ∀ i, i < 32 → ¬ (ix i < 32 ∨ ms_U A i) → (if ix i < 32 then ms_cg A v2 (ix i) else ms_G A i) = 32 ∧ (if ix i < 32 then ms_cm A v2 (ix i) else ms_M A i) = 32 := by
          intro i hi n
          rw [if_neg fun q => n (Or.inl q), if_neg fun q => n (Or.inl q)]
          exact hL.2.1 i hi fun q => n (Or.inr q)
        have HE : ∀ i, i < 32 → ms_La A (if ix i < 32 then ms_cg A v2 (ix i) else ms_G A i) := fun i hi => (HL i hi).elim (fun ⟨k, hk, q, _⟩ => by rw [q]; exact ms_La_G hk) fun q => Or.inl q.1
        have lv2 : ∀ w : Nat → Int32, (∀ s, s < 4 → (w s = 0 ↔ ¬ lw s)) → ∀ j, j < 4 → (upd w s (vp_nar .boolean 1) j = 0 ↔ ¬ (lw j ∨ j = s)) := by
          intro w hw j hj
          by_cases q : j = s
          · subst q
            rw [ms_us, ms_b1]
            exact ⟨fun z => absurd z ms_10, fun z => absurd (Or.inr rfl) z⟩
          · rw [ms_un' q, hw j hj]
            exact ⟨fun z y => y.elim z q, fun z y => z (Or.inl y)⟩
        refine ms_mk ⟨hN, hN8, hD, hS, hFc, ms_LI_map hL HL HK HU⟩ h2 (lv2 _ hl) (fun j hj l => ?_) he (ms_E_map hE HE) h3 (lv2 _ hl')
        by_cases q : j = s
        · subst q; rw [ms_us, ms_fu_s]
        · rw [ms_un' q, ms_fu_n q]; exact hr j hj (l.elim id fun w => absurd w q)
      · have J2 : i_Rel (k + 5) (nI N, nI D, nI S, us, fs, rt, sp, pa, pt, g, m, ub, lv, rm, w1, w2, w3, w, w5, w6, w7, w8, w9, wa, wb) (nI N, nI D, nI S, lvy, usy, fsy, rty, spy, uby, pay, pty, gy, my, v1y, v2y, v3y, v4y, v5y, v6y, v7y, v8y, v9y) := ms_mk ⟨hN, hN8, hD, hS, hF, hL⟩ h hl hr he hE h' hl'
        exact my_il1 hS hl' hs0 ls (br_f ms_10 (ysr _ (fun _ => yct _ (fun q => absurd q z) (fun _ => ⟨rfl, J2⟩)) (fun q => absurd f q)))
    · rw [ms_c_ge f]
      exact br_f (by decide) (my_il1 hS hl' hs0 ls (br_f ms_10 (ysr _ (fun q => absurd q f) (fun _ => ⟨rfl, J⟩))))
  · exact mx_il0 hS hl c (br_t rfl (my_il0 hS hl' c (br_t rfl ⟨rfl, J⟩)))
end
section
/-! attach: the stages, and what they keep -/
noncomputable def ms_f2 (T : Nat → Prop) (x : Nat) (B : ms_AS) : ms_AS := ms_ic (T x ∧ ¬ ms_G B x < 32) (ms_sG B x (ms_nl B)) B
theorem ms_f2_t {T : Nat → Prop} {x : Nat} {B : ms_AS} (h : T x ∧ ¬ ms_G B x < 32) : ms_f2 T x B = ms_sG B x (ms_nl B) := ms_ic_t h
theorem ms_f2_f {T : Nat → Prop} {x : Nat} {B : ms_AS} (h : ¬ (T x ∧ ¬ ms_G B x < 32)) : ms_f2 T x B = B := ms_ic_f h
theorem ms_sm_t {A B C : ms_AS} (h : ms_sm A B) (h' : ms_sm B C) : ms_sm A C := ⟨h.1.trans h'.1, h.2.1.trans h'.2.1, h.2.2.1.trans h'.2.2.1, h.2.2.2.1.trans h'.2.2.2.1, h.2.2.2.2.1.trans h'.2.2.2.2.1, h.2.2.2.2.2.1.trans h'.2.2.2.2.2.1, h.2.2.2.2.2.2.trans h'.2.2.2.2.2.2⟩
theorem ms_FI_sm {N : Nat} {lw : Nat → Prop} {rn : Nat → Nat} {A B : ms_AS} (hF : ms_FI N lw rn B) (h : ms_sm A B) : ms_FI N lw rn A := ms_FI_ext hF ⟨h.1, h.2.1, h.2.2.1, h.2.2.2.1, h.2.2.2.2.1, h.2.2.2.2.2.1⟩
/-- the first stage -/
theorem ms_2_i {A1 : ms_AS} {T : Nat → Prop} (hL : ms_LI A1) (hT : ∀ x, T x → x < 32 ∧ ms_U A1 x) : ∀ i, ms_LI (ms_fo (ms_f2 T) A1 i) ∧ ms_sm (ms_fo (ms_f2 T) A1 i) A1 ∧ ms_M (ms_fo (ms_f2 T) A1 i) = ms_M A1 ∧ (∀ j, ¬ T j → ms_G (ms_fo (ms_f2 T) A1 i) j = ms_G A1 j) ∧ ∀ j, T j → j < i → ms_G (ms_fo (ms_f2 T) A1 i) j < 32
  | 0 => ⟨hL, ms_sm_r, rfl, fun _ _ => rfl, fun _ _ h => absurd h (Nat.not_lt_zero _)⟩
  | i + 1 => by
    obtain ⟨h1, h2, h3, h4, h5⟩ := ms_2_i hL hT i
    show ms_LI (ms_f2 T i (ms_fo (ms_f2 T) A1 i)) ∧ ms_sm (ms_f2 T i (ms_fo (ms_f2 T) A1 i)) A1 ∧ ms_M (ms_f2 T i (ms_fo (ms_f2 T) A1 i)) = ms_M A1 ∧ (∀ j, ¬ T j → ms_G (ms_f2 T i (ms_fo (ms_f2 T) A1 i)) j = ms_G A1 j) ∧ ∀ j, T j → j < i + 1 → ms_G (ms_f2 T i (ms_fo (ms_f2 T) A1 i)) j < 32
    by_cases z : T i ∧ ¬ ms_G (ms_fo (ms_f2 T) A1 i) i < 32
    · rw [ms_f2_t z]
      obtain ⟨i32, iu⟩ := hT i z.1
      have g32 : ms_G (ms_fo (ms_f2 T) A1 i) i = 32 := by have := (h1.1 i i32).1; omega
      obtain ⟨l32, fl⟩ := ms_nl_ok i32 g32
      refine ⟨ms_LI_new h1 i32 (by rw [h2.1]; exact iu) g32 l32 fl, h2, h3, fun j n => ?_, fun j tj hj => ?_⟩
      · have ne : j ≠ i := fun q => n (q ▸ z.1)
        have : ms_G (ms_sG (ms_fo (ms_f2 T) A1 i) i (ms_nl (ms_fo (ms_f2 T) A1 i))) j = ms_G (ms_fo (ms_f2 T) A1 i) j := ms_fu_n ne
        rw [this]; exact h4 j n
      · by_cases q : j = i
        · subst q
          have : ms_G (ms_sG (ms_fo (ms_f2 T) A1 j) j (ms_nl (ms_fo (ms_f2 T) A1 j))) j = ms_nl (ms_fo (ms_f2 T) A1 j) := ms_fu_s
          rw [this]; exact l32
        · have : ms_G (ms_sG (ms_fo (ms_f2 T) A1 i) i (ms_nl (ms_fo (ms_f2 T) A1 i))) j = ms_G (ms_fo (ms_f2 T) A1 i) j := ms_fu_n q
          rw [this]; exact h5 j tj (by omega)
    · rw [ms_f2_f z]
      refine ⟨h1, h2, h3, h4, fun j tj hj => ?_⟩
      by_cases q : j = i
      · subst q
        exact Classical.byContradiction fun n => z ⟨tj, n⟩
      · exact h5 j tj (by omega)
/-- one receiver's copies; pa0, pt0: the parents before -/
noncomputable def ms_gr (N : Nat) (T : Nat → Prop) (t d : Nat) (pa0 pt0 : Nat → Nat) (r : Nat) (B : ms_AS) : ms_AS :=
  ms_gf B (ms_ix N (ms_U B) T) (ms_yn N (ms_U B) T) (ms_R B) (ms_S B r) t r d pa0 pt0 (ms_at N B r d) (ms_G B) (ms_M B) (fun i => if ms_ix N (ms_U B) T i < 32 then 0 else ms_B B i)
section
variable {N : Nat} {T : Nat → Prop} {t d : Nat} {pa0 pt0 : Nat → Nat} {r : Nat} {B : ms_AS}
theorem ms_gr_G : ms_G (ms_gr N T t d pa0 pt0 r B) = ms_G B := by simp only [ms_gr, ms_gf, ms_G_mk]
theorem ms_gr_M : ms_M (ms_gr N T t d pa0 pt0 r B) = ms_M B := by simp only [ms_gr, ms_gf, ms_M_mk]
theorem ms_gr_U : ms_U (ms_gr N T t d pa0 pt0 r B) = fun i => ms_ix N (ms_U B) T i < 32 ∨ ms_U B i := by simp only [ms_gr, ms_gf, ms_U_mk]
end
noncomputable def ms_f3 (N : Nat) (T Rv : Nat → Prop) (t d : Nat) (pa0 pt0 : Nat → Nat) (r : Nat) (B : ms_AS) : ms_AS := ms_ic (Rv r) (ms_gr N T t d pa0 pt0 r B) B
theorem ms_f3_t {N : Nat} {T Rv : Nat → Prop} {t d : Nat} {pa0 pt0 : Nat → Nat} {r : Nat} {B : ms_AS} (h : Rv r) : ms_f3 N T Rv t d pa0 pt0 r B = ms_gr N T t d pa0 pt0 r B := ms_ic_t h
theorem ms_f3_f {N : Nat} {T Rv : Nat → Prop} {t d : Nat} {pa0 pt0 : Nat → Nat} {r : Nat} {B : ms_AS} (h : ¬ Rv r) : ms_f3 N T Rv t d pa0 pt0 r B = B := ms_ic_f h
/-- the number of the copy of x for r -/
noncomputable def ms_cp (N : Nat) (T Rv : Nat → Prop) (t d : Nat) (pa0 pt0 : Nat → Nat) (A2 : ms_AS) (r x : Nat) : Nat := ms_yn N (ms_U (ms_fo (ms_f3 N T Rv t d pa0 pt0) A2 r)) T x
/-- what attach is given: T with its top t under its old links, the receivers Rv, the room -/
def ms_Ag (N : Nat) (A2 : ms_AS) (T Rv : Nat → Prop) (t d : Nat) (pa0 pt0 : Nat → Nat) : Prop :=
  (∀ x, T x → x < 32 ∧ ms_U A2 x) ∧ ms_Tr T t pa0 pt0 (ms_R A2) ∧ (∀ r, Rv r → r < N ∧ ms_U A2 r ∧ ms_un d (ms_R A2 r)) ∧ d < 15 ∧ ms_cn T 32 * ms_cn Rv N ≤ ms_cn (fun i => ¬ ms_U A2 i) N
/-- at r: what the copies so far keep -/
def ms_AI (N : Nat) (lw : Nat → Prop) (rn : Nat → Nat) (A2 : ms_AS) (T Rv : Nat → Prop) (r : Nat) (B : ms_AS) : Prop :=
  ms_FI N lw rn B ∧ ms_G B = ms_G A2 ∧ ms_M B = ms_M A2 ∧ (∀ i, i < 32 → ms_U A2 i → ms_U B i ∧ ms_F B i = ms_F A2 i ∧ ms_R B i = ms_R A2 i ∧ ms_S B i = ms_S A2 i) ∧
  ms_cn (fun i => ¬ ms_U B i) N + ms_cn T 32 * ms_cn Rv r = ms_cn (fun i => ¬ ms_U A2 i) N
section
variable {N : Nat} {lw : Nat → Prop} {rn : Nat → Nat} {A2 B : ms_AS} {T Rv : Nat → Prop} {t d : Nat} {pa0 pt0 : Nat → Nat}
theorem ms_AI_room (hN : N ≤ 32) (ag : ms_Ag N A2 T Rv t d pa0 pt0) {r : Nat} (h : ms_AI N lw rn A2 T Rv r B) (hr : r < N) (vr : Rv r) : ms_cn T 32 ≤ ms_cn (fun i => ¬ ms_U B i) N := by
  obtain ⟨_, _, _, _, h5⟩ := h
  obtain ⟨_, _, _, _, rm⟩ := ag
  have a : ms_cn Rv (r + 1) ≤ ms_cn Rv N := ms_cn_le' hr
  rw [ms_cn_st vr] at a
  have b : ms_cn T 32 * (ms_cn Rv r + 1) ≤ ms_cn T 32 * ms_cn Rv N := Nat.mul_le_mul_left _ a
  rw [Nat.mul_add, Nat.mul_one] at b
  omega
theorem ms_AI_Tr (ag : ms_Ag N A2 T Rv t d pa0 pt0) {r : Nat} (h : ms_AI N lw rn A2 T Rv r B) : ms_Tr T t pa0 pt0 (ms_R B) := by
  obtain ⟨a1, ⟨b1, b2, b3, b4⟩, _⟩ := ag
  have e : ∀ x, T x → ms_R B x = ms_R A2 x := fun x q => (h.2.2.2.1 x (a1 x q).1 (a1 x q).2).2.2.1
  refine ⟨b1, fun x q => by rw [e x q]; exact b2 x q, fun x q n => ?_, b4⟩
  obtain ⟨c1, c2, c3, c4⟩ := b3 x q n
  exact ⟨c1, c2, c3, by rw [e _ c2]; exact c4⟩
theorem ms_AI_s (hN : N ≤ 32) (ag : ms_Ag N A2 T Rv t d pa0 pt0) {r : Nat} (h : ms_AI N lw rn A2 T Rv r B) (hr : r < N) : ms_AI N lw rn A2 T Rv (r + 1) (ms_f3 N T Rv t d pa0 pt0 r B) := by
  by_cases vr : Rv r
  · rw [ms_f3_t vr]
    have room := ms_AI_room hN ag h hr vr
    have tr := ms_AI_Tr ag h
    obtain ⟨h1, h2, h3, h4, h5⟩ := h
    obtain ⟨a1, _, a3, a4, _⟩ := ag
    obtain ⟨_, ru, rd⟩ := a3 r vr
    have hc : ms_Cm N B T (ms_ix N (ms_U B) T) (ms_yn N (ms_U B) T) := ms_Cm_yn hN room fun x q => (a1 x q).1
    have r32 : r < 32 := by omega
    obtain ⟨bu, _, br, _⟩ := h4 r r32 ru
    have fq : ms_at N B r d < 32 → ms_U B (ms_at N B r d) ∧ ms_P B (ms_at N B r d) = r := fun q => ⟨(ms_at_ok hN q).1, (ms_at_ok hN q).2.1⟩
    have fd : ms_un d (ms_R B r) := by rw [br]; exact rd
    have hFg : ms_FI N lw rn (ms_gr N T t d pa0 pt0 r B) := by
      unfold ms_gr
      exact ms_FI_gf h1 hc tr r32 bu rfl a4 fd fq
    refine ⟨hFg, ms_gr_G.trans h2, ms_gr_M.trans h3, fun i hi u => ?_, ?_⟩
    · obtain ⟨c1, c2, c3, c4⟩ := h4 i hi u
      have o := ms_Cm_o hc hi c1
      simp only [ms_gr, ms_gf, ms_U_mk, ms_F_mk, ms_R_mk, ms_S_mk, if_neg o]
      exact ⟨Or.inr c1, c2, c3, c4⟩
    · rw [ms_cn_st vr, Nat.mul_add, Nat.mul_one]
      have e := ms_ix_cn (U := ms_U B) hN room
      have e' : ms_cn (fun i => ¬ ms_U (ms_gr N T t d pa0 pt0 r B) i) N = ms_cn (fun i => ¬ (ms_ix N (ms_U B) T i < 32 ∨ ms_U B i)) N := by rw [ms_gr_U]
      omega
  · rw [ms_f3_f vr]
    obtain ⟨h1, h2, h3, h4, h5⟩ := h
    refine ⟨h1, h2, h3, h4, ?_⟩
    rw [ms_cn_sf vr]; exact h5
theorem ms_AI_i (hN : N ≤ 32) (ag : ms_Ag N A2 T Rv t d pa0 pt0) (hF : ms_FI N lw rn A2) : ∀ r, r ≤ N → ms_AI N lw rn A2 T Rv r (ms_fo (ms_f3 N T Rv t d pa0 pt0) A2 r)
  | 0, _ => ⟨hF, rfl, rfl, fun i _ u => ⟨u, rfl, rfl, rfl⟩, by simp [ms_fo, ms_cn]⟩
  | r + 1, h => ms_AI_s hN ag (ms_AI_i hN ag hF r (by omega)) (by omega)
/-- the copies' numbers -/
theorem ms_US_le {r r' : Nat} (h : r ≤ r') {i : Nat} : ms_U (ms_fo (ms_f3 N T Rv t d pa0 pt0) A2 r) i → ms_U (ms_fo (ms_f3 N T Rv t d pa0 pt0) A2 r') i := by
  induction h with
  | refl => exact id
  | @step k _ ih =>
    intro u
    show ms_U (ms_f3 N T Rv t d pa0 pt0 k (ms_fo (ms_f3 N T Rv t d pa0 pt0) A2 k)) i
    by_cases vr : Rv k
    · rw [ms_f3_t vr, ms_gr_U]; exact Or.inr (ih u)
    · rw [ms_f3_f vr]; exact ih u
theorem ms_cp_ok (hN : N ≤ 32) (ag : ms_Ag N A2 T Rv t d pa0 pt0) (hF : ms_FI N lw rn A2) {r x : Nat} (vr : Rv r) (tx : T x) : ms_cp N T Rv t d pa0 pt0 A2 r x < 32 ∧ ¬ ms_U (ms_fo (ms_f3 N T Rv t d pa0 pt0) A2 r) (ms_cp N T Rv t d pa0 pt0 A2 r x) ∧ ms_U (ms_fo (ms_f3 N T Rv t d pa0 pt0) A2 (r + 1)) (ms_cp N T Rv t d pa0 pt0 A2 r x) := by
  have hr := (ag.2.2.1 r vr).1
  have ai := ms_AI_i hN ag hF r (by omega)
  have room := ms_AI_room hN ag ai hr vr
  have x32 := (ag.1 x tx).1
  have yk := ms_yn_ok (U := ms_U (ms_fo (ms_f3 N T Rv t d pa0 pt0) A2 r)) hN room x32 tx
  refine ⟨yk.2.1, ms_yn_nU hN room x32 tx, ?_⟩
  show ms_U (ms_f3 N T Rv t d pa0 pt0 r (ms_fo (ms_f3 N T Rv t d pa0 pt0) A2 r)) _
  rw [ms_f3_t vr, ms_gr_U]
  refine Or.inl ?_
  unfold ms_cp
  rw [ms_ix_yn hN room x32 tx]; exact x32
theorem ms_cp_CF (hN : N ≤ 32) (ag : ms_Ag N A2 T Rv t d pa0 pt0) (hF : ms_FI N lw rn A2) (hL : ms_LI A2) : ms_CF (ms_fo (ms_f3 N T Rv t d pa0 pt0) A2 N) T Rv (ms_cp N T Rv t d pa0 pt0 A2) := by
  have aN := ms_AI_i hN ag hF N (Nat.le_refl _)
  refine ⟨fun r x vr tx => ?_, fun r x r' x' vr tx vr' tx' e => ?_, fun r x x' vr tx tx' e => ?_⟩
  · obtain ⟨c1, c2, c3⟩ := ms_cp_ok hN ag hF vr tx
    have hr := (ag.2.2.1 r vr).1
    have nu : ¬ ms_U A2 (ms_cp N T Rv t d pa0 pt0 A2 r x) := fun u => c2 (ms_US_le (A2 := A2) (Nat.zero_le r) u)
    refine ⟨by omega, (ag.1 x tx).1, c1, ms_US_le hr c3, ?_⟩
    rw [aN.2.1, aN.2.2.1]
    exact hL.2.1 _ c1 nu
  · obtain ⟨c1, c2, c3⟩ := ms_cp_ok hN ag hF vr tx
    obtain ⟨d1, d2, d3⟩ := ms_cp_ok hN ag hF vr' tx'
    rcases Nat.lt_trichotomy r r' with w | w | w
    · rw [← e] at d2
      exact absurd (ms_US_le w c3) d2
    · subst w
      have hr := (ag.2.2.1 r vr).1
      have room := ms_AI_room hN ag (ms_AI_i hN ag hF r (by omega)) hr vr
      exact ⟨rfl, ms_yn_inj hN room (ag.1 x tx).1 tx (ag.1 x' tx').1 tx' e⟩
    · rw [e] at c2
      exact absurd (ms_US_le w d3) c2
  · obtain ⟨c1, c2, c3⟩ := ms_cp_ok hN ag hF vr tx
    rw [e] at c2
    exact c2 (ms_US_le (A2 := A2) (Nat.zero_le r) (ag.1 x' tx').2)
end
/-! the fourth stage: the groups of the copies, in the component's order -/
noncomputable def ms_g4 (G0 : Nat → Nat) (gp : Nat) (T Rv : Nat → Prop) (cp : Nat → Nat → Nat) (r x : Nat) (B : ms_AS) : ms_AS := ms_ic (T x) (ms_gs G0 gp Rv cp r x B) B
noncomputable def ms_f4 (N : Nat) (G0 : Nat → Nat) (gp : Nat) (T Rv : Nat → Prop) (cp : Nat → Nat → Nat) (r : Nat) (B : ms_AS) : ms_AS := ms_ic (Rv r) (ms_fo (ms_g4 G0 gp T Rv cp r) B N) B
section
variable {N : Nat} {G0 : Nat → Nat} {gp : Nat} {A3 : ms_AS} {T Rv : Nat → Prop} {cp : Nat → Nat → Nat}
theorem ms_g4_i (hN : N ≤ 32) (hg : gp < 32) (cf : ms_CF A3 T Rv cp) {B : ms_AS} {r : Nat} (vr : Rv r) (h : ms_PC G0 gp A3 T Rv cp (fun r' _ => r' < r) B) : ∀ x, x ≤ N → ms_PC G0 gp A3 T Rv cp (fun r' x' => r' < r ∨ (r' = r ∧ x' < x)) (ms_fo (ms_g4 G0 gp T Rv cp r) B x)
  | 0, _ => ms_PC_k h fun r' x' _ _ => ⟨fun q => q.elim id fun q => absurd q.2 (Nat.not_lt_zero _), Or.inl⟩
  | x + 1, hx => by
    have ih := ms_g4_i hN hg cf vr h x (by omega)
    show ms_PC G0 gp A3 T Rv cp _ (ms_g4 G0 gp T Rv cp r x (ms_fo (ms_g4 G0 gp T Rv cp r) B x))
    unfold ms_g4
    by_cases tx : T x
    · rw [ms_ic_t tx]
      have r32 := (cf.1 r x vr tx).1
      obtain ⟨f1, f2, f3, f4⟩ := ms_fr_ok (G0 := G0) r32 vr
      refine ms_PC_s hg cf ih vr tx (fun q => q.elim (fun q => absurd q (by omega)) fun q => absurd q.2 (by omega)) (fun r' x' => ?_) (fun e r' vr' e' q => ?_) (fun n => Or.inl (by omega))
      · constructor
        · rintro (q | q)
          · exact Or.inl (Or.inl q)
          · by_cases w : x' = x
            · exact Or.inr ⟨q.1, w⟩
            · exact Or.inl (Or.inr ⟨q.1, by omega⟩)
        · rintro ((q | q) | q)
          · exact Or.inl q
          · exact Or.inr ⟨q.1, by omega⟩
          · exact Or.inr ⟨q.1, by omega⟩
      · rcases q with q | q
        · have a := (ms_fr_ok (G0 := G0) (Rv := Rv) (r := r') (by omega) vr').2.2.2
          rw [e', e] at a
          omega
        · omega
    · rw [ms_ic_f tx]
      refine ms_PC_k ih fun r' x' _ tx' => ?_
      have : x' ≠ x := fun q => tx (q ▸ tx')
      constructor
      · rintro (q | q)
        · exact Or.inl q
        · exact Or.inr ⟨q.1, by omega⟩
      · rintro (q | q)
        · exact Or.inl q
        · exact Or.inr ⟨q.1, by omega⟩
theorem ms_f4_i (hN : N ≤ 32) (hg : gp < 32) (hL : ms_LI A3) (cf : ms_CF A3 T Rv cp) (hT : ∀ x, T x → x < N) : ∀ r, ms_PC G0 gp A3 T Rv cp (fun r' _ => r' < r) (ms_fo (ms_f4 N G0 gp T Rv cp) A3 r)
  | 0 => ms_PC_0 hL cf fun r x q => absurd q (Nat.not_lt_zero _)
  | r + 1 => by
    have ih := ms_f4_i hN hg hL cf hT r
    show ms_PC G0 gp A3 T Rv cp _ (ms_f4 N G0 gp T Rv cp r (ms_fo (ms_f4 N G0 gp T Rv cp) A3 r))
    unfold ms_f4
    by_cases vr : Rv r
    · rw [ms_ic_t vr]
      refine ms_PC_k (ms_g4_i hN hg cf vr ih N (Nat.le_refl _)) fun r' x' _ tx' => ?_
      have := hT x' tx'
      constructor
      · intro q
        by_cases w : r' = r
        · exact Or.inr ⟨w, this⟩
        · exact Or.inl (by omega)
      · rintro (q | q) <;> omega
    · rw [ms_ic_f vr]
      refine ms_PC_k ih fun r' x' vr' _ => ?_
      have : r' ≠ r := fun q => vr (q ▸ vr')
      constructor
      · intro q; omega
      · intro q; omega
end
end
section
/-! one receiver's copies: lemmas for both sides, and the component -/
section
variable {e : Nat → Int32} {A : ms_AS} {ix y : Nat → Nat} {rt' : Nat → Nat} {s : Nat} {us fs rt sp pa pt g m ub : Nat → Int32}
theorem ms_sg_s0 {x : Nat} (hx : ∀ i, i < 32 → (ix i = x ↔ i = y x)) (h : ms_CR e (ms_nw (ms_sg A ix x rt' s (fun _ => 32) (fun _ => 32) (fun _ => 0)) (y x) (ms_F A x) (rt' x) s) us fs rt sp pa pt g m ub) : ms_CR e (ms_sg A ix (x + 1) rt' s (fun _ => 32) (fun _ => 32) (fun _ => 0)) us fs rt sp pa pt g m ub := by
  refine ms_sg_s (y := y) hx (ms_CR_ext h fun i hi => ?_)
  simp only [ms_sB, ms_sM, ms_sG, ms_nw, ms_U_mk, ms_F_mk, ms_R_mk, ms_S_mk, ms_P_mk, ms_Q_mk, ms_G_mk, ms_M_mk, ms_B_mk]
  by_cases w : i = y x
  · subst w
    simp only [ms_fu_s]
    refine ⟨?_, ?_, ?_, ?_, fun _ => ⟨?_, ?_⟩, ?_, ?_, ?_⟩ <;> first | trivial | rfl | exact Iff.rfl
  · simp only [ms_fu_n w]
    refine ⟨?_, ?_, ?_, ?_, fun _ => ⟨?_, ?_⟩, ?_, ?_, ?_⟩ <;> first | trivial | rfl | exact Iff.rfl
end
section
variable {N : Nat} {e : Nat → Int32} {B : ms_AS} {T : Nat → Prop} {t d r : Nat} {pa0 pt0 : Nat → Nat} {us fs rt sp pa pt g m ub : Nat → Int32}
theorem ms_gr_end (hN : N ≤ 32) (hL : ms_LI B) (hc : ms_Cm N B T (ms_ix N (ms_U B) T) (ms_yn N (ms_U B) T)) (tt : T t) (t32 : t < 32)
    (h : ms_CR e (ms_lk (ms_lk (ms_ls (ms_sg B (ms_ix N (ms_U B) T) 32 (ms_R B) (ms_S B r) (fun _ => 32) (fun _ => 32) (fun _ => 0)) (ms_ix N (ms_U B) T) (ms_yn N (ms_U B) T) t pa0 pt0 (fun _ => True)) (ms_yn N (ms_U B) T t) r d) (ms_at N B r d) (ms_yn N (ms_U B) T t) (ms_R B t)) us fs rt sp pa pt g m ub) :
    ms_CR e (ms_gr N T t d pa0 pt0 r B) us fs rt sp pa pt g m ub := by
  have qo : ∀ i, i < 32 → i = ms_at N B r d → ¬ ms_ix N (ms_U B) T i < 32 := fun i hi q => ms_Cm_o hc hi (by rw [q]; exact (ms_at_ok hN (by omega)).1)
  have yt := ms_Cm_i hc t32 tt
  have new : ∀ i, i < 32 → ms_ix N (ms_U B) T i < 32 → ¬ ms_U B i := fun i hi q u => ms_Cm_o hc hi u q
  refine ms_CR_ext h fun i hi => ?_
  simp only [ms_lk, ms_ls, ms_sg, ms_gr, ms_gf, ms_U_mk, ms_F_mk, ms_R_mk, ms_S_mk, ms_P_mk, ms_Q_mk, ms_G_mk, ms_M_mk, ms_B_mk]
  have qi := qo i hi
  have yi := yt i hi
  have ni := new i hi
  generalize ms_at N B r d = q at *
  generalize ms_ix N (ms_U B) T = ix at *
  generalize ms_yn N (ms_U B) T = y at *
  refine ⟨by first | trivial | exact Iff.rfl, by first | trivial | rfl, by first | trivial | rfl, by first | trivial | rfl, fun _ => ?_, ?_, ?_, by first | trivial | rfl⟩
  · by_cases z : ix i < 32
    · have nq : i ≠ q := fun w => qi w z
      simp only [if_pos z, ms_fu_n nq]
      by_cases w : ix i = t
      · have iy := yi.mp w
        rw [if_pos w, if_pos w, iy, ms_fu_s, ms_fu_s]; exact ⟨rfl, rfl⟩
      · have ny : i ≠ y t := fun k => w (yi.mpr k)
        rw [if_neg w, if_neg w, ms_fu_n ny, ms_fu_n ny, ms_ic_t ⟨trivial, z, w⟩, ms_ic_t ⟨trivial, z, w⟩]; exact ⟨rfl, rfl⟩
    · have ny : i ≠ y t := fun k => z (by rw [yi.mpr k]; exact t32)
      simp only [if_neg z]
      by_cases w : i = q
      · rw [if_pos w, if_pos w, w, ms_fu_s, ms_fu_s]; exact ⟨rfl, rfl⟩
      · rw [if_neg w, if_neg w, ms_fu_n w, ms_fu_n w, ms_fu_n ny, ms_fu_n ny, ms_ic_f (fun k => z k.2.1), ms_ic_f (fun k => z k.2.1)]; exact ⟨by first | rfl | rw [if_neg z], by first | rfl | rw [if_neg z]⟩
  · by_cases z : ix i < 32
    · rw [if_pos z]; exact (hL.2.1 i hi (ni z)).1.symm
    · rw [if_neg z]
  · by_cases z : ix i < 32
    · rw [if_pos z]; exact (hL.2.1 i hi (ni z)).2.symm
    · rw [if_neg z]
end
theorem ms_ri (r x : Nat) : nI r * 32 + nI x = nI (r * 32 + x) := by
  show nI r * nI 32 + nI x = _
  rw [pk_mul, nI_add]
theorem ms_rv' {r x : Nat} (hr : r < 32) (hx : x < 32) : vp_in (nI r * 32 + nI x) 1024 ∧ (nI r * 32 + nI x).toNatClampNeg = r * 32 + x := by
  rw [ms_ri]
  exact ⟨vp_in_nI (by omega) (by omega), nI_clamp (by omega)⟩
section
variable {N D S : Nat} {us fs rt sp pa pt g m ub lv rm w1 w2 w3 w4 w5 w6 w7 w8 w9 wa wb : Nat → Int32}
variable {B : ms_AS} {T : Nat → Prop} {t d r : Nat} {pa0 pt0 : Nat → Nat} {lw : Nat → Prop} {rn : Nat → Nat}
theorem mx_csf (hN : N ≤ 32) (h : ms_CR ms_c B us fs rt sp pa pt g m ub) (hF : ms_FI N lw rn B) (hL : ms_LI B) (hT : ∀ x, T x → x < N ∧ ms_U B x) (ht : ms_Tr T t pa0 pt0 (ms_R B)) (hr : r < N) (ur : ms_U B r) (room : ms_cn T 32 ≤ ms_cn (fun i => ¬ ms_U B i) N) (hd : d < 32)
    (h5 : ∀ i, i < 32 → (¬ w5 i = 0 ↔ T i)) (h9 : ∀ x, T x → x ≠ t → w9 x = ms_c (pa0 x) ∧ wa x = ms_c (pt0 x)) {post : SX → Prop}
    (hq : ∀ us' fs' rt' sp' pa' pt' g' m' ub' wb', ms_CR ms_c (ms_gr N T t d pa0 pt0 r B) us' fs' rt' sp' pa' pt' g' m' ub' → (∀ x, T x → wb' (r * 32 + x) = nI (ms_yn N (ms_U B) T x)) → (∀ j, (∀ x, x < 32 → j ≠ r * 32 + x) → wb' j = wb j) → post (nI N, nI D, nI S, us', fs', rt', sp', pa', pt', g', m', ub', lv, rm, w1, w2, w3, w4, w5, w6, w7, w8, w9, wa, wb')) : wpX_copySetFor post (nI N, nI D, nI S, us, fs, rt, sp, pa, pt, g, m, ub, lv, rm, w1, w2, w3, w4, w5, w6, w7, w8, w9, wa, wb) (nI r) (nI t) (nI d) := by
  have hT32 : ∀ x, T x → x < 32 := fun x q => by have := (hT x q).1; omega
  have hc : ms_Cm N B T (ms_ix N (ms_U B) T) (ms_yn N (ms_U B) T) := ms_Cm_yn hN room hT32
  have r32 : r < 32 := by omega
  have t32 := hT32 t ht.1
  have vr : vp_in (nI r) 32 := vp_in_nI r32 (by omega)
  have cr : (nI r).toNatClampNeg = r := nI_clamp (by omega)
  have vt : vp_in (nI t) 32 := vp_in_nI t32 (by omega)
  have ct : (nI t).toNatClampNeg = t := nI_clamp (by omega)
  have orr := ms_Cm_o hc r32 ur
  refine mx_at h hN r32 hd ?_
  refine ms_lp (fun n i (z : (Nat → Int32) × (Nat → Int32) × (Nat → Int32) × (Nat → Int32) × (Nat → Int32) × (Nat → Int32) × (Nat → Int32) × (Nat → Int32) × (Nat → Int32) × (Nat → Int32)) => wX_copySetFor_11 post (nI r) (nI t) (nI d) (ms_c (ms_at N B r d)) n i (nI N) (nI D) (nI S) z.1 z.2.1 z.2.2.1 z.2.2.2.1 z.2.2.2.2.1 z.2.2.2.2.2.1 z.2.2.2.2.2.2.1 z.2.2.2.2.2.2.2.1 z.2.2.2.2.2.2.2.2.1 lv rm w1 w2 w3 w4 w5 w6 w7 w8 w9 wa z.2.2.2.2.2.2.2.2.2) (fun k z => ms_CR ms_c (ms_sg B (ms_ix N (ms_U B) T) k (ms_R B) (ms_S B r) (fun _ => 32) (fun _ => 32) (fun _ => 0)) z.1 z.2.1 z.2.2.1 z.2.2.2.1 z.2.2.2.2.1 z.2.2.2.2.2.1 z.2.2.2.2.2.2.1 z.2.2.2.2.2.2.2.1 z.2.2.2.2.2.2.2.2.1 ∧ (∀ x, x < k → T x → z.2.2.2.2.2.2.2.2.2 (r * 32 + x) = nI (ms_yn N (ms_U B) T x)) ∧ ∀ j, (∀ x, x < 32 → j ≠ r * 32 + x) → z.2.2.2.2.2.2.2.2.2 j = wb j) N hN (us, fs, rt, sp, pa, pt, g, m, ub, wb) ⟨ms_sg_0 h, lt_0, fun _ _ => rfl⟩ (fun n z hI => ?_) (fun n x z hi ci vi ni hI go => ?_)
  · obtain ⟨us', fs', rt', sp', pa', pt', g', m', ub', wb'⟩ := z
    obtain ⟨hI, hW, hO⟩ := hI
    dsimp only at hI hW hO ⊢
    have all : ∀ k, N ≤ k → k ≤ 32 → ms_CR ms_c (ms_sg B (ms_ix N (ms_U B) T) k (ms_R B) (ms_S B r) (fun _ => 32) (fun _ => 32) (fun _ => 0)) us' fs' rt' sp' pa' pt' g' m' ub' := by
      intro k hk
      induction hk with
      | refl => intro _; exact hI
      | @step k hk ih =>
        intro h32
        refine ms_sg_n (ms_ix_n (by omega) fun q => ?_) (ih (by omega))
        have := (hT k q).1
        have : N ≤ k := hk
        omega
    have hS := all 32 hN (Nat.le_refl _)
    have hW' : ∀ x, T x → wb' (r * 32 + x) = nI (ms_yn N (ms_U B) T x) := fun x q => hW x (hT x q).1 q
    refine br_t (nI_le (Nat.le_refl _) (by omega)) ?_
    refine ms_lp (fun n i (z : (Nat → Int32) × (Nat → Int32)) => wX_copySetFor_75 post (nI r) (nI t) (nI d) (ms_c (ms_at N B r d)) (nI N) (nI D) (nI S) n i us' fs' rt' sp' z.1 z.2 g' m' ub' lv rm w1 w2 w3 w4 w5 w6 w7 w8 w9 wa wb') (fun k z => ms_CR ms_c (ms_ls (ms_sg B (ms_ix N (ms_U B) T) 32 (ms_R B) (ms_S B r) (fun _ => 32) (fun _ => 32) (fun _ => 0)) (ms_ix N (ms_U B) T) (ms_yn N (ms_U B) T) t pa0 pt0 (fun i => ms_ix N (ms_U B) T i < k)) us' fs' rt' sp' z.1 z.2 g' m' ub') N hN (pa', pt') (ms_ls_0 hS fun i q => Nat.not_lt_zero _ q) (fun n z hJ => ?_) (fun n x z hi ci vi ni hJ go => ?_)
    · have hJ' := ms_ls_k (c' := fun _ => True) hJ fun i i32 a _ => ⟨fun _ => (hT _ (hc.2 i i32 a).1).1, fun _ => trivial⟩
      obtain ⟨v1, c1⟩ := ms_rv' r32 t32
      obtain ⟨y1, y2, y3, y4⟩ := hc.1 t ht.1
      have vy : vp_in (nI (ms_yn N (ms_U B) T t)) 32 := vp_in_nI y2 (by omega)
      have cy : (nI (ms_yn N (ms_U B) T t)).toNatClampNeg = ms_yn N (ms_U B) T t := nI_clamp (by omega)
      have k1 := ms_CR_lk hJ' (ms_yn N (ms_U B) T t) r d
      rw [ms_c_lt r32, ms_c_lt hd] at k1
      refine br_t (nI_le (Nat.le_refl _) (by omega)) ⟨v1, ?_⟩
      rw [c1, hW' t ht.1]
      refine nm_e ⟨vy, ?_⟩
      rw [cy]
      refine nm_e ⟨vy, nm_e (br_c (fun q => ?_) (fun q => ?_))⟩
      · exact hq _ _ _ _ _ _ _ _ _ _ (ms_gr_end hN hL hc ht.1 t32 (ms_CR_lk32 k1 (ms_c_neg.mp q) _ _)) hW' hO
      · have a : ms_at N B r d < 32 := Classical.byContradiction fun k => q (ms_c_neg.mpr k)
        have ert : rt' t = nI (ms_R B t) := by
          rw [ms_CR_r hS t32]
          have o := ms_Cm_o hc t32 (hT t ht.1).2
          simp only [ms_sg, ms_R_mk, if_neg o]
        have k2 := ms_CR_lk k1 (ms_at N B r d) (ms_yn N (ms_U B) T t) (ms_R B t)
        rw [ms_c_lt y2, ms_c_lt (n := ms_R B t) (by have := hF.2.1 t t32; omega), ← ert] at k2
        refine ⟨ms_c_in a, ?_⟩
        rw [ms_c_cl a]
        refine nm_e ⟨vt, ms_c_in a, ?_⟩
        rw [ct]
        exact nm_e (hq _ _ _ _ _ _ _ _ _ _ (ms_gr_end hN hL hc ht.1 t32 k2) hW' hO)
    · obtain ⟨pa2, pt2⟩ := z
      dsimp only at hJ ⊢
      have x32 : x < 32 := by omega
      have skip : (∀ i, i < 32 → ms_ix N (ms_U B) T i < 32 → ms_ix N (ms_U B) T i ≠ t → ms_ix N (ms_U B) T i ≠ x) → ∀ y', y' = nI x + 1 → wX_copySetFor_75 post (nI r) (nI t) (nI d) (ms_c (ms_at N B r d)) (nI N) (nI D) (nI S) n y' us' fs' rt' sp' pa2 pt2 g' m' ub' lv rm w1 w2 w3 w4 w5 w6 w7 w8 w9 wa wb' := fun no => go (pa2, pt2) (ms_ls_k hJ fun i i32 a b => by have := no i i32 a b; omega)
      refine br_f ni ⟨vi, ?_⟩
      rw [ci]
      refine br_c (fun z => skip fun i i32 a b q => (h5 x x32).mpr (q ▸ (hc.2 i i32 a).1) z) (fun z => ?_)
      have tx := (h5 x x32).mp z
      refine br_c (fun z2 => skip fun i i32 a b q => b (q.trans ((nI_eq (by omega) (by omega)).mp z2))) (fun z2 => ?_)
      have xt : x ≠ t := fun q => z2 (by rw [q])
      obtain ⟨p1, p2, p3, p4⟩ := ht.2.2.1 x tx xt
      obtain ⟨y1, y2, y3, y4⟩ := hc.1 x tx
      obtain ⟨o9, oa⟩ := h9 x tx xt
      obtain ⟨v1, c1⟩ := ms_rv' r32 x32
      obtain ⟨v2, c2⟩ := ms_rv' r32 p1
      refine ⟨v1, ?_⟩
      rw [c1, hW' x tx]
      refine nm_e ⟨vi, ?_⟩
      rw [o9, ms_c_lt p1]
      refine ⟨v2, vp_in_nI y2 (by omega), ?_⟩
      rw [c2, hW' _ p2, nI_clamp (by omega), oa]
      have k := ms_ls_s (c' := fun i => ms_ix N (ms_U B) T i < x + 1) y2 hJ (by rw [y4]; exact x32) (by rw [y4]; exact xt) (fun i i32 ne a b => by have : ms_ix N (ms_U B) T i ≠ x := fun q => ne ((ms_Cm_i hc x32 tx i i32).mp q); omega) (by rw [y4]; omega)
      rw [y4, ms_c_lt (hc.1 _ p2).2.1] at k
      exact nm_e ⟨vi, vp_in_nI y2 (by omega), nm_e (go (_, _) k)⟩
  · obtain ⟨us', fs', rt', sp', pa', pt', g', m', ub', wb'⟩ := z
    obtain ⟨hI, hW, hO⟩ := hI
    dsimp only at hI hW hO ⊢
    have x32 : x < 32 := by omega
    refine br_f ni ⟨vi, ?_⟩
    rw [ci]
    refine br_c (fun z => go (us', fs', rt', sp', pa', pt', g', m', ub', wb') ⟨ms_sg_n (ms_ix_n x32 fun q => (h5 x x32).mpr q z) hI, lt_s hW fun q => absurd z ((h5 x x32).mpr q), hO⟩) (fun z => ⟨vi, vi, vr, ?_⟩)
    have tx := (h5 x x32).mp z
    have ux := (hT x tx).2
    have nox : ¬ ms_ix N (ms_U B) T x < x := fun q => ms_Cm_o hc x32 ux (by omega)
    have nor : ¬ ms_ix N (ms_U B) T r < x := fun q => orr (by omega)
    have ef : fs' x = ms_F B x := by rw [ms_CR_f hI x32]; simp only [ms_sg, ms_F_mk, if_neg nox]
    have er : rt' x = nI (ms_R B x) := by rw [ms_CR_r hI x32]; simp only [ms_sg, ms_R_mk, if_neg nox]
    have es : sp' r = nI (ms_S B r) := by rw [ms_CR_s hI r32]; simp only [ms_sg, ms_S_mk, if_neg nor]
    obtain ⟨y1, y2, y3, y4⟩ := hc.1 x tx
    have ey := ms_sg_lo (A := B) (T := T) (rt' := ms_R B) (s := ms_S B r) (gl := fun _ => 32) (ml := fun _ => 32) (bl := fun _ => 0) hN room (x := x) (by omega)
    rw [cr, ef, er, es]
    obtain ⟨v1, c1⟩ := ms_rv' r32 x32
    have n1 := ms_CR_nw hI ms_c_32 (ms_yn N (ms_U B) T x) (ms_F B x) (ms_R B x) (ms_S B r)
    refine mx_nwm hN (by rw [ms_rd_nw hI hN]; exact ey) y2 ⟨v1, ?_⟩
    rw [c1]
    refine nm_e (go (_, _, _, _, _, _, _, _, _, upd wb' (r * 32 + x) (nI (ms_yn N (ms_U B) T x))) ⟨ms_sg_s0 (y := ms_yn N (ms_U B) T) (ms_Cm_i hc x32 tx) n1, lt_s (fun j hj q => ?_) (fun _ => ms_us), fun j hj => ?_⟩)
    · dsimp only
      rw [ms_un' (by omega)]
      exact hW j hj q
    · dsimp only
      rw [ms_un' (hj x x32)]
      exact hO j hj
end
end
section
/-! attach: its stages by name, and the component's walk -/
noncomputable def ms_a2 (N : Nat) (A : ms_AS) (T : Nat → Prop) (t p d : Nat) : ms_AS := ms_fo (ms_f2 T) (ms_lk A t p d) N
noncomputable def ms_a3 (N : Nat) (A : ms_AS) (T Rv : Nat → Prop) (t p d k : Nat) : ms_AS := ms_fo (ms_f3 N T Rv t d (ms_P A) (ms_Q A)) (ms_a2 N A T t p d) k
noncomputable def ms_ac (N : Nat) (A : ms_AS) (T Rv : Nat → Prop) (t p d : Nat) : Nat → Nat → Nat := ms_cp N T Rv t d (ms_P A) (ms_Q A) (ms_a2 N A T t p d)
noncomputable def ms_a4 (N : Nat) (A00 A : ms_AS) (T Rv : Nat → Prop) (t p d k : Nat) : ms_AS := ms_fo (ms_f4 N (ms_G A00) (ms_G A00 p) T Rv (ms_ac N A T Rv t p d)) (ms_a3 N A T Rv t p d N) k
noncomputable def ms_a5 (N : Nat) (A00 A : ms_AS) (T Rv : Nat → Prop) (t p d : Nat) : ms_AS := ms_wM (ms_a4 N A00 A T Rv t p d N) (ms_M5 A00 (ms_G A00 p) T Rv (ms_ac N A T Rv t p d) (ms_a4 N A00 A T Rv t p d N))
noncomputable def ms_aF (N : Nat) (A00 A : ms_AS) (T Rv : Nat → Prop) (t p d : Nat) : ms_AS := ms_ic (ms_G A00 p < 32) (ms_a5 N A00 A T Rv t p d) (ms_lk A t p d)
/-- what the callers have made sure of -/
def ms_Aq (N : Nat) (lw : Nat → Prop) (rn : Nat → Nat) (A00 A : ms_AS) (T Rv : Nat → Prop) (t p d : Nat) : Prop :=
  N ≤ 32 ∧ ms_LI A00 ∧ ms_LI A ∧ ms_FI N lw rn (ms_lk A t p d) ∧ p < N ∧ (∀ r, Rv r → ms_Sp A00 p r ∧ r ≠ p) ∧ ms_Ag N A T Rv t d (ms_P A) (ms_Q A)
section
variable {N : Nat} {lw : Nat → Prop} {rn : Nat → Nat} {A00 A : ms_AS} {T Rv : Nat → Prop} {t p d : Nat}
theorem ms_q_2 (q : ms_Aq N lw rn A00 A T Rv t p d) : ms_LI (ms_a2 N A T t p d) ∧ ms_sm (ms_a2 N A T t p d) (ms_lk A t p d) ∧ ms_FI N lw rn (ms_a2 N A T t p d) ∧ ms_Ag N (ms_a2 N A T t p d) T Rv t d (ms_P A) (ms_Q A) := by
  obtain ⟨hN, h0, hL, hF, hp, hv, ag⟩ := q
  obtain ⟨a1, a2, a3, _, _⟩ := ms_2_i (A1 := ms_lk A t p d) (T := T) hL (fun x tx => ag.1 x tx) N
  refine ⟨a1, a2, ms_FI_sm hF a2, ?_⟩
  have eU : ms_U (ms_a2 N A T t p d) = ms_U A := a2.1
  have eR : ms_R (ms_a2 N A T t p d) = ms_R A := a2.2.2.1
  unfold ms_Ag
  rw [eU, eR]
  exact ag
theorem ms_q_3 (q : ms_Aq N lw rn A00 A T Rv t p d) {k : Nat} (hk : k ≤ N) : ms_AI N lw rn (ms_a2 N A T t p d) T Rv k (ms_a3 N A T Rv t p d k) ∧ ms_LI (ms_a3 N A T Rv t p d k) := by
  obtain ⟨b1, b2, b3, b4⟩ := ms_q_2 q
  have a : ms_AI N lw rn (ms_a2 N A T t p d) T Rv k (ms_a3 N A T Rv t p d k) := ms_AI_i q.1 b4 b3 k hk
  refine ⟨a, ms_LI_ext b1 fun i hi => ⟨fun u => Or.inl (a.2.2.2.1 i hi u).1, ?_, ?_⟩⟩
  · rw [a.2.1]
  · rw [a.2.2.1]
theorem ms_q_cf (q : ms_Aq N lw rn A00 A T Rv t p d) : ms_CF (ms_a3 N A T Rv t p d N) T Rv (ms_ac N A T Rv t p d) := by
  obtain ⟨b1, b2, b3, b4⟩ := ms_q_2 q
  exact ms_cp_CF q.1 b4 b3 b1
theorem ms_q_TN (q : ms_Aq N lw rn A00 A T Rv t p d) : ∀ x, T x → x < N := fun x tx => by
  obtain ⟨hN, h0, hL, hF, hp, hv, ag⟩ := q
  exact (hF.1 x (ag.1 x tx).1 (ag.1 x tx).2).1
theorem ms_q_4 (q : ms_Aq N lw rn A00 A T Rv t p d) (hg : ms_G A00 p < 32) (k : Nat) : ms_PC (ms_G A00) (ms_G A00 p) (ms_a3 N A T Rv t p d N) T Rv (ms_ac N A T Rv t p d) (fun r' _ => r' < k) (ms_a4 N A00 A T Rv t p d k) :=
  ms_f4_i q.1 hg (ms_q_3 q (Nat.le_refl _)).2 (ms_q_cf q) (ms_q_TN q) k
theorem ms_q_4' (q : ms_Aq N lw rn A00 A T Rv t p d) (hg : ms_G A00 p < 32) : ms_PC (ms_G A00) (ms_G A00 p) (ms_a3 N A T Rv t p d N) T Rv (ms_ac N A T Rv t p d) (fun _ _ => True) (ms_a4 N A00 A T Rv t p d N) :=
  ms_PC_k (ms_q_4 q hg N) fun r x vr _ => ⟨fun _ => (q.2.2.2.2.2.2.2.2.1 r vr).1, fun _ => trivial⟩
theorem ms_q_F (q : ms_Aq N lw rn A00 A T Rv t p d) : ms_FI N lw rn (ms_aF N A00 A T Rv t p d) ∧ ms_LI (ms_aF N A00 A T Rv t p d) := by
  unfold ms_aF
  by_cases hg : ms_G A00 p < 32
  · rw [ms_ic_t hg]
    have pc := ms_q_4' q hg
    have a3 := ms_q_3 q (Nat.le_refl _)
    refine ⟨ms_FI_sm (B := ms_a3 N A T Rv t p d N) a3.1.1 pc.2.1, ms_LI_5 q.2.1 a3.2 (by have := q.1; have := q.2.2.2.2.1; omega) rfl hg (fun r vr => (q.2.2.2.2.2.1 r vr).1) (ms_q_cf q) pc⟩
  · rw [ms_ic_f hg]
    exact ⟨q.2.2.2.1, q.2.2.1⟩
end
theorem ms_g4_32 {G0 : Nat → Nat} {gp : Nat} {T Rv : Nat → Prop} {cp : Nat → Nat → Nat} {r : Nat} {B : ms_AS} (h : G0 r = 32) : ∀ x, ms_fo (ms_g4 G0 gp T Rv cp r) B x = B
  | 0 => rfl
  | x + 1 => by
    show ms_g4 G0 gp T Rv cp r x (ms_fo (ms_g4 G0 gp T Rv cp r) B x) = B
    rw [ms_g4_32 h x]
    unfold ms_g4 ms_gs
    rw [if_pos h]
    by_cases z : T x
    · rw [ms_ic_t z]
    · rw [ms_ic_f z]
section
variable {N D S : Nat} {us fs rt sp pa pt g m ub lv rm w1 w2 w3 w4 w5 w6 w7 w8 w9 wa wb : Nat → Int32}
variable {A00 : ms_AS} {Rv : Nat → Prop}
/-- the first receiver of a group -/
theorem mx_fr (hN : N ≤ 32) (hRv : ∀ r, Rv r → r < N) (hL : ms_LI A00) (h2 : ∀ i, i < 32 → (¬ w2 i = 0 ↔ Rv i)) (h7 : ∀ i, i < 32 → w7 i = ms_c (ms_G A00 i)) {l : Nat} (hl : l ≤ 32) : ms_lo (fun c => ¬ w2 c = 0 ∧ w7 c = ms_c l) N = ms_fr (ms_G A00) Rv l := by
  unfold ms_fr
  rw [ms_lo_cut hN fun j a b q => by have := hRv j q.1; omega]
  refine ms_lo_congr hN fun c hc => ?_
  rw [h2 c (by omega), h7 c (by omega), ms_c_inj (hL.1 c (by omega)).1 hl]
theorem mx_nea (hN : N ≤ 32) (hRv : ∀ r, Rv r → r < N) (hU : ∀ i, i < 32 → ms_U A00 i → i < N) (hL : ms_LI A00) (h2 : ∀ i, i < 32 → (¬ w2 i = 0 ↔ Rv i)) (h7 : ∀ i, i < 32 → w7 i = ms_c (ms_G A00 i) ∧ w8 i = ms_c (ms_M A00 i)) {gp : Nat} (hg : gp < 32) {r : Nat} (r32 : r < 32) {post : Int32 → Prop} (hq : post (ms_c (ms_nn A00 gp Rv r))) : wpX_nearestMaster post (nI N, nI D, nI S, us, fs, rt, sp, pa, pt, g, m, ub, lv, rm, w1, w2, w3, w4, w5, w6, w7, w8, w9, wa, wb) (nI r) (ms_c gp) := by
  have key : ∀ k n l, k ≤ 32 → k < n → l ≤ 32 → post (ms_c (ms_nm A00 (ms_Hr A00 Rv) gp k l)) → wX_nearestMaster_10 post (ms_c gp) (nI N) (nI D) (nI S) us fs rt sp pa pt g m ub lv rm w1 w2 w3 w4 w5 w6 w7 w8 w9 wa wb n (ms_c l) (nI (32 - k)) := by
    intro k
    induction k with
    | zero =>
      intro n l _ hn hl hp
      cases n with
      | zero => omega
      | succ n => exact br_t (nI_le (b := 32) (Nat.le_refl _) (by omega)) hp
    | succ k ih =>
      intro n l hk hn hl hp
      cases n with
      | zero => omega
      | succ n =>
        have e0 : ms_nm A00 (ms_Hr A00 Rv) gp (k + 1) l = ms_ic (l < 32 ∧ l ≠ gp ∧ ¬ ms_Hr A00 Rv l) (ms_nm A00 (ms_Hr A00 Rv) gp k (ms_mo A00 l)) l := rfl
        rw [e0] at hp
        have stop : ¬ (l < 32 ∧ l ≠ gp ∧ ¬ ms_Hr A00 Rv l) → post (ms_c l) := fun no => by rw [ms_ic_f no] at hp; exact hp
        refine br_f (nI_ge (b := 32) (by omega) (by omega)) (br_c (fun z => stop fun q => ms_c_neg.mp z q.1) (fun z => ?_))
        have l32 : l < 32 := Classical.byContradiction fun q => z (ms_c_neg.mpr q)
        refine br_c (fun z2 => stop fun q => q.2.1 ((ms_c_inj hl (by omega)).mp z2)) (fun z2 => mx_frs hN ?_)
        rw [mx_fr hN hRv hL h2 (fun i hi => (h7 i hi).1) hl]
        have hH : ms_fr (ms_G A00) Rv l < 32 ↔ ms_Hr A00 Rv l := by
          constructor
          · intro q
            have a := ms_lo_P (P := fun c => Rv c ∧ ms_G A00 c = l) (Nat.le_refl 32) q
            exact ⟨_, q, a.1, a.2⟩
          · rintro ⟨c, hc, a, b⟩
            exact ms_lo_ex (Nat.le_refl _) hc ⟨a, b⟩
        refine br_c (fun z3 => mx_omg hN ?_) (fun z3 => stop fun q => z3 (ms_c_neg.mpr fun w => q.2.2 (hH.mp w)))
        have emo : (if ms_lo (fun c => w7 c = ms_c l) N < 32 then w8 (ms_lo (fun c => w7 c = ms_c l) N) else -1) = ms_c (ms_mo A00 l) := by
          have elo : ms_lo (fun c => w7 c = ms_c l) N = ms_lo (fun i => ms_G A00 i = l) 32 := by
            rw [ms_lo_cut (P := fun i => ms_G A00 i = l) hN fun j a b q => by
              have u : ms_U A00 j := Classical.byContradiction fun n => by have := (hL.2.1 j b n).1; omega
              have := hU j b u
              omega]
            refine ms_lo_congr hN fun c hc => ?_
            rw [(h7 c (by omega)).1, ms_c_inj (hL.1 c (by omega)).1 hl]
          rw [elo]
          unfold ms_mo
          by_cases q : ms_lo (fun i => ms_G A00 i = l) 32 < 32
          · rw [if_pos q, if_pos ⟨l32, q⟩, (h7 _ q).2]
          · rw [if_neg q, if_neg (fun w => q w.2), ms_c_32]
        rw [emo]
        rw [ms_ic_t ⟨l32, fun q => z2 (by rw [q]), fun q => (ms_c_neg.mp z3) (hH.mpr q)⟩] at hp
        refine nm_r (nI_1 _) ?_
        rw [show 32 - (k + 1) + 1 = 32 - k by omega]
        refine ih n _ (by omega) (by omega) ?_ hp
        unfold ms_mo
        by_cases q : l < 32 ∧ ms_lo (fun i => ms_G A00 i = l) 32 < 32
        · rw [if_pos q]; exact (hL.1 _ q.2).2
        · rw [if_neg q]; omega
  refine ⟨vp_in_nI r32 (by omega), ?_⟩
  rw [nI_clamp (by omega), (h7 r r32).2]
  exact nm_e ⟨33, key 32 33 _ (by omega) (by omega) (hL.1 r r32).2 hq⟩
variable {B A3 : ms_AS} {T : Nat → Prop} {cp : Nat → Nat → Nat} {gp : Nat}
theorem mx_gco (hN : N ≤ 32) (hRv : ∀ r, Rv r → r < N) (hL0 : ms_LI A00) (h2 : ∀ i, i < 32 → (¬ w2 i = 0 ↔ Rv i)) (h7 : ∀ i, i < 32 → w7 i = ms_c (ms_G A00 i)) (hg : gp < 32) (h5 : ∀ i, i < 32 → (¬ w5 i = 0 ↔ T i)) (hwb : ∀ r x, Rv r → T x → wb (r * 32 + x) = nI (cp r x)) (cf : ms_CF A3 T Rv cp) (hU3 : ∀ i, i < 32 → ms_U A3 i → i < N) {r : Nat} (vr : Rv r)
    (pc : ms_PC (ms_G A00) gp A3 T Rv cp (fun r' _ => r' < r) B) (h : ms_CR ms_c B us fs rt sp pa pt g m ub) {post : SX → Prop}
    (hq : ∀ g' m', ms_CR ms_c (ms_fo (ms_g4 (ms_G A00) gp T Rv cp r) B N) us fs rt sp pa pt g' m' ub → post (nI N, nI D, nI S, us, fs, rt, sp, pa, pt, g', m', ub, lv, rm, w1, w2, w3, w4, w5, w6, w7, w8, w9, wa, wb)) : wpX_groupCopies post (nI N, nI D, nI S, us, fs, rt, sp, pa, pt, g, m, ub, lv, rm, w1, w2, w3, w4, w5, w6, w7, w8, w9, wa, wb) (nI r) (ms_c gp) := by
  have r32 : r < 32 := by have := hRv r vr; omega
  refine ⟨vp_in_nI r32 (by omega), ?_⟩
  rw [nI_clamp (by omega), h7 r r32]
  have g0le := (hL0.1 r r32).1
  refine nm_e ?_
  by_cases h32 : ms_G A00 r < 32
  · refine br_t (ms_c_le.mpr h32) (mx_frs hN ?_)
    rw [mx_fr hN hRv hL0 h2 h7 g0le]
    obtain ⟨f1, f2, f3, f4⟩ := ms_fr_ok (G0 := ms_G A00) r32 vr
    refine ms_lp (fun n i (z : (Nat → Int32) × (Nat → Int32)) => wX_groupCopies_22 post (nI r) (ms_c gp) (ms_c (ms_G A00 r)) (ms_c (ms_fr (ms_G A00) Rv (ms_G A00 r))) (nI N) (nI D) (nI S) n i us fs rt sp pa pt z.1 z.2 ub lv rm w1 w2 w3 w4 w5 w6 w7 w8 w9 wa wb) (fun k z => ms_CR ms_c (ms_fo (ms_g4 (ms_G A00) gp T Rv cp r) B k) us fs rt sp pa pt z.1 z.2 ub) N hN (g, m) h (fun n z hI => br_t (nI_le (Nat.le_refl _) (by omega)) (hq _ _ hI)) (fun n x z hi ci vi ni hI go => ?_)
    obtain ⟨g', m'⟩ := z
    dsimp only at hI ⊢
    have x32 : x < 32 := by omega
    have pcx := ms_g4_i hN hg cf vr pc x (by omega)
    have es : ms_fo (ms_g4 (ms_G A00) gp T Rv cp r) B (x + 1) = ms_g4 (ms_G A00) gp T Rv cp r x (ms_fo (ms_g4 (ms_G A00) gp T Rv cp r) B x) := rfl
    rw [es] at go
    generalize ms_fo (ms_g4 (ms_G A00) gp T Rv cp r) B x = B1 at hI pcx go
    have hL1 := pcx.1
    have hU1 : ∀ i, i < 32 → ms_U B1 i → i < N := fun i hi u => hU3 i hi (by rw [← pcx.2.1.1]; exact u)
    refine br_f ni ⟨vi, ?_⟩
    rw [ci]
    refine br_c (fun z => go (g', m') ?_) (fun z => ?_)
    · have : ms_g4 (ms_G A00) gp T Rv cp r x B1 = B1 := ms_ic_f fun q => (h5 x x32).mpr q z
      rw [this]; exact hI
    · have tx := (h5 x x32).mp z
      obtain ⟨v1, c1⟩ := ms_rv' r32 x32
      have y32 := (cf.1 r x vr tx).2.2.1
      have vy : vp_in (nI (cp r x)) 32 := vp_in_nI y32 (by omega)
      have cy : (nI (cp r x)).toNatClampNeg = cp r x := nI_clamp (by omega)
      have e1 : ms_g4 (ms_G A00) gp T Rv cp r x B1 = ms_gs (ms_G A00) gp Rv cp r x B1 := ms_ic_t tx
      rw [e1] at go
      unfold ms_gs at go
      rw [if_neg (show ¬ ms_G A00 r = 32 by omega)] at go
      refine ⟨v1, ?_⟩
      rw [c1, hwb r x vr tx]
      refine nm_e (br_c (fun z2 => ⟨vi, vy, ?_⟩) (fun z2 => ?_))
      · have eg := (ms_c_inj g0le (by omega)).mp z2
        rw [if_pos eg] at go
        rw [cy, ms_CR_g hI x32]
        refine nm_e ⟨vi, vy, ?_⟩
        rw [ms_CR_m hI x32]
        exact nm_e (go (_, _) (ms_CR_sM (ms_CR_sG hI (cp r x) (ms_G B1 x)) (cp r x) (ms_M B1 x)))
      · have eg : ¬ ms_G A00 r = gp := fun q => z2 (by rw [q])
        rw [if_neg eg] at go
        refine br_c (fun z3 => ?_) (fun z3 => ?_)
        · have ef := (ms_c_eq r32).mp z3
          rw [if_pos ef] at go
          refine mx_nwg hN ⟨vy, ?_⟩
          rw [cy, mx_nl hI hL1 hU1 hN]
          exact nm_e (go (_, _) (ms_CR_sG hI (cp r x) (ms_nl B1)))
        · have ef : ¬ ms_fr (ms_G A00) Rv (ms_G A00 r) = r := fun q => z3 ((ms_c_eq r32).mpr q)
          rw [if_neg ef] at go
          have z32 := (cf.1 _ x f2 tx).2.2.1
          obtain ⟨v2, c2⟩ := ms_rv' f1 x32
          rw [← ms_c_lt f1] at v2 c2
          refine br_t (ms_c_le.mpr f1) ⟨v2, ?_⟩
          rw [c2, hwb _ x f2 tx]
          refine ⟨vp_in_nI z32 (by omega), vy, ?_⟩
          rw [cy, nI_clamp (by omega), ms_CR_g hI z32]
          exact nm_e (go (_, _) (ms_CR_sG hI (cp r x) (ms_G B1 (cp (ms_fr (ms_G A00) Rv (ms_G A00 r)) x))))
  · have e32 : ms_G A00 r = 32 := by omega
    rw [ms_g4_32 e32] at hq
    exact br_f (fun q => h32 (ms_c_le.mp q)) (hq _ _ h)
end
end
section
/-! attach: the masters of the copies (the component), and the whole of it -/
noncomputable def ms_Mk (A00 : ms_AS) (gp : Nat) (T Rv : Nat → Prop) (cp : Nat → Nat → Nat) (A : ms_AS) (r x i : Nat) : Nat :=
  ms_ic (ms_Cy T Rv cp i ∧ ms_G A00 (ms_ir T Rv cp i) ≠ gp ∧ (ms_ir T Rv cp i < r ∨ (ms_ir T Rv cp i = r ∧ ms_iy T Rv cp i < x))) (ms_tg A00 gp Rv cp A (ms_ir T Rv cp i) (ms_iy T Rv cp i)) (ms_M A i)
section
variable {A00 : ms_AS} {gp : Nat} {T Rv : Nat → Prop} {cp : Nat → Nat → Nat} {A A3 : ms_AS} {N : Nat}
theorem ms_Mk_c {r x r' x' i : Nat} (h : ms_Cy T Rv cp i → ms_G A00 (ms_ir T Rv cp i) ≠ gp → ((ms_ir T Rv cp i < r ∨ (ms_ir T Rv cp i = r ∧ ms_iy T Rv cp i < x)) ↔ (ms_ir T Rv cp i < r' ∨ (ms_ir T Rv cp i = r' ∧ ms_iy T Rv cp i < x')))) : ms_Mk A00 gp T Rv cp A r x i = ms_Mk A00 gp T Rv cp A r' x' i :=
  ms_ic_c ⟨fun q => ⟨q.1, q.2.1, (h q.1 q.2.1).mp q.2.2⟩, fun q => ⟨q.1, q.2.1, (h q.1 q.2.1).mpr q.2.2⟩⟩
theorem ms_Mk_0 (i : Nat) : ms_Mk A00 gp T Rv cp A 0 0 i = ms_M A i := ms_ic_f fun q => q.2.2.elim (fun q => Nat.not_lt_zero _ q) fun q => Nat.not_lt_zero _ q.2
theorem ms_Mk_p (cf : ms_CF A3 T Rv cp) {i : Nat} (c : ms_Cy T Rv cp i) : Rv (ms_ir T Rv cp i) ∧ T (ms_iy T Rv cp i) ∧ i = cp (ms_ir T Rv cp i) (ms_iy T Rv cp i) := by
  obtain ⟨r, x, vr, tx, e⟩ := c
  rw [e, ms_ir_is cf vr tx, ms_iy_is cf vr tx]
  exact ⟨vr, tx, rfl⟩
theorem ms_Mk_r (cf : ms_CF A3 T Rv cp) (hT : ∀ x, T x → x < N) (r i : Nat) : ms_Mk A00 gp T Rv cp A (r + 1) 0 i = ms_Mk A00 gp T Rv cp A r N i := ms_Mk_c fun c _ => by
  have := hT _ (ms_Mk_p cf c).2.1
  omega
theorem ms_Mk_sr (cf : ms_CF A3 T Rv cp) {r : Nat} (no : ¬ (Rv r ∧ ms_G A00 r ≠ gp)) (i : Nat) : ms_Mk A00 gp T Rv cp A (r + 1) 0 i = ms_Mk A00 gp T Rv cp A r 0 i := ms_Mk_c fun c g => by
  have : ms_ir T Rv cp i ≠ r := fun q => no ⟨q ▸ (ms_Mk_p cf c).1, q ▸ g⟩
  omega
theorem ms_Mk_nx (cf : ms_CF A3 T Rv cp) {r x : Nat} (no : ¬ T x) (i : Nat) : ms_Mk A00 gp T Rv cp A r (x + 1) i = ms_Mk A00 gp T Rv cp A r x i := ms_Mk_c fun c _ => by
  have : ms_iy T Rv cp i ≠ x := fun q => no (q ▸ (ms_Mk_p cf c).2.1)
  omega
theorem ms_Mk_o (cf : ms_CF A3 T Rv cp) {r x i : Nat} (ne : i ≠ cp r x) : ms_Mk A00 gp T Rv cp A r (x + 1) i = ms_Mk A00 gp T Rv cp A r x i := ms_Mk_c fun c _ => by
  have : ¬ (ms_ir T Rv cp i = r ∧ ms_iy T Rv cp i = x) := fun q => ne (by rw [← q.1, ← q.2]; exact (ms_Mk_p cf c).2.2)
  omega
theorem ms_Mk_s (cf : ms_CF A3 T Rv cp) {r x : Nat} (vr : Rv r) (tx : T x) (g : ms_G A00 r ≠ gp) : ms_Mk A00 gp T Rv cp A r (x + 1) (cp r x) = ms_tg A00 gp Rv cp A r x := by
  unfold ms_Mk
  rw [ms_ir_is cf vr tx, ms_iy_is cf vr tx, ms_ic_t ⟨⟨r, x, vr, tx, rfl⟩, g, Or.inr ⟨rfl, by omega⟩⟩]
theorem ms_Mk_e (cf : ms_CF A3 T Rv cp) (hv : ∀ r, Rv r → r < N) (i : Nat) : ms_Mk A00 gp T Rv cp A N 0 i = ms_M5 A00 gp T Rv cp A i :=
  ms_ic_c ⟨fun q => ⟨q.1, q.2.1⟩, fun q => ⟨q.1, q.2, Or.inl (hv _ (ms_Mk_p cf q.1).1)⟩⟩
end
section
variable {N D S : Nat} {us fs rt sp pa pt g m ub lv rm w1 w2 w3 w4 w5 w6 w7 w8 w9 wa wb : Nat → Int32}
variable {A00 A A3 : ms_AS} {Rv T : Nat → Prop} {cp : Nat → Nat → Nat} {gp : Nat}
theorem mx_ens (hN : N ≤ 32) (hRv : ∀ r, Rv r → r < N) (hU : ∀ i, i < 32 → ms_U A00 i → i < N) (hL : ms_LI A00) (h2 : ∀ i, i < 32 → (¬ w2 i = 0 ↔ Rv i)) (h7 : ∀ i, i < 32 → w7 i = ms_c (ms_G A00 i) ∧ w8 i = ms_c (ms_M A00 i)) (hg : gp < 32) (h5 : ∀ i, i < 32 → (¬ w5 i = 0 ↔ T i)) (hT : ∀ x, T x → x < N) (hwb : ∀ r x, Rv r → T x → wb (r * 32 + x) = nI (cp r x)) (cf : ms_CF A3 T Rv cp) (hgA : ∀ i, i < 32 → g i = ms_c (ms_G A i)) {r : Nat} (vr : Rv r) (ne : ms_G A00 r ≠ gp)
    (near : ms_nn A00 gp Rv r = gp ∨ (ms_nn A00 gp Rv r < 32 ∧ ms_nn A00 gp Rv r ≠ gp ∧ ms_Hr A00 Rv (ms_nn A00 gp Rv r))) (hm : ∀ i, i < 32 → m i = ms_c (ms_Mk A00 gp T Rv cp A r 0 i)) {post : SX → Prop}
    (hq : ∀ m', (∀ i, i < 32 → m' i = ms_c (ms_Mk A00 gp T Rv cp A (r + 1) 0 i)) → post (nI N, nI D, nI S, us, fs, rt, sp, pa, pt, g, m', ub, lv, rm, w1, w2, w3, w4, w5, w6, w7, w8, w9, wa, wb)) : wpX_enslaveCopies post (nI N, nI D, nI S, us, fs, rt, sp, pa, pt, g, m, ub, lv, rm, w1, w2, w3, w4, w5, w6, w7, w8, w9, wa, wb) (nI r) (ms_c gp) := by
  have r32 : r < 32 := by have := hRv r vr; omega
  have nle : ms_nn A00 gp Rv r ≤ 32 := by rcases near with q | q <;> omega
  unfold wpX_enslaveCopies
  refine mx_nea hN hRv hU hL h2 h7 hg r32 (mx_frs hN ?_)
  rw [mx_fr hN hRv hL h2 (fun i hi => (h7 i hi).1) nle]
  refine ms_lp (fun n i (z : Nat → Int32) => wX_enslaveCopies_17 post (nI r) (ms_c gp) (ms_c (ms_nn A00 gp Rv r)) (ms_c (ms_fr (ms_G A00) Rv (ms_nn A00 gp Rv r))) (nI N) (nI D) (nI S) n i us fs rt sp pa pt g z ub lv rm w1 w2 w3 w4 w5 w6 w7 w8 w9 wa wb) (fun k z => ∀ i, i < 32 → z i = ms_c (ms_Mk A00 gp T Rv cp A r k i)) N hN m hm (fun n z hI => br_t (nI_le (Nat.le_refl _) (by omega)) (hq z fun i hi => by rw [ms_Mk_r cf hT]; exact hI i hi)) (fun n x z hi ci vi ni hI go => ?_)
  have x32 : x < 32 := by omega
  refine br_f ni ⟨vi, ?_⟩
  rw [ci]
  refine br_c (fun q => go z fun i hi => by rw [ms_Mk_nx cf (fun k => (h5 x x32).mpr k q)]; exact hI i hi) (fun q => ?_)
  have tx := (h5 x x32).mp q
  obtain ⟨v1, c1⟩ := ms_rv' r32 x32
  have y32 := (cf.1 r x vr tx).2.2.1
  have vy : vp_in (nI (cp r x)) 32 := vp_in_nI y32 (by omega)
  have cy : (nI (cp r x)).toNatClampNeg = cp r x := nI_clamp (by omega)
  have fin : ∀ z', z' = upd z (cp r x) (ms_c (ms_tg A00 gp Rv cp A r x)) → ∀ y, y = nI x + 1 → wX_enslaveCopies_17 post (nI r) (ms_c gp) (ms_c (ms_nn A00 gp Rv r)) (ms_c (ms_fr (ms_G A00) Rv (ms_nn A00 gp Rv r))) (nI N) (nI D) (nI S) n y us fs rt sp pa pt g z' ub lv rm w1 w2 w3 w4 w5 w6 w7 w8 w9 wa wb := fun z' ez => go z' fun i hi => by
    rw [ez]
    by_cases w : i = cp r x
    · rw [w, ms_us, ms_Mk_s cf vr tx ne]
    · rw [ms_un' w, ms_Mk_o cf w]; exact hI i hi
  refine ⟨v1, ?_⟩
  rw [c1, hwb r x vr tx]
  refine nm_e (br_c (fun z2 => ?_) (fun z2 => ?_))
  · have en := (ms_c_inj nle (by omega)).mp z2
    have et : ms_tg A00 gp Rv cp A r x = ms_G A x := if_pos en
    rw [et, ← hgA x x32] at fin
    refine ⟨vi, vy, ?_⟩
    rw [ci, cy]
    exact fin
  · have en : ¬ ms_nn A00 gp Rv r = gp := fun w => z2 (by rw [w])
    obtain ⟨e1, e2, e3⟩ := near.elim (fun w => absurd w en) id
    obtain ⟨f1, f2, f3⟩ := ms_fr_H e3
    have et : ms_tg A00 gp Rv cp A r x = ms_G A (cp (ms_fr (ms_G A00) Rv (ms_nn A00 gp Rv r)) x) := if_neg en
    have z32 := (cf.1 _ x f2 tx).2.2.1
    rw [et, ← hgA _ z32] at fin
    obtain ⟨v2, c2⟩ := ms_rv' f1 x32
    rw [← ms_c_lt f1] at v2 c2
    refine br_t (ms_c_le.mpr f1) ⟨v2, ?_⟩
    rw [c2, hwb _ x f2 tx]
    refine ⟨vp_in_nI z32 (by omega), vy, ?_⟩
    rw [cy, nI_clamp (by omega)]
    exact fin
variable {lw : Nat → Prop} {rn : Nat → Nat} {t p d : Nat}
theorem mx_attach (q : ms_Aq N lw rn A00 A T Rv t p d) (hU0 : ∀ i, i < 32 → ms_U A00 i → i < N) (h : ms_CR ms_c A us fs rt sp pa pt g m ub) (h5 : ∀ i, i < 32 → (¬ w5 i = 0 ↔ T i)) (h2 : ∀ i, i < 32 → ((¬ w2 i = 0 ∧ i ≠ p) ↔ Rv i)) (h7 : ∀ i, i < 32 → w7 i = ms_c (ms_G A00 i) ∧ w8 i = ms_c (ms_M A00 i)) (hd : d < 15) {post : SX → Prop}
    (hq : ∀ us' fs' rt' sp' pa' pt' g' m' ub' w2' w9' wa' wb', ms_CR ms_c (ms_aF N A00 A T Rv t p d) us' fs' rt' sp' pa' pt' g' m' ub' → post (nI N, nI D, nI S, us', fs', rt', sp', pa', pt', g', m', ub', lv, rm, w1, w2', w3, w4, w5, w6, w7, w8, w9', wa', wb')) : wpX_attach post (nI N, nI D, nI S, us, fs, rt, sp, pa, pt, g, m, ub, lv, rm, w1, w2, w3, w4, w5, w6, w7, w8, w9, wa, wb) (nI t) (nI p) (nI d) := by
  have hN := q.1
  have p32 : p < 32 := by have := q.2.2.2.2.1; omega
  have hTN := ms_q_TN q
  have hTU := q.2.2.2.2.2.2.1
  have tt := q.2.2.2.2.2.2.2.1.1
  have t32 := (hTU t tt).1
  have hRvN : ∀ r, Rv r → r < N := fun r vr => (q.2.2.2.2.2.2.2.2.1 r vr).1
  have vt : vp_in (nI t) 32 := vp_in_nI t32 (by omega)
  have ct : (nI t).toNatClampNeg = t := nI_clamp (by omega)
  have vp : vp_in (nI p) 32 := vp_in_nI p32 (by omega)
  have cp' : (nI p).toNatClampNeg = p := nI_clamp (by omega)
  have h1 := ms_CR_lk h t p d
  rw [ms_c_lt p32, ms_c_lt (n := d) (by omega)] at h1
  refine ms_lp (fun n i (z : (Nat → Int32) × (Nat → Int32)) => wX_attach_3 post (nI t) (nI p) (nI d) (nI N) (nI D) (nI S) n i us fs rt sp pa pt g m ub lv rm w1 w2 w3 w4 w5 w6 w7 w8 z.1 z.2 wb) (fun i z => ∀ j, j < i → z.1 j = pa j ∧ z.2 j = pt j) 32 (Nat.le_refl _) (w9, wa) lt_0 (fun n z hI => ?_) (fun n i z hi ci vi ni hI go => ?_)
  · obtain ⟨w9', wa'⟩ := z
    dsimp only at hI ⊢
    have h9 : ∀ x, T x → x ≠ t → w9' x = ms_c (ms_P A x) ∧ wa' x = ms_c (ms_Q A x) := fun x tx _ => by
      obtain ⟨x32, ux⟩ := hTU x tx
      rw [(hI x x32).1, (hI x x32).2, ms_CR_p h x32 ux, ms_CR_q h x32 ux]
      exact ⟨rfl, rfl⟩
    refine br_t (nI_le (b := 32) (Nat.le_refl _) (by omega)) ⟨vt, ?_⟩
    rw [ct]
    refine nm_e ⟨vt, nm_e ⟨vp, ?_⟩⟩
    rw [cp', (h7 p p32).1]
    by_cases hg : ms_G A00 p < 32
    · have eF : ms_aF N A00 A T Rv t p d = ms_a5 N A00 A T Rv t p d := ms_ic_t hg
      rw [eF] at hq
      have hw2 : ∀ i, i < 32 → (¬ upd w2 p (vp_nar .boolean 0) i = 0 ↔ Rv i) := fun i hi => ms_wz.trans (h2 i hi)
      obtain ⟨l2, s2, f2, g2⟩ := ms_q_2 q
      refine br_t (ms_c_le.mpr hg) ⟨vp, nm_e ?_⟩
      generalize upd w2 p (vp_nar .boolean 0) = w2' at *
      -- groups for the set
      refine ms_lp (fun n i (z : Nat → Int32) => wX_attach_78 post (nI t) (nI p) (nI d) (nI N) (nI D) (nI S) n i us fs rt sp (upd pa t (nI p)) (upd pt t (nI d)) z m ub lv rm w1 w2' w3 w4 w5 w6 w7 w8 w9' wa' wb) (fun k z => ms_CR ms_c (ms_fo (ms_f2 T) (ms_lk A t p d) k) us fs rt sp (upd pa t (nI p)) (upd pt t (nI d)) z m ub) N hN g h1 (fun n g' hA => ?_) (fun n x g' hi ci vi ni hA go => ?_)
      · -- the copies
        refine br_t (nI_le (Nat.le_refl _) (by omega)) ?_
        refine ms_lp (fun n i (z : (Nat → Int32) × (Nat → Int32) × (Nat → Int32) × (Nat → Int32) × (Nat → Int32) × (Nat → Int32) × (Nat → Int32) × (Nat → Int32) × (Nat → Int32) × (Nat → Int32)) => wX_attach_127 post (nI t) (nI p) (nI d) n i (nI N) (nI D) (nI S) z.1 z.2.1 z.2.2.1 z.2.2.2.1 z.2.2.2.2.1 z.2.2.2.2.2.1 z.2.2.2.2.2.2.1 z.2.2.2.2.2.2.2.1 z.2.2.2.2.2.2.2.2.1 lv rm w1 w2' w3 w4 w5 w6 w7 w8 w9' wa' z.2.2.2.2.2.2.2.2.2) (fun k z => ms_CR ms_c (ms_a3 N A T Rv t p d k) z.1 z.2.1 z.2.2.1 z.2.2.2.1 z.2.2.2.2.1 z.2.2.2.2.2.1 z.2.2.2.2.2.2.1 z.2.2.2.2.2.2.2.1 z.2.2.2.2.2.2.2.2.1 ∧ ∀ r x, r < k → Rv r → T x → z.2.2.2.2.2.2.2.2.2 (r * 32 + x) = nI (ms_ac N A T Rv t p d r x)) N hN (us, fs, rt, sp, upd pa t (nI p), upd pt t (nI d), g', m, ub, wb) ⟨hA, fun r x h => absurd h (Nat.not_lt_zero _)⟩ (fun n z hB => ?_) (fun n r z hi ci vi ni hB go => ?_)
        · obtain ⟨us3, fs3, rt3, sp3, pa3, pt3, g3, m3, ub3, wb3⟩ := z
          obtain ⟨hB, hW⟩ := hB
          dsimp only at hB hW ⊢
          have hW' : ∀ r x, Rv r → T x → wb3 (r * 32 + x) = nI (ms_ac N A T Rv t p d r x) := fun r x vr tx => hW r x (hRvN r vr) vr tx
          have cf := ms_q_cf q
          have a3 := ms_q_3 q (Nat.le_refl _)
          -- their groups
          refine br_t (nI_le (Nat.le_refl _) (by omega)) ?_
          refine ms_lp (fun n i (z : (Nat → Int32) × (Nat → Int32)) => wX_attach_163 post (nI p) n i (nI N) (nI D) (nI S) us3 fs3 rt3 sp3 pa3 pt3 z.1 z.2 ub3 lv rm w1 w2' w3 w4 w5 w6 w7 w8 w9' wa' wb3) (fun k z => ms_CR ms_c (ms_a4 N A00 A T Rv t p d k) us3 fs3 rt3 sp3 pa3 pt3 z.1 z.2 ub3) N hN (g3, m3) hB (fun n z hC => ?_) (fun n r z hi ci vi ni hC go => ?_)
          · obtain ⟨g4, m4⟩ := z
            dsimp only at hC ⊢
            have pc := ms_q_4' q hg
            -- their masters
            refine br_t (nI_le (Nat.le_refl _) (by omega)) ?_
            refine ms_lp (fun n i (z : Nat → Int32) => wX_attach_203 post (nI p) n i (nI N) (nI D) (nI S) us3 fs3 rt3 sp3 pa3 pt3 g4 z ub3 lv rm w1 w2' w3 w4 w5 w6 w7 w8 w9' wa' wb3) (fun k z => ∀ i, i < 32 → z i = ms_c (ms_Mk A00 (ms_G A00 p) T Rv (ms_ac N A T Rv t p d) (ms_a4 N A00 A T Rv t p d N) k 0 i)) N hN m4 (fun i hi => by rw [ms_Mk_0]; exact ms_CR_m hC hi) (fun n z hD => ?_) (fun n r z hi ci vi ni hD go => ?_)
            · exact br_t (nI_le (Nat.le_refl _) (by omega)) (hq _ _ _ _ _ _ _ _ _ _ _ _ _ (ms_CR_wM hC fun i hi => by rw [hD i hi, ms_Mk_e cf hRvN]))
            · have r32 : r < 32 := by omega
              refine br_f ni ⟨vi, ?_⟩
              rw [ci]
              refine br_c (fun w => go z fun i hi => by rw [ms_Mk_sr cf (fun k => (hw2 r r32).mpr k.1 w)]; exact hD i hi) (fun w => ⟨vi, vp, ?_⟩)
              have vr := (hw2 r r32).mp w
              rw [cp', (h7 r r32).1, (h7 p p32).1]
              refine br_c (fun w2 => go z fun i hi => ?_) (fun w2 => ⟨vp, ?_⟩)
              · have eg := (ms_c_inj (q.2.1.1 r r32).1 (q.2.1.1 p p32).1).mp w2
                rw [ms_Mk_sr cf (fun k => k.2 eg)]; exact hD i hi
              · have eg : ms_G A00 r ≠ ms_G A00 p := fun k => w2 (by rw [k])
                refine mx_ens hN hRvN hU0 q.2.1 hw2 h7 hg h5 hTN hW' cf (fun i hi => ms_CR_g hC hi) vr eg (ms_nn_ok q.2.1 p32 rfl hg (q.2.2.2.2.2.1 r vr).1 eg) hD fun m' hm' => go m' hm'
          · obtain ⟨g4, m4⟩ := z
            dsimp only at hC ⊢
            have r32 : r < 32 := by omega
            have es : ms_a4 N A00 A T Rv t p d (r + 1) = ms_f4 N (ms_G A00) (ms_G A00 p) T Rv (ms_ac N A T Rv t p d) r (ms_a4 N A00 A T Rv t p d r) := rfl
            have pc := ms_q_4 q hg r
            rw [es] at go
            generalize ms_a4 N A00 A T Rv t p d r = B4 at hC go pc
            refine br_f ni ⟨vi, ?_⟩
            rw [ci]
            refine br_c (fun w => go (g4, m4) ?_) (fun w => ⟨vp, ?_⟩)
            · have : ms_f4 N (ms_G A00) (ms_G A00 p) T Rv (ms_ac N A T Rv t p d) r B4 = B4 := ms_ic_f fun k => (hw2 r r32).mpr k w
              rw [this]; exact hC
            · have vr := (hw2 r r32).mp w
              rw [cp', (h7 p p32).1]
              have : ms_f4 N (ms_G A00) (ms_G A00 p) T Rv (ms_ac N A T Rv t p d) r B4 = ms_fo (ms_g4 (ms_G A00) (ms_G A00 p) T Rv (ms_ac N A T Rv t p d) r) B4 N := ms_ic_t vr
              rw [this] at go
              exact mx_gco hN hRvN q.2.1 hw2 (fun i hi => (h7 i hi).1) hg h5 hW' cf (fun i hi u => (a3.1.1.1 i hi u).1) vr pc hC fun g' m' h' => go (g', m') h'
        · obtain ⟨us3, fs3, rt3, sp3, pa3, pt3, g3, m3, ub3, wb3⟩ := z
          obtain ⟨hB, hW⟩ := hB
          dsimp only at hB hW ⊢
          have r32 : r < 32 := by omega
          have es : ms_a3 N A T Rv t p d (r + 1) = ms_f3 N T Rv t d (ms_P A) (ms_Q A) r (ms_a3 N A T Rv t p d r) := rfl
          have ecp : ∀ x, ms_ac N A T Rv t p d r x = ms_yn N (ms_U (ms_a3 N A T Rv t p d r)) T x := fun x => rfl
          obtain ⟨ai, li⟩ := ms_q_3 q (k := r) (by omega)
          rw [es] at go
          refine br_f ni ⟨vi, ?_⟩
          rw [ci]
          refine br_c (fun w => go (us3, fs3, rt3, sp3, pa3, pt3, g3, m3, ub3, wb3) ⟨?_, fun r' x hr' vr' tx => ?_⟩) (fun w => ?_)
          · rw [ms_f3_f fun k => (hw2 r r32).mpr k w]; exact hB
          · have : r' ≠ r := fun k => (hw2 r r32).mpr (k ▸ vr') w
            exact hW r' x (by omega) vr' tx
          · have vr := (hw2 r r32).mp w
            have room := ms_AI_room hN g2 ai hi vr
            have tr := ms_AI_Tr g2 ai
            have hTB : ∀ x, T x → x < N ∧ ms_U (ms_a3 N A T Rv t p d r) x := fun x tx => ⟨hTN x tx, (ai.2.2.2.1 x (hTU x tx).1 (g2.1 x tx).2).1⟩
            have urB : ms_U (ms_a3 N A T Rv t p d r) r := (ai.2.2.2.1 r r32 (g2.2.2.1 r vr).2.1).1
            rw [ms_f3_t vr] at go
            generalize ms_a3 N A T Rv t p d r = B3 at hB go ai li room tr hTB urB ecp
            refine mx_csf hN hB ai.1 li hTB tr (by omega) urB room (by omega) h5 h9 fun us4 fs4 rt4 sp4 pa4 pt4 g4 m4 ub4 wb4 h4 hn ho => go (us4, fs4, rt4, sp4, pa4, pt4, g4, m4, ub4, wb4) ⟨h4, fun r' x hr' vr' tx => ?_⟩
            by_cases k : r' = r
            · subst k; rw [ecp]; exact hn x tx
            · have := hTN x tx
              dsimp only
              rw [ho _ (fun x' hx' => by omega)]
              exact hW r' x (by omega) vr' tx
      · have x32 : x < 32 := by omega
        have es : ms_fo (ms_f2 T) (ms_lk A t p d) (x + 1) = ms_f2 T x (ms_fo (ms_f2 T) (ms_lk A t p d) x) := rfl
        obtain ⟨a1, a2, _⟩ := ms_2_i (A1 := ms_lk A t p d) (T := T) q.2.2.1 (fun x tx => hTU x tx) x
        have hU1 : ∀ i, i < 32 → ms_U (ms_fo (ms_f2 T) (ms_lk A t p d) x) i → i < N := fun i hi u => (q.2.2.2.1.1 i hi (by rw [← a2.1]; exact u)).1
        rw [es] at go
        generalize ms_fo (ms_f2 T) (ms_lk A t p d) x = B2 at hA go a1 a2 hU1
        refine br_f ni ⟨vi, ?_⟩
        rw [ci]
        refine br_c (fun w => go g' ?_) (fun w => ⟨vi, br_c (fun w2 => go g' ?_) (fun w2 => mx_nwg hN ⟨vi, ?_⟩)⟩)
        · rw [ms_f2_f fun k => (h5 x x32).mpr k.1 w]; exact hA
        · rw [ms_f2_f fun k => k.2 ((ms_CR_gp hA x32).mp w2)]; exact hA
        · rw [ms_f2_t ⟨(h5 x x32).mp w, fun k => w2 ((ms_CR_gp hA x32).mpr k)⟩] at go
          rw [mx_nl hA a1 hU1 hN]
          exact nm_e (go _ (ms_CR_sG hA x (ms_nl B2)))
    · have eF : ms_aF N A00 A T Rv t p d = ms_lk A t p d := ms_ic_f hg
      rw [eF] at hq
      exact br_f (fun k => hg (ms_c_le.mp k)) (hq _ _ _ _ _ _ _ _ _ _ _ _ _ h1)
  · refine br_f ni ⟨vi, vi, ?_⟩
    rw [ci]
    refine nm_e ⟨vi, vi, nm_e (go (upd z.1 i (pa i), upd z.2 i (pt i)) (lt_s (fun j hj => ?_) ?_))⟩
    · dsimp only; rw [ms_un' (by omega), ms_un' (by omega)]; exact hI j hj
    · dsimp only; rw [ms_us, ms_us]; exact ⟨rfl, rfl⟩
end
end
section
/-! one receiver's copies: the reference -/
noncomputable def ms_l2 (A : ms_AS) (ix y : Nat → Nat) (t r d : Nat) (pa0 pt0 : Nat → Nat) (c : Nat → Prop) : ms_AS :=
  (ms_U A, ms_F A, ms_R A, ms_S A, fun i => ms_ic (c i ∧ ix i < 32) (if ix i = t then r else y (pa0 (ix i))) (ms_P A i), fun i => ms_ic (c i ∧ ix i < 32) (if ix i = t then d else pt0 (ix i)) (ms_Q A i), ms_G A, ms_M A, ms_B A)
section
variable {e : Nat → Int32} {A : ms_AS} {ix y : Nat → Nat} {us fs rt sp pa pt g m ub : Nat → Int32} {t r d : Nat} {pa0 pt0 : Nat → Nat} {c c' : Nat → Prop}
theorem ms_l2_0 (h : ms_CR e A us fs rt sp pa pt g m ub) (hc : ∀ i, ¬ c i) : ms_CR e (ms_l2 A ix y t r d pa0 pt0 c) us fs rt sp pa pt g m ub := by
  refine ms_CR_ext h fun i hi => ?_
  simp only [ms_l2, ms_U_mk, ms_F_mk, ms_R_mk, ms_S_mk, ms_P_mk, ms_Q_mk, ms_G_mk, ms_M_mk, ms_B_mk]
  rw [ms_ic_f (fun q => hc i q.1), ms_ic_f (fun q => hc i q.1)]
  refine ⟨?_, ?_, ?_, ?_, fun _ => ⟨?_, ?_⟩, ?_, ?_, ?_⟩ <;> first | trivial | rfl | exact Iff.rfl
theorem ms_l2_k (h : ms_CR e (ms_l2 A ix y t r d pa0 pt0 c) us fs rt sp pa pt g m ub) (hc : ∀ i, i < 32 → ix i < 32 → (c' i ↔ c i)) : ms_CR e (ms_l2 A ix y t r d pa0 pt0 c') us fs rt sp pa pt g m ub := by
  refine ms_CR_ext h fun i hi => ?_
  simp only [ms_l2, ms_U_mk, ms_F_mk, ms_R_mk, ms_S_mk, ms_P_mk, ms_Q_mk, ms_G_mk, ms_M_mk, ms_B_mk]
  have q : (c i ∧ ix i < 32) ↔ (c' i ∧ ix i < 32) := ⟨fun z => ⟨(hc i hi z.2).mpr z.1, z.2⟩, fun z => ⟨(hc i hi z.2).mp z.1, z.2⟩⟩
  rw [ms_ic_c q, ms_ic_c q]
  refine ⟨?_, ?_, ?_, ?_, fun _ => ⟨?_, ?_⟩, ?_, ?_, ?_⟩ <;> first | trivial | rfl | exact Iff.rfl
theorem ms_l2_s {j : Nat} (hj : j < 32) (h : ms_CR e (ms_l2 A ix y t r d pa0 pt0 c) us fs rt sp pa pt g m ub) (h1 : ix j < 32) (hc : ∀ i, i < 32 → i ≠ j → ix i < 32 → (c' i ↔ c i)) (cj : c' j) : ms_CR e (ms_l2 A ix y t r d pa0 pt0 c') us fs rt sp (upd pa j (ms_c (if ix j = t then r else y (pa0 (ix j))))) (upd pt j (ms_c (if ix j = t then d else pt0 (ix j)))) g m ub := by
  refine ms_CR_ext (ms_CR_lk h j (if ix j = t then r else y (pa0 (ix j))) (if ix j = t then d else pt0 (ix j))) fun i hi => ?_
  simp only [ms_lk, ms_l2, ms_U_mk, ms_F_mk, ms_R_mk, ms_S_mk, ms_P_mk, ms_Q_mk, ms_G_mk, ms_M_mk, ms_B_mk]
  by_cases w : i = j
  · subst w
    rw [ms_fu_s, ms_fu_s, ms_ic_t ⟨cj, h1⟩, ms_ic_t ⟨cj, h1⟩]
    refine ⟨?_, ?_, ?_, ?_, fun _ => ⟨?_, ?_⟩, ?_, ?_, ?_⟩ <;> first | trivial | rfl | exact Iff.rfl
  · have q : (c i ∧ ix i < 32) ↔ (c' i ∧ ix i < 32) := ⟨fun z => ⟨(hc i hi w z.2).mpr z.1, z.2⟩, fun z => ⟨(hc i hi w z.2).mp z.1, z.2⟩⟩
    rw [ms_fu_n w, ms_fu_n w, ms_ic_c q, ms_ic_c q]
    refine ⟨?_, ?_, ?_, ?_, fun _ => ⟨?_, ?_⟩, ?_, ?_, ?_⟩ <;> first | trivial | rfl | exact Iff.rfl
end
section
variable {N : Nat} {e : Nat → Int32} {B : ms_AS} {T : Nat → Prop} {t d r : Nat} {pa0 pt0 : Nat → Nat} {us fs rt sp pa pt g m ub : Nat → Int32}
theorem ms_gr_end2 (hN : N ≤ 32) (hL : ms_LI B) (hc : ms_Cm N B T (ms_ix N (ms_U B) T) (ms_yn N (ms_U B) T)) (tt : T t) (t32 : t < 32)
    (h : ms_CR e (ms_lk (ms_l2 (ms_sg B (ms_ix N (ms_U B) T) 32 (ms_R B) (ms_S B r) (fun _ => 32) (fun _ => 32) (fun _ => 0)) (ms_ix N (ms_U B) T) (ms_yn N (ms_U B) T) t r d pa0 pt0 (fun _ => True)) (ms_at N B r d) (ms_yn N (ms_U B) T t) (ms_R B t)) us fs rt sp pa pt g m ub) :
    ms_CR e (ms_gr N T t d pa0 pt0 r B) us fs rt sp pa pt g m ub := by
  have qo : ∀ i, i < 32 → i = ms_at N B r d → ¬ ms_ix N (ms_U B) T i < 32 := fun i hi q => ms_Cm_o hc hi (by rw [q]; exact (ms_at_ok hN (by omega)).1)
  have new : ∀ i, i < 32 → ms_ix N (ms_U B) T i < 32 → ¬ ms_U B i := fun i hi q u => ms_Cm_o hc hi u q
  refine ms_CR_ext h fun i hi => ?_
  simp only [ms_lk, ms_l2, ms_sg, ms_gr, ms_gf, ms_U_mk, ms_F_mk, ms_R_mk, ms_S_mk, ms_P_mk, ms_Q_mk, ms_G_mk, ms_M_mk, ms_B_mk]
  have qi := qo i hi
  have ni := new i hi
  generalize ms_at N B r d = q at *
  generalize ms_ix N (ms_U B) T = ix at *
  generalize ms_yn N (ms_U B) T = y at *
  refine ⟨by first | trivial | exact Iff.rfl, by first | trivial | rfl, by first | trivial | rfl, by first | trivial | rfl, fun _ => ?_, ?_, ?_, by first | trivial | rfl⟩
  · by_cases z : ix i < 32
    · have nq : i ≠ q := fun w => qi w z
      rw [ms_fu_n nq, ms_fu_n nq, ms_ic_t ⟨trivial, z⟩, ms_ic_t ⟨trivial, z⟩, if_pos z, if_pos z]; exact ⟨rfl, rfl⟩
    · by_cases w : i = q
      · rw [if_neg z, if_neg z, if_pos w, if_pos w, w, ms_fu_s, ms_fu_s]; exact ⟨rfl, rfl⟩
      · rw [if_neg z, if_neg z, if_neg w, if_neg w, ms_fu_n w, ms_fu_n w, ms_ic_f (fun k => z k.2), ms_ic_f (fun k => z k.2), if_neg z, if_neg z]; exact ⟨rfl, rfl⟩
  · by_cases z : ix i < 32
    · rw [if_pos z]; exact (hL.2.1 i hi (ni z)).1.symm
    · rw [if_neg z]
  · by_cases z : ix i < 32
    · rw [if_pos z]; exact (hL.2.1 i hi (ni z)).2.symm
    · rw [if_neg z]
end
section
variable {N D S : Nat} {lv us fs rt sp ub pa pt g m v1 v2 v3 v4 v5 v6 v7 v8 v9 : Nat → Int32}
variable {e : Nat → Int32} {B : ms_AS} {T : Nat → Prop} {t p d r : Nat} {pa0 pt0 : Nat → Nat} {lw : Nat → Prop} {rn : Nat → Nat}
theorem my_csf (hN : N ≤ 32) (h : ms_CR e B us fs rt sp pa pt g m ub) (he : e 32 = 0) (hF : ms_FI N lw rn B) (hL : ms_LI B) (hT : ∀ x, T x → x < N ∧ ms_U B x) (ht : ms_Tr T t pa0 pt0 (ms_R B)) (hr : r < N) (ur : ms_U B r) (room : ms_cn T 32 ≤ ms_cn (fun i => ¬ ms_U B i) N) (hd : d < 32)
    (h3 : ∀ i, i < 32 → (¬ v3 i = 0 ↔ T i)) (h9 : ∀ x, T x → x ≠ t → v6 x = ms_c (pa0 x) ∧ v7 x = ms_c (pt0 x)) {a b : Nat → Nat} (ha : ∀ i, i < 32 → a i ≠ r) (hab : ∀ i, i < 32 → v8 i = ms_c (b i) ∧ v9 i = ms_c (a i)) {post : SY → Prop}
    {J : Int32 → Int32 → Int32 → Int32 → (Nat → Int32) → (Nat → Int32) → (Nat → Int32) → (Nat → Int32) → (Nat → Int32) → (Nat → Int32) → (Nat → Int32) → (Nat → Int32) → (Nat → Int32) → (Nat → Int32) → (Nat → Int32) → (Nat → Int32) → (Nat → Int32) → (Nat → Int32) → (Nat → Int32) → (Nat → Int32) → (Nat → Int32) → (Nat → Int32) → (Nat → Int32) → Prop} {a2 a4 : Int32}
    (hq : ∀ us' fs' rt' sp' pa' pt' g' m' ub' v8' v9', ms_CR e (ms_gr N T t d pa0 pt0 r B) us' fs' rt' sp' pa' pt' g' m' ub' → (∀ i, i < 32 → v8' i = ms_c (if ms_ix N (ms_U B) T i < 32 then ms_ix N (ms_U B) T i else b i) ∧ v9' i = ms_c (if ms_ix N (ms_U B) T i < 32 then r else a i)) → ∀ y, y = nI r + 1 → J y (nI N) (nI D) (nI S) lv us' fs' rt' sp' ub' pa' pt' g' m' v1 v2 v3 v4 v5 v6 v7 v8' v9') : ∃ n, wY_attach_161 post J (nI t) a2 (nI d) a4 (nI r) (ms_c (ms_at N B r d)) n 0 (nI N) (nI D) (nI S) lv us fs rt sp ub pa pt g m v1 v2 v3 v4 v5 v6 v7 v8 v9 := by
  have hT32 : ∀ x, T x → x < 32 := fun x q => by have := (hT x q).1; omega
  have hc : ms_Cm N B T (ms_ix N (ms_U B) T) (ms_yn N (ms_U B) T) := ms_Cm_yn hN room hT32
  have r32 : r < 32 := by omega
  have t32 := hT32 t ht.1
  have vr : vp_in (nI r) 32 := vp_in_nI r32 (by omega)
  have cr : (nI r).toNatClampNeg = r := nI_clamp (by omega)
  have vt : vp_in (nI t) 32 := vp_in_nI t32 (by omega)
  have ct : (nI t).toNatClampNeg = t := nI_clamp (by omega)
  have orr := ms_Cm_o hc r32 ur
  refine ms_lp (fun n i (z : (Nat → Int32) × (Nat → Int32) × (Nat → Int32) × (Nat → Int32) × (Nat → Int32) × (Nat → Int32) × (Nat → Int32) × (Nat → Int32) × (Nat → Int32) × (Nat → Int32) × (Nat → Int32)) => wY_attach_161 post J (nI t) a2 (nI d) a4 (nI r) (ms_c (ms_at N B r d)) n i (nI N) (nI D) (nI S) lv z.1 z.2.1 z.2.2.1 z.2.2.2.1 z.2.2.2.2.2.2.2.2.1 z.2.2.2.2.1 z.2.2.2.2.2.1 z.2.2.2.2.2.2.1 z.2.2.2.2.2.2.2.1 v1 v2 v3 v4 v5 v6 v7 z.2.2.2.2.2.2.2.2.2.1 z.2.2.2.2.2.2.2.2.2.2) (fun k z => ms_CR e (ms_sg B (ms_ix N (ms_U B) T) k (ms_R B) (ms_S B r) (fun _ => 32) (fun _ => 32) (fun _ => 0)) z.1 z.2.1 z.2.2.1 z.2.2.2.1 z.2.2.2.2.1 z.2.2.2.2.2.1 z.2.2.2.2.2.2.1 z.2.2.2.2.2.2.2.1 z.2.2.2.2.2.2.2.2.1 ∧ ∀ i, i < 32 → z.2.2.2.2.2.2.2.2.2.1 i = ms_c (if ms_ix N (ms_U B) T i < k then ms_ix N (ms_U B) T i else b i) ∧ z.2.2.2.2.2.2.2.2.2.2 i = ms_c (if ms_ix N (ms_U B) T i < k then r else a i)) 32 (Nat.le_refl _) (us, fs, rt, sp, pa, pt, g, m, ub, v8, v9) ⟨ms_sg_0 h, fun i hi => by rw [if_neg (Nat.not_lt_zero _), if_neg (Nat.not_lt_zero _)]; exact hab i hi⟩ (fun n z hI => ?_) (fun n x z hi ci vi ni hI go => ?_)
  · obtain ⟨us', fs', rt', sp', pa', pt', g', m', ub', v8', v9'⟩ := z
    obtain ⟨hI, hW⟩ := hI
    dsimp only at hI hW ⊢
    -- a copy, found again
    have cpf : ∀ (Q : Int32 → Prop) (x : Nat) (pa2 pt2 : Nat → Int32), T x → Q (ms_c (ms_yn N (ms_U B) T x)) → wpY_copyFor Q (nI N, nI D, nI S, lv, us', fs', rt', sp', ub', pa2, pt2, g', m', v1, v2, v3, v4, v5, v6, v7, v8', v9') (nI x) (nI r) := by
      intro Q x pa2 pt2 tx hQ
      have x32 := hT32 x tx
      obtain ⟨y1, y2, y3, y4⟩ := hc.1 x tx
      refine my_cpf ?_
      rw [ms_lo_is (i := ms_yn N (ms_U B) T x) (Nat.le_refl _) y2 ⟨by rw [(hW _ y2).1, y4, if_pos x32, ms_c_lt x32], by rw [(hW _ y2).2, y4, if_pos x32, ms_c_lt r32]⟩ (fun j hj q => ?_)]
      · exact hQ
      · obtain ⟨q1, q2⟩ := q
        have j32 : j < 32 := by omega
        rw [(hW j j32).2] at q2
        by_cases w : ms_ix N (ms_U B) T j < 32
        · rw [(hW j j32).1, if_pos w, ms_c_eq x32] at q1
          have := (ms_Cm_i hc x32 tx j j32).mp q1
          omega
        · rw [if_neg w, ms_c_eq r32] at q2
          exact ha j j32 q2
    obtain ⟨y1, y2, y3, y4⟩ := hc.1 t ht.1
    refine br_t (nI_le (b := 32) (Nat.le_refl _) (by omega)) (cpf _ t pa' pt' ht.1 ?_)
    refine ms_lp (fun n j (z : (Nat → Int32) × (Nat → Int32)) => wY_attach_241 post J (nI t) a2 (nI d) a4 (nI r) (ms_c (ms_at N B r d)) (ms_c (ms_yn N (ms_U B) T t)) (nI N) (nI D) (nI S) n j lv us' fs' rt' sp' ub' z.1 z.2 g' m' v1 v2 v3 v4 v5 v6 v7 v8' v9') (fun k z => ms_CR e (ms_l2 (ms_sg B (ms_ix N (ms_U B) T) 32 (ms_R B) (ms_S B r) (fun _ => 32) (fun _ => 32) (fun _ => 0)) (ms_ix N (ms_U B) T) (ms_yn N (ms_U B) T) t r d pa0 pt0 (fun i => i < k)) us' fs' rt' sp' z.1 z.2 g' m' ub') 32 (Nat.le_refl _) (pa', pt') (ms_l2_0 hI fun i q => Nat.not_lt_zero _ q) (fun n z hJ => ?_) (fun n j z hj cj vj nj hJ go => ?_)
    · have hJ' := ms_l2_k (c' := fun _ => True) hJ fun i i32 _ => ⟨fun _ => i32, fun _ => trivial⟩
      refine br_t (nI_le (b := 32) (Nat.le_refl _) (by omega)) (br_c (fun q => ?_) (fun q => ?_))
      · exact hq _ _ _ _ _ _ _ _ _ _ _ (ms_gr_end2 hN hL hc ht.1 t32 (ms_CR_lk32 hJ' (ms_c_neg.mp q) _ _)) hW
      · have at32 : ms_at N B r d < 32 := Classical.byContradiction fun k => q (ms_c_neg.mpr k)
        have ert : rt' t = nI (ms_R B t) := by
          rw [ms_CR_r hI t32]
          have o := ms_Cm_o hc t32 (hT t ht.1).2
          simp only [ms_sg, ms_R_mk, if_neg o]
        have k2 := ms_CR_lk hJ' (ms_at N B r d) (ms_yn N (ms_U B) T t) (ms_R B t)
        rw [ms_c_lt (n := ms_R B t) (by have := hF.2.1 t t32; omega), ← ert] at k2
        refine ⟨ms_c_in at32, ?_⟩
        rw [ms_c_cl at32]
        refine nm_e ⟨vt, ms_c_in at32, ?_⟩
        rw [ct]
        exact nm_e (hq _ _ _ _ _ _ _ _ _ _ _ (ms_gr_end2 hN hL hc ht.1 t32 k2) hW)
    · obtain ⟨pa2, pt2⟩ := z
      dsimp only at hJ ⊢
      refine br_f nj ⟨vj, ?_⟩
      rw [cj, (hW j hj).2]
      by_cases w : ms_ix N (ms_U B) T j < 32
      · rw [if_pos w, ms_c_lt r32]
        obtain ⟨tx, yj⟩ := hc.2 j hj w
        have k := ms_l2_s (c' := fun i => i < j + 1) hj hJ w (fun i i32 ne _ => by omega) (by omega)
        refine br_t rfl ?_
        by_cases jt : j = ms_yn N (ms_U B) T t
        · have et : ms_ix N (ms_U B) T j = t := by rw [jt]; exact y4
          rw [if_pos et, if_pos et, ms_c_lt r32, ms_c_lt hd] at k
          refine br_t (by rw [jt, ms_c_lt y2]) ⟨vj, nm_e ⟨vj, nm_e (go (_, _) k)⟩⟩
        · have nt : ms_ix N (ms_U B) T j ≠ t := fun q => jt ((ms_Cm_i hc t32 ht.1 j hj).mp q)
          rw [if_neg nt, if_neg nt] at k
          refine br_f (fun q => jt ?_) ⟨vj, ?_⟩
          · rw [ms_c_lt y2] at q
            exact (nI_eq (by omega) (by omega)).mp q
          · obtain ⟨p1, p2, p3, p4⟩ := ht.2.2.1 _ tx nt
            obtain ⟨o6, o7⟩ := h9 _ tx nt
            rw [(hW j hj).1, if_pos w, ms_c_cl w, o6, o7, ms_c_lt p1]
            exact ⟨ms_c_in w, cpf _ _ pa2 pt2 p2 ⟨vj, nm_e ⟨vj, ms_c_in w, vj, nm_e (go (_, _) k)⟩⟩⟩
      · rw [if_neg w]
        exact br_f (fun q => ha j hj ((ms_c_eq r32).mp q)) (go (pa2, pt2) (ms_l2_k hJ fun i i32 q => by
          have : i ≠ j := fun k => w (k ▸ q)
          omega))
  · obtain ⟨us', fs', rt', sp', pa', pt', g', m', ub', v8', v9'⟩ := z
    obtain ⟨hI, hW⟩ := hI
    dsimp only at hI hW ⊢
    refine br_f ni ⟨vi, ?_⟩
    rw [ci]
    refine br_c (fun z => go (us', fs', rt', sp', pa', pt', g', m', ub', v8', v9') ⟨ms_sg_n (ms_ix_n hi fun q => (h3 x hi).mpr q z) hI, fun i i32 => ?_⟩) (fun z => ⟨vi, vi, vr, ?_⟩)
    · have ne := ms_ix_n (N := N) (U := ms_U B) (T := T) hi (fun q => (h3 x hi).mpr q z) i i32
      have : (ms_ix N (ms_U B) T i < x + 1) ↔ ms_ix N (ms_U B) T i < x := by omega
      simp only [this]
      exact hW i i32
    have tx := (h3 x hi).mp z
    have ux := (hT x tx).2
    have nox : ¬ ms_ix N (ms_U B) T x < x := fun q => ms_Cm_o hc hi ux (by omega)
    have nor : ¬ ms_ix N (ms_U B) T r < x := fun q => orr (by omega)
    have ef : fs' x = ms_F B x := by rw [ms_CR_f hI hi]; simp only [ms_sg, ms_F_mk, if_neg nox]
    have er : rt' x = nI (ms_R B x) := by rw [ms_CR_r hI hi]; simp only [ms_sg, ms_R_mk, if_neg nox]
    have es : sp' r = nI (ms_S B r) := by rw [ms_CR_s hI r32]; simp only [ms_sg, ms_S_mk, if_neg nor]
    obtain ⟨y1, y2, y3, y4⟩ := hc.1 x tx
    have ey := ms_sg_lo (A := B) (T := T) (rt' := ms_R B) (s := ms_S B r) (gl := fun _ => 32) (ml := fun _ => 32) (bl := fun _ => 0) hN room (x := x) (by omega)
    rw [cr, ef, er, es]
    have vy : vp_in (nI (ms_yn N (ms_U B) T x)) 32 := vp_in_nI y2 (by omega)
    have cy : (nI (ms_yn N (ms_U B) T x)).toNatClampNeg = ms_yn N (ms_U B) T x := nI_clamp (by omega)
    have n1 := ms_CR_nw hI he (ms_yn N (ms_U B) T x) (ms_F B x) (ms_R B x) (ms_S B r)
    refine my_nwm hN (by rw [ms_rd_nw hI hN]; exact ey) y2 ⟨vy, ?_⟩
    rw [cy]
    refine nm_e ⟨vy, nm_e (go (_, _, _, _, _, _, _, _, _, upd v8' (ms_yn N (ms_U B) T x) (nI x), upd v9' (ms_yn N (ms_U B) T x) (nI r)) ⟨ms_sg_s0 (y := ms_yn N (ms_U B) T) (ms_Cm_i hc hi tx) n1, fun i i32 => ?_⟩)⟩
    dsimp only
    by_cases w : i = ms_yn N (ms_U B) T x
    · rw [w, ms_us, ms_us, y4, if_pos (by omega), if_pos (by omega), ms_c_lt hi, ms_c_lt r32]
      exact ⟨rfl, rfl⟩
    · have ne : ms_ix N (ms_U B) T i ≠ x := fun q => w ((ms_Cm_i hc hi tx i i32).mp q)
      have : (ms_ix N (ms_U B) T i < x + 1) ↔ ms_ix N (ms_U B) T i < x := by omega
      rw [ms_un' w, ms_un' w]
      simp only [this]
      exact hW i i32
end
end
section
/-! the reference's order: the groups of the copies by their number, against the final groups -/
/-- the copies from j on have no labels yet -/
noncomputable def ms_hy (A3 A4 : ms_AS) (C : Nat → Prop) (j : Nat) : ms_AS :=
  (ms_U A3, ms_F A3, ms_R A3, ms_S A3, ms_P A3, ms_Q A3, fun i => ms_ic (C i ∧ ¬ i < j) 32 (ms_G A4 i), fun i => ms_ic (C i ∧ ¬ i < j) 32 (ms_M A4 i), ms_B A3)
theorem ms_CR_new' {e : Nat → Int32} {A : ms_AS} {us fs rt sp pa pt g m ub : Nat → Int32} (h : ms_CR e A us fs rt sp pa pt g m ub) (hE : ms_E e A) (hM : ∀ i, i < 32 → ms_La A (ms_M A i)) (he : e 32 = 0) {x l : Nat} (hl : l < 32) (fl : ∀ i, i < 32 → ms_G A i ≠ l) {r : Int32} (r0 : ¬ r = 0) (fr : ∀ i, i < 32 → ¬ g i = r ∧ ¬ m i = r) :
    ∃ e', e' 32 = 0 ∧ ms_E e' (ms_sG A x l) ∧ ms_CR e' (ms_sG A x l) us fs rt sp pa pt (upd g x r) m ub := by
  have nl : ∀ l', ms_La A l' → l' ≠ l := fun l' z q => by
    rcases z with z | ⟨j, hj, z⟩
    · omega
    · exact fl j hj (by omega)
  have old : ∀ l', ms_La A l' → ms_fu e l r l' = e l' := fun l' z => ms_fu_n (nl l' z)
  have ne : ∀ l', ms_La A l' → ¬ e l' = r := fun l' z q => by
    rcases z with z | ⟨j, hj, z⟩
    · rw [z, he] at q; exact r0 q.symm
    · rw [← z, ← ms_CR_g h hj] at q; exact (fr j hj).1 q
  have lab : ∀ l', ms_La (ms_sG A x l) l' → l' = l ∨ ms_La A l' := fun l' z => by
    rcases z with z | ⟨j, hj, z⟩
    · exact Or.inr (Or.inl z)
    · by_cases q : j = x
      · subst q
        have : ms_G (ms_sG A j l) j = l := ms_fu_s
        rw [this] at z
        exact Or.inl z.symm
      · have : ms_G (ms_sG A x l) j = ms_G A j := ms_fu_n q
        rw [this] at z
        exact Or.inr (Or.inr ⟨j, hj, z⟩)
  refine ⟨ms_fu e l r, by rw [old 32 (Or.inl rfl), he], fun a b ha hb q => ?_, ?_⟩
  · rcases lab a ha with za | za
    · rcases lab b hb with zb | zb
      · rw [za, zb]
      · rw [za, ms_fu_s, old b zb] at q
        exact absurd q.symm (ne b zb)
    · rcases lab b hb with zb | zb
      · rw [zb, ms_fu_s, old a za] at q
        exact absurd q (ne a za)
      · rw [old a za, old b zb] at q
        exact hE a b za zb q
  · intro i hi
    obtain ⟨a1, a2, a3, a4, a5, a6, a7, a8⟩ := h i hi
    simp only [ms_sG, ms_U_mk, ms_F_mk, ms_R_mk, ms_S_mk, ms_P_mk, ms_Q_mk, ms_G_mk, ms_M_mk, ms_B_mk]
    refine ⟨a1, a2, a3, a4, a5, ?_, ?_, a8⟩
    · by_cases q : i = x
      · subst q; rw [ms_us, ms_fu_s, ms_fu_s]
      · rw [ms_un' q, ms_fu_n q, old _ (ms_La_G hi)]; exact a6
    · rw [old _ (hM i hi)]; exact a7
theorem ms_CR_live' {e : Nat → Int32} {A : ms_AS} {us fs rt sp pa pt g m ub : Nat → Int32} (h : ms_CR e A us fs rt sp pa pt g m ub) (hM : ∀ i, i < 32 → ms_La A (ms_M A i)) (he : e 32 = 0) : ∀ i, i < 32 → m i = 0 ∨ ∃ j, j < 32 ∧ g j = m i := fun i hi => by
  rcases hM i hi with z | ⟨j, hj, z⟩
  · left; rw [ms_CR_m h hi, z, he]
  · right; exact ⟨j, hj, by rw [ms_CR_g h hj, ms_CR_m h hi, z]⟩
section
variable {G0 : Nat → Nat} {gp : Nat} {A3 A4 : ms_AS} {T Rv : Nat → Prop} {cp : Nat → Nat → Nat} {j : Nat}
theorem ms_hy_G (A3 A4 : ms_AS) (C : Nat → Prop) (j i : Nat) : ms_G (ms_hy A3 A4 C j) i = ms_ic (C i ∧ ¬ i < j) 32 (ms_G A4 i) := rfl
theorem ms_hy_M (A3 A4 : ms_AS) (C : Nat → Prop) (j i : Nat) : ms_M (ms_hy A3 A4 C j) i = ms_ic (C i ∧ ¬ i < j) 32 (ms_M A4 i) := rfl
theorem ms_hy_0 (cf : ms_CF A3 T Rv cp) (pc : ms_PC G0 gp A3 T Rv cp (fun _ _ => True) A4) : ∀ i, i < 32 → ms_G (ms_hy A3 A4 (ms_Cy T Rv cp) 0) i = ms_G A3 i ∧ ms_M (ms_hy A3 A4 (ms_Cy T Rv cp) 0) i = ms_M A3 i := fun i hi => by
  rw [ms_hy_G, ms_hy_M]
  by_cases c : ms_Cy T Rv cp i
  · rw [ms_ic_t ⟨c, Nat.not_lt_zero _⟩, ms_ic_t ⟨c, Nat.not_lt_zero _⟩]
    obtain ⟨r, x, vr, tx, e⟩ := c
    rw [e]
    exact ⟨(cf.1 r x vr tx).2.2.2.2.1.symm, (cf.1 r x vr tx).2.2.2.2.2.symm⟩
  · rw [ms_ic_f fun q => c q.1, ms_ic_f fun q => c q.1]
    exact pc.2.2.1 i hi c
/-- masters, while the groups are made, are labels in use -/
theorem ms_hy_L (h3 : ms_LI A3) (cf : ms_CF A3 T Rv cp) (pc : ms_PC G0 gp A3 T Rv cp (fun _ _ => True) A4) : ∀ i, i < 32 → ms_La (ms_hy A3 A4 (ms_Cy T Rv cp) j) (ms_M (ms_hy A3 A4 (ms_Cy T Rv cp) j) i) := fun i hi => by
  have old : ∀ k, k < 32 → ms_La (ms_hy A3 A4 (ms_Cy T Rv cp) j) (ms_M A3 k) := fun k hk => by
    rcases ms_La_M h3 hk with z | ⟨l, hl, z⟩
    · exact Or.inl z
    · by_cases m : ms_M A3 k < 32
      · have nc : ¬ ms_Cy T Rv cp l := fun ⟨r, x, vr, tx, e⟩ => by
          have := (cf.1 r x vr tx).2.2.2.2.1
          rw [← e, z] at this
          omega
        refine Or.inr ⟨l, hl, ?_⟩
        rw [ms_hy_G, ms_ic_f fun q => nc q.1, (pc.2.2.1 l hl nc).1, z]
      · have := (h3.1 k hk).2
        exact Or.inl (by omega)
  rw [ms_hy_M]
  by_cases c : ms_Cy T Rv cp i
  · by_cases w : i < j
    · rw [ms_ic_f fun q => q.2 w]
      obtain ⟨r, x, vr, tx, e⟩ := c
      rw [e]
      by_cases g32 : G0 r = 32
      · rw [(pc.2.2.2.1 r x vr tx (Or.inr g32)).2]; exact Or.inl rfl
      · by_cases gt : G0 r = gp
        · rw [(pc.2.2.2.2.1 r x vr tx trivial gt).2]; exact old x (cf.1 r x vr tx).2.1
        · rw [(pc.2.2.2.2.2.1 r x vr tx trivial g32 gt).1]; exact Or.inl rfl
    · rw [ms_ic_t ⟨c, w⟩]; exact Or.inl rfl
  · rw [ms_ic_f fun q => c q.1, (pc.2.2.1 i hi c).2]
    exact old i hi
/-- j gets its final labels -/
theorem ms_hy_s {e : Nat → Int32} {us fs rt sp pa pt g m ub : Nat → Int32} {C : Nat → Prop} (h : ms_CR e (ms_sM (ms_sG (ms_hy A3 A4 C j) j (ms_G A4 j)) j (ms_M A4 j)) us fs rt sp pa pt g m ub) : ms_CR e (ms_hy A3 A4 C (j + 1)) us fs rt sp pa pt g m ub := by
  refine ms_CR_ext h fun i hi => ⟨Iff.rfl, rfl, rfl, rfl, fun _ => ⟨rfl, rfl⟩, ?_, ?_, rfl⟩
  · rw [ms_hy_G]
    show ms_fu (ms_G (ms_hy A3 A4 C j)) j (ms_G A4 j) i = _
    by_cases w : i = j
    · subst w
      rw [ms_fu_s, ms_ic_f fun q => q.2 (by omega)]
    · rw [ms_fu_n w, ms_hy_G]
      exact ms_ic_c ⟨fun q => ⟨q.1, by omega⟩, fun q => ⟨q.1, by omega⟩⟩
  · rw [ms_hy_M]
    show ms_fu (ms_M (ms_hy A3 A4 C j)) j (ms_M A4 j) i = _
    by_cases w : i = j
    · subst w
      rw [ms_fu_s, ms_ic_f fun q => q.2 (by omega)]
    · rw [ms_fu_n w, ms_hy_M]
      exact ms_ic_c ⟨fun q => ⟨q.1, by omega⟩, fun q => ⟨q.1, by omega⟩⟩
/-- nothing changes at j -/
theorem ms_hy_n {e : Nat → Int32} {us fs rt sp pa pt g m ub : Nat → Int32} {C : Nat → Prop} (h : ms_CR e (ms_hy A3 A4 C j) us fs rt sp pa pt g m ub) (hn : C j → ms_G A4 j = 32 ∧ ms_M A4 j = 32) : ms_CR e (ms_hy A3 A4 C (j + 1)) us fs rt sp pa pt g m ub ∧ ∀ i, ms_G (ms_hy A3 A4 C (j + 1)) i = ms_G (ms_hy A3 A4 C j) i := by
  have eq : ∀ i, ms_G (ms_hy A3 A4 C (j + 1)) i = ms_G (ms_hy A3 A4 C j) i ∧ ms_M (ms_hy A3 A4 C (j + 1)) i = ms_M (ms_hy A3 A4 C j) i := fun i => by
    rw [ms_hy_G, ms_hy_G, ms_hy_M, ms_hy_M]
    by_cases w : i = j
    · subst w
      rw [ms_ic_f (c := C i ∧ ¬ i < i + 1) fun q => q.2 (by omega), ms_ic_f (c := C i ∧ ¬ i < i + 1) fun q => q.2 (by omega)]
      by_cases c : C i
      · rw [ms_ic_t ⟨c, Nat.lt_irrefl _⟩, ms_ic_t ⟨c, Nat.lt_irrefl _⟩]; exact hn c
      · rw [ms_ic_f fun q => c q.1, ms_ic_f fun q => c q.1]; exact ⟨rfl, rfl⟩
    · have : (C i ∧ ¬ i < j + 1) ↔ (C i ∧ ¬ i < j) := ⟨fun q => ⟨q.1, by omega⟩, fun q => ⟨q.1, by omega⟩⟩
      exact ⟨ms_ic_c this, ms_ic_c this⟩
  exact ⟨ms_CR_ext h fun i hi => ⟨Iff.rfl, rfl, rfl, rfl, fun _ => ⟨rfl, rfl⟩, (eq i).1.symm, (eq i).2.symm, rfl⟩, fun i => (eq i).1⟩
theorem ms_hy_E {e : Nat → Int32} {C : Nat → Prop} (hE : ms_E e (ms_hy A3 A4 C j)) (hg : ∀ i, i < 32 → ms_La (ms_hy A3 A4 C j) (ms_G (ms_hy A3 A4 C (j + 1)) i)) : ms_E e (ms_hy A3 A4 C (j + 1)) := ms_E_map hE hg
/-- the labels at j + 1: as before, but j has its own -/
theorem ms_hy_g {C : Nat → Prop} (i : Nat) : ms_G (ms_hy A3 A4 C (j + 1)) i = ms_fu (ms_G (ms_hy A3 A4 C j)) j (ms_G A4 j) i := by
  by_cases w : i = j
  · subst w
    rw [ms_fu_s, ms_hy_G, ms_ic_f fun q => q.2 (by omega)]
  · rw [ms_fu_n w, ms_hy_G, ms_hy_G]
    exact ms_ic_c ⟨fun q => ⟨q.1, by omega⟩, fun q => ⟨q.1, by omega⟩⟩
end
end
section
/-! attach: the reference's groups and masters of the copies -/
theorem ms_CR_sMn {e : Nat → Int32} {A : ms_AS} {us fs rt sp pa pt g m ub : Nat → Int32} (h : ms_CR e A us fs rt sp pa pt g m ub) {y l : Nat} (hl : ms_M A y = l) : ms_CR e (ms_sM A y l) us fs rt sp pa pt g m ub := by
  refine ms_CR_ext h fun i hi => ⟨Iff.rfl, rfl, rfl, rfl, fun _ => ⟨rfl, rfl⟩, rfl, ?_, rfl⟩
  by_cases q : i = y
  · subst q; rw [hl]; exact ms_fu_s.symm
  · exact (ms_fu_n q).symm
theorem ms_ir_lt {T Rv : Nat → Prop} {cp : Nat → Nat → Nat} {i : Nat} (h : ms_ir T Rv cp i < 32) : ms_Cy T Rv cp i := by
  obtain ⟨x, a, b, e⟩ := ms_lo_P (P := fun r => ∃ x, Rv r ∧ T x ∧ cp r x = i) (Nat.le_refl 32) h
  exact ⟨_, x, a, b, e.symm⟩
section
variable {N D S : Nat} {lv us fs rt sp ub pa pt g m v1 v2 v3 v4 v5 v6 v7 v8 v9 : Nat → Int32}
variable {e0 : Nat → Int32} {A00 A3 A4 : ms_AS} {T Rv : Nat → Prop} {cp : Nat → Nat → Nat} {gp : Nat}
/-- the group formed of the copies of x for the receivers in r's group: found or not -/
theorem my_cg2 (hE0 : ms_E e0 A00) (cf : ms_CF A3 T Rv cp) (h4 : ∀ i, i < 32 → v4 i = e0 (ms_G A00 i)) (h89 : ∀ i, i < 32 → v8 i = ms_c (ms_iy T Rv cp i) ∧ v9 i = ms_c (ms_ir T Rv cp i)) {x l : Nat} (x32 : x < 32) (hl : ms_La A00 l) {post : Int32 → Prop}
    (h1 : ∀ c, c < 32 → ms_Cy T Rv cp c → ms_iy T Rv cp c = x → ms_G A00 (ms_ir T Rv cp c) = l → ¬ g c = 0 → post (g c))
    (h0 : (∀ c, c < 32 → ms_Cy T Rv cp c → ms_iy T Rv cp c = x → ms_G A00 (ms_ir T Rv cp c) = l → g c = 0) → post 0) : wpY_copiesGroup post (nI N, nI D, nI S, lv, us, fs, rt, sp, ub, pa, pt, g, m, v1, v2, v3, v4, v5, v6, v7, v8, v9) (ms_c x) (e0 l) := by
  have iff : ∀ c, c < 32 → ((¬ v9 c < 0 ∧ v8 c = ms_c x ∧ v4 (v9 c).toNatClampNeg = e0 l ∧ ¬ g c = 0) ↔ (ms_Cy T Rv cp c ∧ ms_iy T Rv cp c = x ∧ ms_G A00 (ms_ir T Rv cp c) = l ∧ ¬ g c = 0)) := by
    intro c hc
    rw [(h89 c hc).1, (h89 c hc).2]
    constructor
    · rintro ⟨a, b, d, f⟩
      have i32 : ms_ir T Rv cp c < 32 := Classical.byContradiction fun q => a (ms_c_neg.mpr q)
      rw [ms_c_cl i32, h4 _ i32] at d
      rw [ms_c_lt x32, ms_c_eq x32] at b
      exact ⟨ms_ir_lt i32, b, hE0 _ _ (ms_La_G i32) hl d, f⟩
    · rintro ⟨a, b, d, f⟩
      obtain ⟨vr, tx, _⟩ := ms_Mk_p cf a
      have i32 := (cf.1 _ _ vr tx).1
      rw [b, ms_c_cl i32, h4 _ i32, d]
      exact ⟨fun q => ms_c_neg.mp q i32, rfl, rfl, f⟩
  refine my_cgr (fun c hc n => ?_) ?_
  · rw [(h89 c hc).2] at n ⊢
    exact ms_c_in (Classical.byContradiction fun q => n (ms_c_neg.mpr q))
  · by_cases z : ms_lo (fun c => ¬ v9 c < 0 ∧ v8 c = ms_c x ∧ v4 (v9 c).toNatClampNeg = e0 l ∧ ¬ g c = 0) 32 < 32
    · rw [if_pos z]
      obtain ⟨a, b, d, f⟩ := (iff _ z).mp (ms_lo_P (P := fun c => ¬ v9 c < 0 ∧ v8 c = ms_c x ∧ v4 (v9 c).toNatClampNeg = e0 l ∧ ¬ g c = 0) (Nat.le_refl 32) z)
      exact h1 _ z a b d f
    · rw [if_neg z]
      refine h0 fun c hc a b d => Classical.byContradiction fun f => ?_
      exact ms_lo_no (P := fun c => ¬ v9 c < 0 ∧ v8 c = ms_c x ∧ v4 (v9 c).toNatClampNeg = e0 l ∧ ¬ g c = 0) (Nat.le_refl 32) z c hc ((iff c hc).mpr ⟨a, b, d, f⟩)
theorem my_grp {e : Nat → Int32} (hL0 : ms_LI A00) (hE0 : ms_E e0 A00) (he0 : e0 32 = 0) (h3 : ms_LI A3) (cf : ms_CF A3 T Rv cp) (hg : gp < 32) (hgl : ms_La A00 gp) (pc : ms_PC (ms_G A00) gp A3 T Rv cp (fun _ _ => True) A4) (h4 : ∀ i, i < 32 → v4 i = e0 (ms_G A00 i)) (h89 : ∀ i, i < 32 → v8 i = ms_c (ms_iy T Rv cp i) ∧ v9 i = ms_c (ms_ir T Rv cp i))
    (he : e 32 = 0) (hE : ms_E e A3) (h : ms_CR e A3 us fs rt sp pa pt g m ub) {post : SY → Prop}
    (hq : ∀ e' g' m', e' 32 = 0 → ms_E e' A4 → ms_CR e' A4 us fs rt sp pa pt g' m' ub → ∃ n, wY_attach_501 post (e0 gp) (nI N) (nI D) (nI S) n 0 lv us fs rt sp ub pa pt g' m' v1 v2 v3 v4 v5 v6 v7 v8 v9) : ∃ n, wY_attach_373 post (e0 gp) (nI N) (nI D) (nI S) n 0 lv us fs rt sp ub pa pt g m v1 v2 v3 v4 v5 v6 v7 v8 v9 := by
  have tn : ∀ x, T x → ¬ ms_Cy T Rv cp x := fun x tx ⟨r', x', a, b, q⟩ => cf.2.2 r' x' x a b tx q.symm
  have hy0 := ms_hy_0 cf pc
  refine ms_lp (fun n j (z : (Nat → Int32) × (Nat → Int32)) => wY_attach_373 post (e0 gp) (nI N) (nI D) (nI S) n j lv us fs rt sp ub pa pt z.1 z.2 v1 v2 v3 v4 v5 v6 v7 v8 v9) (fun j z => ∃ e', e' 32 = 0 ∧ ms_E e' (ms_hy A3 A4 (ms_Cy T Rv cp) j) ∧ ms_CR e' (ms_hy A3 A4 (ms_Cy T Rv cp) j) us fs rt sp pa pt z.1 z.2 ub) 32 (Nat.le_refl _) (g, m) ⟨e, he, ms_E_map hE fun i hi => by rw [(hy0 i hi).1]; exact ms_La_G hi, ms_CR_ext h fun i hi => ⟨Iff.rfl, rfl, rfl, rfl, fun _ => ⟨rfl, rfl⟩, (hy0 i hi).1.symm, (hy0 i hi).2.symm, rfl⟩⟩ (fun n z hI => ?_) (fun n j z hj cj vj nj hI go => ?_)
  · obtain ⟨e', a1, a2, a3⟩ := hI
    have eG : ∀ i, i < 32 → ms_G (ms_hy A3 A4 (ms_Cy T Rv cp) 32) i = ms_G A4 i ∧ ms_M (ms_hy A3 A4 (ms_Cy T Rv cp) 32) i = ms_M A4 i := fun i hi => by
      rw [ms_hy_G, ms_hy_M, ms_ic_f fun q => q.2 hi, ms_ic_f fun q => q.2 hi]; exact ⟨rfl, rfl⟩
    obtain ⟨s1, s2, s3, s4, s5, s6, s7⟩ := pc.2.1
    refine br_t (nI_le (b := 32) (Nat.le_refl _) (by omega)) (hq e' _ _ a1 (ms_E_map a2 fun i hi => by rw [← (eG i hi).1]; exact ms_La_G hi) (ms_CR_ext a3 fun i hi => ⟨by rw [s1]; exact Iff.rfl, by rw [s2]; rfl, by rw [s3]; rfl, by rw [s4]; rfl, fun _ => ⟨by rw [s5]; rfl, by rw [s6]; rfl⟩, (eG i hi).1, (eG i hi).2, by rw [s7]; rfl⟩))
  · obtain ⟨g', m'⟩ := z
    obtain ⟨e', a1, a2, a3⟩ := hI
    dsimp only at a3 ⊢
    refine br_f nj ⟨vj, ?_⟩
    rw [cj, (h89 j hj).2, (h89 j hj).1]
    by_cases c : ms_Cy T Rv cp j
    · obtain ⟨vr, tx, ej⟩ := ms_Mk_p cf c
      generalize ms_ir T Rv cp j = r at vr tx ej
      generalize ms_iy T Rv cp j = x at vr tx ej
      obtain ⟨r32, x32, _⟩ := cf.1 r x vr tx
      have xn := tn x tx
      have gx : g' x = e' (ms_G A3 x) := by rw [ms_CR_g a3 x32, ms_hy_G, ms_ic_f fun q => xn q.1, (pc.2.2.1 x x32 xn).1]
      have mx : m' x = e' (ms_M A3 x) := by rw [ms_CR_m a3 x32, ms_hy_M, ms_ic_f fun q => xn q.1, (pc.2.2.1 x x32 xn).2]
      have laX : ms_La (ms_hy A3 A4 (ms_Cy T Rv cp) j) (ms_G A3 x) := Or.inr ⟨x, x32, by rw [ms_hy_G, ms_ic_f fun q => xn q.1, (pc.2.2.1 x x32 xn).1]⟩
      -- j takes a label that is in use
      have known : ms_La (ms_hy A3 A4 (ms_Cy T Rv cp) j) (ms_G A4 j) → ms_E e' (ms_hy A3 A4 (ms_Cy T Rv cp) (j + 1)) := fun k => ms_hy_E a2 fun i hi => by
        rw [ms_hy_g]
        by_cases w : i = j
        · rw [w, ms_fu_s]; exact k
        · rw [ms_fu_n w]; exact ms_La_G hi
      refine br_f (fun q => ms_c_neg.mp q r32) ⟨vj, ms_c_in r32, ?_⟩
      rw [ms_c_cl r32, h4 r r32]
      refine nm_e (br_c (fun zt => ?_) (fun zt => br_c (fun zn => go (g', m') ?_) (fun zn => ⟨vj, ?_⟩)))
      · have et := hE0 _ _ (ms_La_G r32) hgl zt
        obtain ⟨t1, t2⟩ := pc.2.2.2.2.1 r x vr tx trivial et
        rw [← ej] at t1 t2
        refine ⟨vj, ms_c_in x32, vj, ?_⟩
        rw [ms_c_cl x32, gx, mx, ← t1, ← t2]
        exact nm_e ⟨vj, ms_c_in x32, vj, nm_e (go (_, _) ⟨e', a1, known (by rw [t1]; exact laX), ms_hy_s (ms_CR_sM (ms_CR_sG a3 j (ms_G A4 j)) j (ms_M A4 j))⟩)⟩
      · rw [← he0] at zn
        have e32 := hE0 _ _ (ms_La_G r32) (Or.inl rfl) zn
        have n2 := pc.2.2.2.1 r x vr tx (Or.inr e32)
        rw [← ej] at n2
        obtain ⟨b1, b2⟩ := ms_hy_n a3 (C := ms_Cy T Rv cp) fun _ => n2
        exact ⟨e', a1, ms_E_map a2 fun i hi => by rw [b2]; exact ms_La_G hi, b1⟩
      · have nt : ms_G A00 r ≠ gp := fun q => zt (by rw [q])
        have n32 : ms_G A00 r ≠ 32 := fun q => zn (by rw [q]; exact he0)
        obtain ⟨k1, k2, k3⟩ := pc.2.2.2.2.2.1 r x vr tx trivial n32 nt
        rw [← ej] at k1 k2 k3
        have mj : ms_M (ms_hy A3 A4 (ms_Cy T Rv cp) j) j = ms_M A4 j := by rw [ms_hy_M, ms_ic_t ⟨c, Nat.lt_irrefl _⟩, k1]
        -- which copies carry the label of j
        have same : ∀ i, i < 32 → ms_Cy T Rv cp i → ms_iy T Rv cp i = x → ms_G A00 (ms_ir T Rv cp i) = ms_G A00 r → ms_G A4 i = ms_G A4 j := fun i hi ci ix ig => by
          obtain ⟨vi, ti, ei⟩ := ms_Mk_p cf ci
          rw [ei, ej, ix]
          rw [ix] at ti
          exact (pc.2.2.2.2.2.2 _ x r x vi ti trivial (by rw [ig]; exact n32) (by rw [ig]; exact nt) vr tx trivial n32 nt).mpr ⟨rfl, ig⟩
        refine my_cg2 hE0 cf h4 h89 x32 (ms_La_G r32) (fun i hi ci ix ig g0 => ?_) (fun none => ?_)
        · have ei := same i hi ci ix ig
          have ilt : i < j := Classical.byContradiction fun q => g0 (by rw [ms_CR_g a3 hi, ms_hy_G, ms_ic_t ⟨ci, q⟩, a1])
          have gi : ms_G (ms_hy A3 A4 (ms_Cy T Rv cp) j) i = ms_G A4 j := by rw [ms_hy_G, ms_ic_f fun q => q.2 ilt, ei]
          have gi' : g' i = e' (ms_G A4 j) := by rw [ms_CR_g a3 hi, gi]
          refine br_f g0 ⟨vj, ?_⟩
          rw [gi']
          exact nm_e (go (_, m') ⟨e', a1, known (Or.inr ⟨i, hi, gi⟩), ms_hy_s (ms_CR_sMn (ms_CR_sG a3 j (ms_G A4 j)) mj)⟩)
        · have hM := ms_hy_L (j := j) h3 cf pc
          refine br_t rfl (my_frh (ms_CR_live' a3 hM a1) fun nr r0 fr => ⟨vj, ?_⟩)
          have fl : ∀ i, i < 32 → ms_G (ms_hy A3 A4 (ms_Cy T Rv cp) j) i ≠ ms_G A4 j := by
            intro i hi
            rw [ms_hy_G]
            by_cases ci : ms_Cy T Rv cp i
            · by_cases w : i < j
              · rw [ms_ic_f fun q => q.2 w]
                intro q
                obtain ⟨vi, ti, ei⟩ := ms_Mk_p cf ci
                obtain ⟨i1, i2, _⟩ := cf.1 _ _ vi ti
                by_cases g32 : ms_G A00 (ms_ir T Rv cp i) = 32
                · have := (pc.2.2.2.1 _ _ vi ti (Or.inr g32)).1
                  rw [← ei] at this
                  omega
                · by_cases gt : ms_G A00 (ms_ir T Rv cp i) = gp
                  · have := (pc.2.2.2.2.1 _ _ vi ti trivial gt).1
                    rw [← ei, q] at this
                    exact k3 _ i2 (tn _ ti) this.symm
                  · rw [ei, ej] at q
                    obtain ⟨q1, q2⟩ := (pc.2.2.2.2.2.2 _ _ r x vi ti trivial g32 gt vr tx trivial n32 nt).mp q
                    have := none i hi ci q1 q2
                    rw [ms_CR_g a3 hi, ms_hy_G, ms_ic_f fun q => q.2 w, ← a1] at this
                    have la : ms_La (ms_hy A3 A4 (ms_Cy T Rv cp) j) (ms_G A4 i) := Or.inr ⟨i, hi, by rw [ms_hy_G, ms_ic_f fun q => q.2 w]⟩
                    have e32 := a2 _ _ la (Or.inl rfl) this
                    rw [same i hi ci q1 q2] at e32
                    omega
              · rw [ms_ic_t ⟨ci, w⟩]; omega
            · rw [ms_ic_f fun q => ci q.1, (pc.2.2.1 i hi ci).1]
              exact k3 i hi ci
          obtain ⟨e2, b1, b2, b3⟩ := ms_CR_new' a3 a2 hM a1 (x := j) k2 fl r0 fr
          refine nm_e (go (_, m') ⟨e2, b1, ms_E_map b2 fun i hi => ?_, ms_hy_s (ms_CR_sMn b3 mj)⟩)
          rw [ms_hy_g]
          exact Or.inr ⟨i, hi, rfl⟩
    · rw [ms_ir_no c, ms_c_32]
      obtain ⟨b1, b2⟩ := ms_hy_n a3 (C := ms_Cy T Rv cp) fun k => absurd k c
      exact br_t (by decide) (go (g', m') ⟨e', a1, ms_E_map a2 fun i hi => by rw [b2]; exact ms_La_G hi, b1⟩)
end
end
section
/-! attach: the reference's masters of the copies, and the whole of it -/
section
variable {N D S : Nat} {lv us fs rt sp ub pa pt g m v1 v2 v3 v4 v5 v6 v7 v8 v9 : Nat → Int32}
variable {e0 : Nat → Int32} {A00 A3 A4 : ms_AS} {T Rv Rf : Nat → Prop} {cp : Nat → Nat → Nat} {gp p : Nat}
theorem my_nea (hL : ms_LI A00) (hE0 : ms_E e0 A00) (he0 : e0 32 = 0) (p32 : p < 32) (eg : ms_G A00 p = gp) (hg : gp < 32) (fp : Rf p) (hv : ∀ r, r < 32 → (Rv r ↔ (Rf r ∧ r ≠ p))) (h2 : ∀ i, i < 32 → (¬ v2 i = 0 ↔ Rf i)) (h45 : ∀ i, i < 32 → v4 i = e0 (ms_G A00 i) ∧ v5 i = e0 (ms_M A00 i)) {r : Nat} (r32 : r < 32) (sp' : ms_Sp A00 p r) (ne : ms_G A00 r ≠ gp) {post : SY → Prop}
    {J : Int32 → (Nat → Int32) → (Nat → Int32) → (Nat → Int32) → (Nat → Int32) → (Nat → Int32) → (Nat → Int32) → (Nat → Int32) → (Nat → Int32) → (Nat → Int32) → (Nat → Int32) → (Nat → Int32) → (Nat → Int32) → (Nat → Int32) → (Nat → Int32) → (Nat → Int32) → (Nat → Int32) → (Nat → Int32) → (Nat → Int32) → (Nat → Int32) → Prop} {a4 a5 : Int32}
    (K : wY_attach_582 post J a4 a5 (e0 (ms_nn A00 gp Rv r)) (nI N) (nI D) (nI S) lv us fs rt sp ub pa pt g m v1 v2 v3 v4 v5 v6 v7 v8 v9) : ∃ n, wY_attach_552 post J a4 a5 (nI N) (nI D) (nI S) lv us fs rt sp ub pa pt g m v1 v2 v3 v4 v5 v6 v7 v8 v9 n (e0 (ms_M A00 r)) 0 := by
  have hH : ∀ l, l < 32 → ((∃ c, c < 32 ∧ Rf c ∧ ms_G A00 c = l) ↔ (ms_Hr A00 Rv l ∨ l = gp)) := by
    intro l hl
    constructor
    · rintro ⟨c, hc, f, q⟩
      by_cases w : c = p
      · right; rw [← q, w, eg]
      · left; exact ⟨c, hc, (hv c hc).mpr ⟨f, w⟩, q⟩
    · rintro (⟨c, hc, v, q⟩ | q)
      · exact ⟨c, hc, ((hv c hc).mp v).1, q⟩
      · exact ⟨p, p32, fp, by rw [eg, q]⟩
  have key : ∀ k n l k', k ≤ 32 → k < n → k' ≤ k → ms_it (ms_mo A00) k' l = gp → ms_La A00 l → wY_attach_582 post J a4 a5 (e0 (ms_ny A00 (fun l => ∃ c, c < 32 ∧ Rf c ∧ ms_G A00 c = l) k l)) (nI N) (nI D) (nI S) lv us fs rt sp ub pa pt g m v1 v2 v3 v4 v5 v6 v7 v8 v9 → wY_attach_552 post J a4 a5 (nI N) (nI D) (nI S) lv us fs rt sp ub pa pt g m v1 v2 v3 v4 v5 v6 v7 v8 v9 n (e0 l) (nI (32 - k)) := by
    intro k
    induction k with
    | zero =>
      intro n l k' _ hn _ _ _ hp
      cases n with
      | zero => omega
      | succ n => exact br_t (nI_le (b := 32) (Nat.le_refl _) (by omega)) hp
    | succ k ih =>
      intro n l k' hk hn hk' hit la hp
      cases n with
      | zero => omega
      | succ n =>
        have ey : ms_ny A00 (fun l => ∃ c, c < 32 ∧ Rf c ∧ ms_G A00 c = l) (k + 1) l = ms_ic (¬ ∃ c, c < 32 ∧ Rf c ∧ ms_G A00 c = l) (ms_ny A00 (fun l => ∃ c, c < 32 ∧ Rf c ∧ ms_G A00 c = l) k (ms_mo A00 l)) l := rfl
        rw [ey] at hp
        refine br_f (nI_ge (b := 32) (by omega) (by omega)) (my_hrc ?_)
        have hr : ms_lo (fun c => ¬ v2 c = 0 ∧ v4 c = e0 l) 32 < 32 ↔ ∃ c, c < 32 ∧ Rf c ∧ ms_G A00 c = l := by
          constructor
          · intro z
            obtain ⟨a, b⟩ := ms_lo_P (P := fun c => ¬ v2 c = 0 ∧ v4 c = e0 l) (Nat.le_refl 32) z
            rw [(h45 _ z).1] at b
            exact ⟨_, z, (h2 _ z).mp a, hE0 _ _ (ms_La_G z) la b⟩
          · rintro ⟨c, hc, f, q⟩
            exact ms_lo_ex (Nat.le_refl _) hc ⟨(h2 c hc).mpr f, by rw [(h45 c hc).1, q]⟩
        by_cases z : ∃ c, c < 32 ∧ Rf c ∧ ms_G A00 c = l
        · rw [ms_ic_f (fun q => q z)] at hp
          rw [if_pos (hr.mpr z)]
          exact br_f ms_10 hp
        · rw [ms_ic_t z] at hp
          rw [if_neg (fun q => z (hr.mp q))]
          -- l isn't the top, and isn't none
          have l32 : l < 32 := by
            apply Classical.byContradiction
            intro q
            have : l = 32 := by have := ms_La_le hL la; omega
            rw [this, ms_it_32] at hit
            omega
          have lt : l ≠ gp := fun q => z ((hH l l32).mpr (Or.inr q))
          cases k' with
          | zero => exact absurd hit lt
          | succ k' =>
            have l0 : ¬ e0 l = 0 := fun q => by
              rw [← he0] at q
              have := hE0 _ _ la (Or.inl rfl) q
              omega
            refine br_t rfl (my_mbf l0 ?_)
            have emo : (if ms_lo (fun c => v4 c = e0 l) 32 < 32 then v5 (ms_lo (fun c => v4 c = e0 l) 32) else 0) = e0 (ms_mo A00 l) := by
              have elo : ms_lo (fun c => v4 c = e0 l) 32 = ms_lo (fun i => ms_G A00 i = l) 32 := ms_lo_congr (Nat.le_refl _) fun c hc => by rw [(h45 c hc).1]; exact ms_E_iff hE0 (ms_La_G hc) la
              rw [elo]
              unfold ms_mo
              by_cases q : ms_lo (fun i => ms_G A00 i = l) 32 < 32
              · rw [if_pos q, if_pos ⟨l32, q⟩, (h45 _ q).2]
              · rw [if_neg q, if_neg (fun w => q w.2), he0]
            rw [emo]
            refine nm_r (nI_1 _) ?_
            rw [show 32 - (k + 1) + 1 = 32 - k by omega]
            have la' : ms_La A00 (ms_mo A00 l) := by
              unfold ms_mo
              by_cases q : l < 32 ∧ ms_lo (fun i => ms_G A00 i = l) 32 < 32
              · rw [if_pos q]; exact ms_La_M hL q.2
              · rw [if_neg q]; exact Or.inl rfl
            exact ih n _ k' (by omega) (by omega) (by omega) hit la' hp
  subst eg
  obtain ⟨k', hk', hit⟩ := ms_near hL p32 hg sp' ne
  refine ⟨33, key 32 33 _ k' (by omega) (by omega) hk' hit (ms_La_M hL r32) ?_⟩
  rw [ms_ny_nm hg hH k' 32 _ hk' hit]
  exact K
theorem my_mas {e : Nat → Int32} (hL : ms_LI A00) (hE0 : ms_E e0 A00) (he0 : e0 32 = 0) (p32 : p < 32) (eg : ms_G A00 p = gp) (hg : gp < 32) (fp : Rf p) (hv : ∀ r, r < 32 → (Rv r ↔ (Rf r ∧ r ≠ p))) (hsp : ∀ r, Rv r → ms_Sp A00 p r) (h2 : ∀ i, i < 32 → (¬ v2 i = 0 ↔ Rf i)) (h45 : ∀ i, i < 32 → v4 i = e0 (ms_G A00 i) ∧ v5 i = e0 (ms_M A00 i)) (cf : ms_CF A3 T Rv cp) (pc : ms_PC (ms_G A00) gp A3 T Rv cp (fun _ _ => True) A4) (h89 : ∀ i, i < 32 → v8 i = ms_c (ms_iy T Rv cp i) ∧ v9 i = ms_c (ms_ir T Rv cp i))
    (he : e 32 = 0) (hE : ms_E e A4) (h : ms_CR e A4 us fs rt sp pa pt g m ub) {post : SY → Prop}
    (hq : ∀ m', ms_CR e (ms_wM A4 (ms_M5 A00 gp T Rv cp A4)) us fs rt sp pa pt g m' ub → post (nI N, nI D, nI S, lv, us, fs, rt, sp, ub, pa, pt, g, m', v1, v2, v3, v4, v5, v6, v7, v8, v9)) : ∃ n, wY_attach_501 post (e0 gp) (nI N) (nI D) (nI S) n 0 lv us fs rt sp ub pa pt g m v1 v2 v3 v4 v5 v6 v7 v8 v9 := by
  have hgl : ms_La A00 gp := Or.inr ⟨p, p32, eg⟩
  refine ms_lp (fun n j (z : Nat → Int32) => wY_attach_501 post (e0 gp) (nI N) (nI D) (nI S) n j lv us fs rt sp ub pa pt g z v1 v2 v3 v4 v5 v6 v7 v8 v9) (fun j z => ∀ i, i < 32 → z i = e (ms_ic (ms_Cy T Rv cp i ∧ ms_G A00 (ms_ir T Rv cp i) ≠ gp ∧ i < j) (ms_tg A00 gp Rv cp A4 (ms_ir T Rv cp i) (ms_iy T Rv cp i)) (ms_M A4 i))) 32 (Nat.le_refl _) m (fun i hi => by rw [ms_ic_f fun q => Nat.not_lt_zero _ q.2.2]; exact ms_CR_m h hi) (fun n z hI => ?_) (fun n j z hj cj vj nj hI go => ?_)
  · refine br_t (nI_le (b := 32) (Nat.le_refl _) (by omega)) (hq z (ms_CR_wM h fun i hi => ?_))
    rw [hI i hi]
    exact congrArg e (ms_ic_c ⟨fun q => ⟨q.1, q.2.1⟩, fun q => ⟨q.1, q.2, hi⟩⟩)
  · have skip : ¬ (ms_Cy T Rv cp j ∧ ms_G A00 (ms_ir T Rv cp j) ≠ gp) → ∀ y, y = nI j + 1 → wY_attach_501 post (e0 gp) (nI N) (nI D) (nI S) n y lv us fs rt sp ub pa pt g z v1 v2 v3 v4 v5 v6 v7 v8 v9 := fun no => go z fun i hi => by
      rw [hI i hi]
      refine congrArg e (ms_ic_c ⟨fun q => ⟨q.1, q.2.1, by omega⟩, fun q => ⟨q.1, q.2.1, ?_⟩⟩)
      have : i ≠ j := fun w => no (w ▸ ⟨q.1, q.2.1⟩)
      omega
    refine br_f nj ⟨vj, ?_⟩
    rw [cj, (h89 j hj).2]
    by_cases c : ms_Cy T Rv cp j
    · obtain ⟨vr, tx, ej⟩ := ms_Mk_p cf c
      obtain ⟨r32, x32, _⟩ := cf.1 _ _ vr tx
      refine br_f (fun q => ms_c_neg.mp q r32) ⟨vj, ms_c_in r32, ?_⟩
      rw [ms_c_cl r32, (h45 _ r32).1, (h45 _ r32).2]
      refine br_c (fun zt => skip fun q => q.2 (hE0 _ _ (ms_La_G r32) hgl zt)) (fun zt => ⟨vj, ms_c_in r32, nm_e ?_⟩)
      have nt : ms_G A00 (ms_ir T Rv cp j) ≠ gp := fun q => zt (by rw [q])
      have fin : ∀ z', z' = upd z j (e (ms_tg A00 gp Rv cp A4 (ms_ir T Rv cp j) (ms_iy T Rv cp j))) → ∀ y, y = nI j + 1 → wY_attach_501 post (e0 gp) (nI N) (nI D) (nI S) n y lv us fs rt sp ub pa pt g z' v1 v2 v3 v4 v5 v6 v7 v8 v9 := fun z' ez => go z' fun i hi => by
        rw [ez]
        by_cases w : i = j
        · subst w
          rw [ms_us, ms_ic_t ⟨c, nt, by omega⟩]
        · rw [ms_un' w, hI i hi]
          exact congrArg e (ms_ic_c ⟨fun q => ⟨q.1, q.2.1, by omega⟩, fun q => ⟨q.1, q.2.1, by omega⟩⟩)
      have near := ms_nn_ok (Rv := Rv) hL p32 eg hg (hsp _ vr) nt
      generalize ms_ir T Rv cp j = r at *
      generalize hx : ms_iy T Rv cp j = x at *
      refine my_nea hL hE0 he0 p32 eg hg fp hv h2 h45 r32 (hsp r vr) nt ?_
      have v8j : v8 j = ms_c x := by rw [(h89 j hj).1, hx]
      have lan : ms_La A00 (ms_nn A00 gp Rv r) := by
        rcases near with q | ⟨_, _, c', hc', _, q⟩
        · rw [q]; exact hgl
        · exact Or.inr ⟨c', hc', q⟩
      refine br_c (fun z2 => ⟨vj, ?_⟩) (fun z2 => ⟨vj, ?_⟩)
      · have en := hE0 _ _ lan hgl z2
        have et : ms_tg A00 gp Rv cp A4 r x = ms_G A4 x := if_pos en
        rw [et, ← ms_CR_g h x32] at fin
        rw [cj, v8j]
        refine ⟨ms_c_in x32, vj, ?_⟩
        rw [ms_c_cl x32]
        exact fin
      · have en : ¬ ms_nn A00 gp Rv r = gp := fun w => z2 (by rw [w])
        obtain ⟨e1, e2, e3⟩ := near.elim (fun w => absurd w en) id
        obtain ⟨f1, f2, f3⟩ := ms_fr_H e3
        have et : ms_tg A00 gp Rv cp A4 r x = ms_G A4 (cp (ms_fr (ms_G A00) Rv (ms_nn A00 gp Rv r)) x) := if_neg en
        obtain ⟨_, _, z32, _⟩ := cf.1 _ x f2 tx
        have n32 : ms_G A00 (ms_fr (ms_G A00) Rv (ms_nn A00 gp Rv r)) ≠ 32 := by rw [f3]; omega
        have ng : ms_G A00 (ms_fr (ms_G A00) Rv (ms_nn A00 gp Rv r)) ≠ gp := by rw [f3]; exact en
        obtain ⟨_, k2, _⟩ := pc.2.2.2.2.2.1 _ x f2 tx trivial n32 ng
        rw [et] at fin
        rw [cj, v8j]
        refine my_cg2 hE0 cf (fun i hi => (h45 i hi).1) h89 x32 lan (fun i hi ci ix ig g0 => ⟨vj, ?_⟩) (fun none => ?_)
        · obtain ⟨vi, ti, ei⟩ := ms_Mk_p cf ci
          have same : ms_G A4 i = ms_G A4 (cp (ms_fr (ms_G A00) Rv (ms_nn A00 gp Rv r)) x) := by
            rw [ei, ix]
            rw [ix] at ti
            exact (pc.2.2.2.2.2.2 _ x _ x vi ti trivial (by rw [ig]; omega) (by rw [ig]; exact en) f2 tx trivial n32 ng).mpr ⟨rfl, by rw [ig, f3]⟩
          rw [ms_CR_g h hi, same]
          exact fin
        · exfalso
          have cy : ms_Cy T Rv cp (cp (ms_fr (ms_G A00) Rv (ms_nn A00 gp Rv r)) x) := ⟨_, x, f2, tx, rfl⟩
          have := none _ z32 cy (ms_iy_is cf f2 tx) (by rw [ms_ir_is cf f2 tx, f3])
          rw [ms_CR_g h z32, ← he] at this
          have := hE _ _ (ms_La_G z32) (Or.inl rfl) this
          omega
    · rw [ms_ir_no c, ms_c_32]
      exact br_t (by decide) (skip fun q => c q.1)
variable {A : ms_AS} {lw : Nat → Prop} {rn : Nat → Nat} {t d : Nat}
theorem my_attach {e : Nat → Int32} (q : ms_Aq N lw rn A00 A T Rv t p d) (hE0 : ms_E e0 A00) (he0 : e0 32 = 0) (fp : Rf p) (hv : ∀ r, r < 32 → (Rv r ↔ (Rf r ∧ r ≠ p))) (h : ms_CR e A us fs rt sp pa pt g m ub) (he : e 32 = 0) (hE : ms_E e A) (h3 : ∀ i, i < 32 → (¬ v3 i = 0 ↔ T i)) (h2 : ∀ i, i < 32 → (¬ v2 i = 0 ↔ Rf i)) (h45 : ∀ i, i < 32 → v4 i = e0 (ms_G A00 i) ∧ v5 i = e0 (ms_M A00 i)) (hd : d < 15) {post : SY → Prop}
    (hq : ∀ e' us' fs' rt' sp' pa' pt' g' m' ub' v6' v7' v8' v9', e' 32 = 0 → ms_E e' (ms_aF N A00 A T Rv t p d) → ms_CR e' (ms_aF N A00 A T Rv t p d) us' fs' rt' sp' pa' pt' g' m' ub' → post (nI N, nI D, nI S, lv, us', fs', rt', sp', ub', pa', pt', g', m', v1, v2, v3, v4, v5, v6', v7', v8', v9')) : wpY_attach post (nI N, nI D, nI S, lv, us, fs, rt, sp, ub, pa, pt, g, m, v1, v2, v3, v4, v5, v6, v7, v8, v9) (nI t) (nI p) (nI d) := by
  have hN := q.1
  have p32 : p < 32 := by have := q.2.2.2.2.1; omega
  have hTN := ms_q_TN q
  have hTU := q.2.2.2.2.2.2.1
  have tt := q.2.2.2.2.2.2.2.1.1
  have t32 := (hTU t tt).1
  have hRvN : ∀ r, Rv r → r < N := fun r vr => (q.2.2.2.2.2.2.2.2.1 r vr).1
  have vt : vp_in (nI t) 32 := vp_in_nI t32 (by omega)
  have ct : (nI t).toNatClampNeg = t := nI_clamp (by omega)
  have h1 := ms_CR_lk h t p d
  rw [ms_c_lt p32, ms_c_lt (n := d) (by omega)] at h1
  refine ⟨vp_in_nI p32 (by omega), ?_⟩
  rw [nI_clamp (by omega), (h45 p p32).1]
  refine nm_e (my_clr fun v8a v9a hab => ?_)
  refine ms_lp (fun n i (z : (Nat → Int32) × (Nat → Int32)) => wY_attach_15 post (nI t) (nI p) (nI d) (e0 (ms_G A00 p)) (nI N) (nI D) (nI S) n i lv us fs rt sp ub pa pt g m v1 v2 v3 v4 v5 z.1 z.2 v8a v9a) (fun i z => ∀ j, j < i → z.1 j = pa j ∧ z.2 j = pt j) 32 (Nat.le_refl _) (v6, v7) lt_0 (fun n z hI => ?_) (fun n i z hi ci vi ni hI go => ?_)
  · obtain ⟨v6', v7'⟩ := z
    dsimp only at hI ⊢
    have h9 : ∀ x, T x → x ≠ t → v6' x = ms_c (ms_P A x) ∧ v7' x = ms_c (ms_Q A x) := fun x tx _ => by
      obtain ⟨x32, ux⟩ := hTU x tx
      rw [(hI x x32).1, (hI x x32).2, ms_CR_p h x32 ux, ms_CR_q h x32 ux]
      exact ⟨rfl, rfl⟩
    refine br_t (nI_le (b := 32) (Nat.le_refl _) (by omega)) ⟨vt, ?_⟩
    rw [ct]
    refine nm_e ⟨vt, nm_e ?_⟩
    by_cases hg : ms_G A00 p < 32
    · have eF : ms_aF N A00 A T Rv t p d = ms_a5 N A00 A T Rv t p d := ms_ic_t hg
      rw [eF] at hq
      obtain ⟨l2, s2, f2, g2⟩ := ms_q_2 q
      have cf := ms_q_cf q
      refine br_f (fun k => ?_) ?_
      · rw [← he0] at k
        have := hE0 _ _ (ms_La_G p32) (Or.inl rfl) k
        omega
      -- groups for the set
      refine ms_lp (fun n i (z : Nat → Int32) => wY_attach_79 post (nI t) (nI p) (nI d) (e0 (ms_G A00 p)) (nI N) (nI D) (nI S) n i lv us fs rt sp ub (upd pa t (nI p)) (upd pt t (nI d)) z m v1 v2 v3 v4 v5 v6' v7' v8a v9a) (fun k z => ∃ e', e' 32 = 0 ∧ ms_E e' (ms_fo (ms_f2 T) (ms_lk A t p d) k) ∧ ms_CR e' (ms_fo (ms_f2 T) (ms_lk A t p d) k) us fs rt sp (upd pa t (nI p)) (upd pt t (nI d)) z m ub) 32 (Nat.le_refl _) g ⟨e, he, hE, h1⟩ (fun n g' hA => ?_) (fun n x g' hi ci vi ni hA go => ?_)
      · obtain ⟨e2, i1, i2, i3⟩ := hA
        have cut2 : ms_fo (ms_f2 T) (ms_lk A t p d) 32 = ms_a2 N A T t p d := ms_fo_cut hN fun i s a b => ms_f2_f fun k => by have := hTN i k.1; omega
        rw [cut2] at i2 i3
        have cut3 : ∀ k, N ≤ k → k ≤ 32 → ms_a3 N A T Rv t p d k = ms_a3 N A T Rv t p d N := fun k hk _ => ms_fo_cut hk fun i s a b => ms_f3_f fun vr => by have := hRvN i vr; omega
        -- the copies
        refine br_t (nI_le (b := 32) (Nat.le_refl _) (by omega)) ?_
        refine ms_lp (fun n i (z : (Nat → Int32) × (Nat → Int32) × (Nat → Int32) × (Nat → Int32) × (Nat → Int32) × (Nat → Int32) × (Nat → Int32) × (Nat → Int32) × (Nat → Int32) × (Nat → Int32) × (Nat → Int32)) => wY_attach_126 post (nI t) (nI p) (nI d) (e0 (ms_G A00 p)) n i (nI N) (nI D) (nI S) lv z.1 z.2.1 z.2.2.1 z.2.2.2.1 z.2.2.2.2.2.2.2.2.1 z.2.2.2.2.1 z.2.2.2.2.2.1 z.2.2.2.2.2.2.1 z.2.2.2.2.2.2.2.1 v1 v2 v3 v4 v5 v6' v7' z.2.2.2.2.2.2.2.2.2.1 z.2.2.2.2.2.2.2.2.2.2) (fun k z => ms_CR e2 (ms_a3 N A T Rv t p d k) z.1 z.2.1 z.2.2.1 z.2.2.2.1 z.2.2.2.2.1 z.2.2.2.2.2.1 z.2.2.2.2.2.2.1 z.2.2.2.2.2.2.2.1 z.2.2.2.2.2.2.2.2.1 ∧ ∀ i, i < 32 → z.2.2.2.2.2.2.2.2.2.1 i = ms_c (if ms_ir T Rv (ms_ac N A T Rv t p d) i < k then ms_iy T Rv (ms_ac N A T Rv t p d) i else 32) ∧ z.2.2.2.2.2.2.2.2.2.2 i = ms_c (if ms_ir T Rv (ms_ac N A T Rv t p d) i < k then ms_ir T Rv (ms_ac N A T Rv t p d) i else 32)) 32 (Nat.le_refl _) (us, fs, rt, sp, upd pa t (nI p), upd pt t (nI d), g', m, ub, v8a, v9a) ⟨i3, fun i hi => by rw [if_neg (Nat.not_lt_zero _), if_neg (Nat.not_lt_zero _), ms_c_32]; exact hab i hi⟩ (fun n z hB => ?_) (fun n r z hi ci vi ni hB go => ?_)
        · obtain ⟨us3, fs3, rt3, sp3, pa3, pt3, g3, m3, ub3, v8b, v9b⟩ := z
          obtain ⟨hB, hW⟩ := hB
          dsimp only at hB hW ⊢
          rw [cut3 32 hN (Nat.le_refl _)] at hB
          have h89 : ∀ i, i < 32 → v8b i = ms_c (ms_iy T Rv (ms_ac N A T Rv t p d) i) ∧ v9b i = ms_c (ms_ir T Rv (ms_ac N A T Rv t p d) i) := fun i hi => by
            rw [(hW i hi).1, (hW i hi).2]
            by_cases k : ms_ir T Rv (ms_ac N A T Rv t p d) i < 32
            · rw [if_pos k, if_pos k]; exact ⟨rfl, rfl⟩
            · have nc : ¬ ms_Cy T Rv (ms_ac N A T Rv t p d) i := fun c => k (cf.1 _ _ (ms_Mk_p cf c).1 (ms_Mk_p cf c).2.1).1
              rw [if_neg k, if_neg k, ms_ir_no nc, ms_iy_no nc]; exact ⟨rfl, rfl⟩
          have a3 := ms_q_3 q (Nat.le_refl _)
          have pc := ms_q_4' q hg
          have hE3 : ms_E e2 (ms_a3 N A T Rv t p d N) := ms_E_map i2 fun i hi => by rw [a3.1.2.1]; exact ms_La_G hi
          refine br_t (nI_le (b := 32) (Nat.le_refl _) (by omega)) ?_
          refine my_grp q.2.1 hE0 he0 a3.2 cf hg (ms_La_G p32) pc (fun i hi => (h45 i hi).1) h89 i1 hE3 hB fun e4 g4 m4 j1 j2 j3 => ?_
          exact my_mas q.2.1 hE0 he0 p32 rfl hg fp hv (fun r vr => (q.2.2.2.2.2.1 r vr).1) h2 h45 cf pc h89 j1 j2 j3 fun m5 h5 => hq e4 _ _ _ _ _ _ _ _ _ _ _ _ _ j1 j2 h5
        · obtain ⟨us3, fs3, rt3, sp3, pa3, pt3, g3, m3, ub3, v8b, v9b⟩ := z
          obtain ⟨hB, hW⟩ := hB
          dsimp only at hB hW ⊢
          have es : ms_a3 N A T Rv t p d (r + 1) = ms_f3 N T Rv t d (ms_P A) (ms_Q A) r (ms_a3 N A T Rv t p d r) := rfl
          rw [es] at go
          have skip : ¬ Rv r → ∀ y, y = nI r + 1 → wY_attach_126 post (nI t) (nI p) (nI d) (e0 (ms_G A00 p)) n y (nI N) (nI D) (nI S) lv us3 fs3 rt3 sp3 ub3 pa3 pt3 g3 m3 v1 v2 v3 v4 v5 v6' v7' v8b v9b := fun no => go (us3, fs3, rt3, sp3, pa3, pt3, g3, m3, ub3, v8b, v9b) ⟨by rw [ms_f3_f no]; exact hB, fun i i32 => by
            have ne : ms_ir T Rv (ms_ac N A T Rv t p d) i ≠ r := fun k => no (k ▸ (ms_Mk_p cf (ms_ir_lt (by omega))).1)
            have : (ms_ir T Rv (ms_ac N A T Rv t p d) i < r + 1) ↔ ms_ir T Rv (ms_ac N A T Rv t p d) i < r := by omega
            simp only [this]
            exact hW i i32⟩
          refine br_f ni ⟨vi, ?_⟩
          rw [ci]
          refine br_c (fun w => skip fun vr => (h2 r hi).mpr ((hv r hi).mp vr).1 w) (fun w => br_c (fun w2 => skip fun vr => ?_) (fun w2 => ?_))
          · exact ((hv r hi).mp vr).2 ((nI_eq (by omega) (by omega)).mp w2)
          · have vr : Rv r := (hv r hi).mpr ⟨(h2 r hi).mp w, fun k => w2 (by rw [k])⟩
            have rN := hRvN r vr
            obtain ⟨ai, li⟩ := ms_q_3 q (k := r) (by omega)
            have room := ms_AI_room hN g2 ai rN vr
            have tr := ms_AI_Tr g2 ai
            have hTB : ∀ x, T x → x < N ∧ ms_U (ms_a3 N A T Rv t p d r) x := fun x tx => ⟨hTN x tx, (ai.2.2.2.1 x (hTU x tx).1 (g2.1 x tx).2).1⟩
            have urB : ms_U (ms_a3 N A T Rv t p d r) r := (ai.2.2.2.1 r hi (g2.2.2.1 r vr).2.1).1
            have ecp : ∀ x, ms_ac N A T Rv t p d r x = ms_yn N (ms_U (ms_a3 N A T Rv t p d r)) T x := fun x => rfl
            have hcB : ms_Cm N (ms_a3 N A T Rv t p d r) T (ms_ix N (ms_U (ms_a3 N A T Rv t p d r)) T) (ms_yn N (ms_U (ms_a3 N A T Rv t p d r)) T) := ms_Cm_yn hN room fun x tx => (hTU x tx).1
            rw [ms_f3_t vr] at go
            generalize ms_a3 N A T Rv t p d r = B3 at hB go ai li room tr hTB urB ecp hcB
            refine my_at hB ai.1 hN hi (by omega) ?_
            refine my_csf hN hB i1 ai.1 li hTB tr rN urB room (by omega) h3 h9 (a := fun i => if ms_ir T Rv (ms_ac N A T Rv t p d) i < r then ms_ir T Rv (ms_ac N A T Rv t p d) i else 32) (b := fun i => if ms_ir T Rv (ms_ac N A T Rv t p d) i < r then ms_iy T Rv (ms_ac N A T Rv t p d) i else 32) (fun i i32 => ?_) hW fun us4 fs4 rt4 sp4 pa4 pt4 g4 m4 ub4 v8c v9c h4 hc4 => go (us4, fs4, rt4, sp4, pa4, pt4, g4, m4, ub4, v8c, v9c) ⟨h4, fun i i32 => ?_⟩
            · by_cases k : ms_ir T Rv (ms_ac N A T Rv t p d) i < r
              · rw [if_pos k]; omega
              · rw [if_neg k]; omega
            · dsimp only
              rw [(hc4 i i32).1, (hc4 i i32).2]
              by_cases k : ms_ix N (ms_U B3) T i < 32
              · obtain ⟨tx, yx⟩ := hcB.2 i i32 k
                have ei : i = ms_ac N A T Rv t p d r (ms_ix N (ms_U B3) T i) := by rw [ecp]; exact yx.symm
                have k1 : ms_ir T Rv (ms_ac N A T Rv t p d) i = r := by rw [ei]; exact ms_ir_is cf vr tx
                have k2 : ms_iy T Rv (ms_ac N A T Rv t p d) i = ms_ix N (ms_U B3) T i := by
                  have := ms_iy_is cf vr tx
                  rw [← ei] at this
                  exact this
                rw [if_pos k, if_pos k, k1, k2, if_pos (by omega), if_pos (by omega)]; exact ⟨rfl, rfl⟩
              · have ne : ms_ir T Rv (ms_ac N A T Rv t p d) i ≠ r := fun w => by
                  obtain ⟨_, tx, ei⟩ := ms_Mk_p cf (ms_ir_lt (i := i) (T := T) (Rv := Rv) (cp := ms_ac N A T Rv t p d) (by omega))
                  rw [w, ecp] at ei
                  have := (hcB.1 _ tx).2.2.2
                  rw [← ei] at this
                  exact k (by rw [this]; exact (hTU _ tx).1)
                have : (ms_ir T Rv (ms_ac N A T Rv t p d) i < r + 1) ↔ ms_ir T Rv (ms_ac N A T Rv t p d) i < r := by omega
                rw [if_neg k, if_neg k]
                simp only [this]
                exact ⟨trivial, trivial⟩
      · obtain ⟨e2, i1, i2, i3⟩ := hA
        have es : ms_fo (ms_f2 T) (ms_lk A t p d) (x + 1) = ms_f2 T x (ms_fo (ms_f2 T) (ms_lk A t p d) x) := rfl
        obtain ⟨a1, a2, _⟩ := ms_2_i (A1 := ms_lk A t p d) (T := T) q.2.2.1 (fun x tx => hTU x tx) x
        rw [es] at go
        generalize ms_fo (ms_f2 T) (ms_lk A t p d) x = B2 at i2 i3 go a1 a2
        refine br_f ni ⟨vi, ?_⟩
        rw [ci]
        refine br_c (fun w => go g' ⟨e2, i1, ?_, ?_⟩) (fun w => ⟨vi, br_c (fun w2 => ?_) (fun w2 => go g' ⟨e2, i1, ?_, ?_⟩)⟩)
        · rw [ms_f2_f fun k => (h3 x hi).mpr k.1 w]; exact i2
        · rw [ms_f2_f fun k => (h3 x hi).mpr k.1 w]; exact i3
        · have ng := (ms_CR_gz i3 i2 a1 i1 hi).mp w2
          rw [ms_f2_t ⟨(h3 x hi).mp w, ng⟩] at go
          have g32 : ms_G B2 x = 32 := by have := (a1.1 x hi).1; omega
          obtain ⟨l32, fl⟩ := ms_nl_ok hi g32
          refine my_frh (ms_CR_live i3 a1 i1) fun nr r0 fr => ⟨vi, ?_⟩
          obtain ⟨e3, b1, b2, b3, _⟩ := ms_CR_new i3 i2 a1 i1 (x := x) l32 fl r0 fr
          exact nm_e (go _ ⟨e3, b1, b2, b3⟩)
        · rw [ms_f2_f fun k => w2 ((ms_CR_gz i3 i2 a1 i1 hi).mpr k.2)]; exact i2
        · rw [ms_f2_f fun k => w2 ((ms_CR_gz i3 i2 a1 i1 hi).mpr k.2)]; exact i3
    · have eF : ms_aF N A00 A T Rv t p d = ms_lk A t p d := ms_ic_f hg
      rw [eF] at hq
      have e32 : ms_G A00 p = 32 := by have := (q.2.1.1 p p32).1; omega
      exact br_t (by rw [e32]; exact he0) (hq e _ _ _ _ _ _ _ _ _ _ _ _ _ he hE h1)
  · refine br_f ni ⟨vi, vi, ?_⟩
    rw [ci]
    refine nm_e ⟨vi, vi, nm_e (go (upd z.1 i (pa i), upd z.2 i (pt i)) (lt_s (fun j hj => ?_) ?_))⟩
    · dsimp only; rw [ms_un' (by omega), ms_un' (by omega)]; exact hI j hj
    · dsimp only; rw [ms_us, ms_us]; exact ⟨rfl, rfl⟩
end
end
section
/-! mount and move -/
theorem ms_o_s (q : Nat) : ms_o (some q) = nI q := rfl
section
variable {N D : Nat} {lw : Nat → Prop} {rn : Nat → Nat} {A : ms_AS} {s p d : Nat}
theorem ms_wgd (hF : ms_FI N lw rn A) (hN : N ≤ 32) (hD : D ≤ 15) (s4 : s < 4) (ls : lw s) {x : Int32} {q : Nat} (hw : ms_wk N D A x 16 (ms_cr N A 32 (rn s) (ms_R A (rn s))) = some q) : ms_gd A s (q / 16) (q % 16) := by
  obtain ⟨r1, r2, r3, r4, _⟩ := hF.2.2.2.1 s s4 ls
  have hR := hF.2.1 _ r1
  exact ms_gd_wk hF hN hD 16 _ q (ms_gd_cr hF hN 32 _ _ ⟨r1, r2, r3, hR, ms_un_r _ (by omega)⟩) hw
theorem ms_Rc_k (hF : ms_FI N lw rn A) (hL : ms_LI A) (g : ms_gd A s p d) {r : Nat} (h : ms_Rc A p d r) : r < N ∧ r < 32 ∧ ms_U A r ∧ ms_un d (ms_R A r) := by
  have r32 := ms_Sp_32 g.1 h.1
  have u := ms_Sp_U hL g.2.1 h.1
  exact ⟨(hF.1 r r32 u).1, r32, u, h.2⟩
theorem ms_Rc_n (hF : ms_FI N lw rn A) (hL : ms_LI A) (hN : N ≤ 32) (g : ms_gd A s p d) : ms_cn (ms_Rc A p d) 32 = ms_cn (fun r => ms_Rc A p d r ∧ r ≠ p) N + 1 := by
  rw [ms_cn_cut hN fun j a b q => by have := (ms_Rc_k hF hL g q).1; omega]
  rw [← ms_cn_add (P := fun r => ms_Rc A p d r ∧ r ≠ p) (a := p) (fun q => q.2 rfl) (hF.1 p g.1 g.2.1).1]
  refine ms_cn_eq fun k _ => ⟨fun q => ?_, fun q => q.elim (fun q => q.1) fun q => ?_⟩
  · by_cases w : k = p
    · exact Or.inr w
    · exact Or.inl ⟨q, w⟩
  · rw [q]; exact ⟨ms_Cl_r, g.2.2.2.2⟩
end
theorem ms_LI_nw {A : ms_AS} (h : ms_LI A) {y : Nat} (hy : y < 32) (uy : ¬ ms_U A y) (f : Int32) (r s : Nat) : ms_LI (ms_nw A y f r s) := by
  refine ms_LI_ext h fun i hi => ⟨fun u => Or.inl (Or.inr u), ?_, ?_⟩
  · by_cases q : i = y
    · subst q
      rw [(h.2.1 i hi uy).1]
      exact (ms_fu_s (f := ms_G A) (k := i) (v := 32)).symm
    · exact (ms_fu_n (f := ms_G A) q).symm
  · by_cases q : i = y
    · subst q
      rw [(h.2.1 i hi uy).2]
      exact (ms_fu_s (f := ms_M A) (k := i) (v := 32)).symm
    · exact (ms_fu_n (f := ms_M A) q).symm
theorem ms_E_nw {e : Nat → Int32} {A : ms_AS} (hE : ms_E e A) {y : Nat} {f : Int32} {r s : Nat} : ms_E e (ms_nw A y f r s) := ms_E_map hE fun i hi => by
  by_cases q : i = y
  · subst q
    have : ms_G (ms_nw A i f r s) i = 32 := ms_fu_s
    rw [this]; exact Or.inl rfl
  · have : ms_G (ms_nw A y f r s) i = ms_G A i := ms_fu_n q
    rw [this]; exact ms_La_G hi
/-- mount: what attach is given -/
theorem ms_Aq_mt {N : Nat} {lw : Nat → Prop} {rn : Nat → Nat} {A : ms_AS} {s p d y : Nat} {f : Int32} (hN : N ≤ 32) (hF : ms_FI N lw rn A) (hL : ms_LI A) (g : ms_gd A s p d) (ey : ms_lo (fun c => ¬ ms_U A c) N = y) (y32 : y < 32) (room : ms_cn (ms_Rc A p d) 32 ≤ ms_cn (fun c => ¬ ms_U A c) N) :
    ms_Aq N lw rn A (ms_nw A y f 0 s) (fun i => i = y) (fun r => ms_Rc A p d r ∧ r ≠ p) y p d := by
  have yN : y < N := by rw [← ey]; exact ms_lo_lt hN (by omega)
  have uy : ¬ ms_U A y := by rw [← ey]; exact ms_lo_P (P := fun c => ¬ ms_U A c) hN (by omega)
  refine ⟨hN, hL, ms_LI_nw hL y32 uy _ _ _, ms_FI_nw hF yN y32 uy g.1 g.2.1 g.2.2.1 g.2.2.2.1 g.2.2.2.2, (hF.1 p g.1 g.2.1).1, fun r v => ⟨v.1.1, v.2⟩, fun x q => ?_, ⟨rfl, fun x q => ?_, fun x q n => absurd q n, fun _ => 0, fun x q n => absurd q n⟩, fun r v => ?_, g.2.2.2.1, ?_⟩
  · rw [q]; exact ⟨y32, Or.inl rfl⟩
  · rw [q]
    have : ms_R (ms_nw A y f 0 s) y = 0 := ms_fu_s
    rw [this]; exact ⟨y32, by omega⟩
  · obtain ⟨r1, r2, r3, r4⟩ := ms_Rc_k hF hL g v.1
    have ne : r ≠ y := fun q => uy (q ▸ r3)
    have : ms_R (ms_nw A y f 0 s) r = ms_R A r := ms_fu_n ne
    rw [this]; exact ⟨r1, Or.inr r3, r4⟩
  · rw [ms_cn_one y32, Nat.one_mul]
    rw [ms_Rc_n hF hL hN g] at room
    have e : ms_cn (fun c => ¬ ms_U A c) N = ms_cn (fun i => ¬ ms_U (ms_nw A y f 0 s) i) N + 1 := by
      rw [← ms_cn_add (P := fun i => ¬ ms_U (ms_nw A y f 0 s) i) (a := y) (fun q => q (Or.inl rfl)) yN]
      refine ms_cn_eq fun k _ => ⟨fun q => ?_, fun q => ?_⟩
      · by_cases w : k = y
        · exact Or.inr w
        · exact Or.inl fun u => u.elim w q
      · rcases q with q | q
        · exact fun u => q (Or.inr u)
        · rw [q]; exact uy
    omega
section
variable {N D S : Nat} {us fs rt sp pa pt g m ub lv rm w1 w2 w3 w4 w5 w6 w7 w8 w9 wa wb : Nat → Int32}
variable {A : ms_AS} {lw : Nat → Prop} {rn : Nat → Nat}
theorem mx_mount {s q y : Nat} {v2 v3 : Int32} (hN : N ≤ 32) (hD : D ≤ 15) (hS : S ≤ 4) (h : ms_CR ms_c A us fs rt sp pa pt g m ub) (hF : ms_FI N lw rn A) (hL : ms_LI A) (hl : ∀ s, s < 4 → (lv s = 0 ↔ ¬ lw s)) (hr : ∀ s, s < 4 → lw s → rm s = nI (rn s)) (hs : s < S) (ls : lw s) (k0 : ¬ v3 < 0) (k8 : v3 < 8) (hw : ms_wk N D A v2 16 (ms_cr N A 32 (rn s) (ms_R A (rn s))) = some q) (ey : ms_lo (fun c => ¬ ms_U A c) N = y) {post : Int32 → SX → Prop}
    (h4 : ¬ ms_cn (ms_Rc A (q / 16) (q % 16)) 32 ≤ ms_cn (fun c => ¬ ms_U A c) N → ∀ w1' w2' w7' w8', post (-4) (nI N, nI D, nI S, us, fs, rt, sp, pa, pt, g, m, ub, lv, rm, w1', w2', w3, w4, w5, w6, w7', w8', w9, wa, wb))
    (hq : ms_cn (ms_Rc A (q / 16) (q % 16)) 32 ≤ ms_cn (fun c => ¬ ms_U A c) N → ∀ us' fs' rt' sp' pa' pt' g' m' ub' w1' w2' w5' w7' w8' w9' wa' wb', ms_CR ms_c (ms_aF N A (ms_nw A y v3 0 s) (fun i => i = y) (fun r => ms_Rc A (q / 16) (q % 16) r ∧ r ≠ q / 16) y (q / 16) (q % 16)) us' fs' rt' sp' pa' pt' g' m' ub' → post (nI y) (nI N, nI D, nI S, us', fs', rt', sp', pa', pt', g', m', ub', lv, rm, w1', w2', w3, w4, w5', w6, w7', w8', w9', wa', wb')) : wpX_mount post (nI N, nI D, nI S, us, fs, rt, sp, pa, pt, g, m, ub, lv, rm, w1, w2, w3, w4, w5, w6, w7, w8, w9, wa, wb) (nI s) v2 v3 := by
  have s4 : s < 4 := by omega
  have gq := ms_wgd hF hN hD s4 ls hw
  have q31 : q < 2 ^ 31 := by have := ms_gd_q gq; omega
  have pN := (hF.1 _ gq.1 gq.2.1).1
  have c1 := ms_cn_le (ms_Rc A (q / 16) (q % 16)) 32
  have c2 := ms_cn_le (fun c => ¬ ms_U A c) N
  unfold wpX_mount
  refine mx_il1 hS hl hs ls (br_f ms_10 (br_f k0 (br_t k8 (mx_walk h hF hN hD s4 ls (hr s s4 ls) ?_))))
  rw [hw, ms_o_s]
  refine br_t (nI_pos' q31) ?_
  intro x5 e5 x6 e6
  rw [e5, e6, ms_p4 q31, ms_p15 q31]
  refine mx_fre h hF hL hN pN (by omega) fun w r og om hro => mx_fct hN ?_
  rw [ms_rd_fc h hN, nI_leI (by omega) (by omega)]
  refine br_c (fun z => ?_) (fun z => h4 z _ _ _ _)
  have pos : 0 < ms_cn (ms_Rc A (q / 16) (q % 16)) 32 := by rw [ms_Rc_n hF hL hN gq]; omega
  have y32 : y < 32 := by
    rw [← ey]
    apply Classical.byContradiction
    intro n
    have := ms_cn_no (ms_lo_no hN n)
    omega
  have yN : y < N := by rw [← ey]; exact ms_lo_lt hN (by omega)
  refine mx_nwm hN (y := y) (by rw [ms_rd_nw h hN]; exact ey) y32 (mx_cls fun w5' hw5 => ⟨vp_in_nI y32 (by omega), ?_⟩)
  rw [nI_clamp (by omega)]
  have n1 := ms_CR_nw h ms_c_32 y v3 0 s
  refine nm_e (mx_attach (ms_Aq_mt (f := v3) hN hF hL gq ey y32 z) (fun i hi u => (hF.1 i hi u).1) n1 (fun i hi => ms_ws.trans ⟨fun k => k.elim (fun k => absurd (hw5 i hi) k) id, Or.inr⟩) (fun i hi => and_congr (hro i hi).1 Iff.rfl) (fun i hi => ⟨by rw [(hro i hi).2.1, ms_CR_g h hi], by rw [(hro i hi).2.2, ms_CR_m h hi]⟩) gq.2.2.2.1 fun us' fs' rt' sp' pa' pt' g' m' ub' w2' w9' wa' wb' h' => hq z _ _ _ _ _ _ _ _ _ _ _ _ _ _ _ _ _ h')
end
section
variable {N D S : Nat} {lv us fs rt sp ub pa pt g m v1 v2 v3 v4 v5 v6 v7 v8 v9 : Nat → Int32}
variable {e : Nat → Int32} {A : ms_AS} {lw : Nat → Prop} {rn : Nat → Nat}
theorem my_mount {s q y : Nat} {b2 b3 : Int32} (hN : N ≤ 32) (hD : D ≤ 15) (hS : S ≤ 4) (h : ms_CR e A us fs rt sp pa pt g m ub) (he : e 32 = 0) (hE : ms_E e A) (hF : ms_FI N lw rn A) (hL : ms_LI A) (hl : ∀ s, s < 4 → (lv s = 0 ↔ ¬ lw s)) (hs : s < S) (ls : lw s) (k0 : ¬ b3 < 0) (k8 : b3 < 8) (hw : ms_wk N D A b2 16 (ms_cr N A 32 (rn s) (ms_R A (rn s))) = some q) (ey : ms_lo (fun c => ¬ ms_U A c) N = y) {post : Int32 → SY → Prop}
    (h4 : ¬ ms_cn (ms_Rc A (q / 16) (q % 16)) 32 ≤ ms_cn (fun c => ¬ ms_U A c) N → ∀ v1' v2' v4' v5', post (-4) (nI N, nI D, nI S, lv, us, fs, rt, sp, ub, pa, pt, g, m, v1', v2', v3, v4', v5', v6, v7, v8, v9))
    (hq : ms_cn (ms_Rc A (q / 16) (q % 16)) 32 ≤ ms_cn (fun c => ¬ ms_U A c) N → ∀ e' us' fs' rt' sp' pa' pt' g' m' ub' v1' v2' v3' v4' v5' v6' v7' v8' v9', e' 32 = 0 → ms_E e' (ms_aF N A (ms_nw A y b3 0 s) (fun i => i = y) (fun r => ms_Rc A (q / 16) (q % 16) r ∧ r ≠ q / 16) y (q / 16) (q % 16)) → ms_CR e' (ms_aF N A (ms_nw A y b3 0 s) (fun i => i = y) (fun r => ms_Rc A (q / 16) (q % 16) r ∧ r ≠ q / 16) y (q / 16) (q % 16)) us' fs' rt' sp' pa' pt' g' m' ub' → post (nI y) (nI N, nI D, nI S, lv, us', fs', rt', sp', ub', pa', pt', g', m', v1', v2', v3', v4', v5', v6', v7', v8', v9')) : wpY_mount post (nI N, nI D, nI S, lv, us, fs, rt, sp, ub, pa, pt, g, m, v1, v2, v3, v4, v5, v6, v7, v8, v9) (nI s) b2 b3 := by
  have s4 : s < 4 := by omega
  have gq := ms_wgd hF hN hD s4 ls hw
  have q31 : q < 2 ^ 31 := by have := ms_gd_q gq; omega
  have pN := (hF.1 _ gq.1 gq.2.1).1
  have c1 := ms_cn_le (ms_Rc A (q / 16) (q % 16)) 32
  have c2 := ms_cn_le (fun c => ¬ ms_U A c) N
  unfold wpY_mount
  refine my_il1 hS hl hs ls (br_f ms_10 (br_f k0 (br_t k8 (my_walk h hF hN hD s4 ls ?_))))
  rw [hw, ms_o_s]
  refine br_t (nI_pos' q31) ⟨by decide, by decide, ?_⟩
  rw [ms_pr q31, ms_pd q31]
  refine my_fre h hE he hF hL hN pN (by omega) fun w r og om hro => my_fct hN ?_
  rw [ms_rd_fc h hN, nI_leI (by omega) (by omega)]
  refine br_c (fun z => ?_) (fun z => h4 z _ _ _ _)
  have pos : 0 < ms_cn (ms_Rc A (q / 16) (q % 16)) 32 := by rw [ms_Rc_n hF hL hN gq]; omega
  have y32 : y < 32 := by
    rw [← ey]
    apply Classical.byContradiction
    intro n
    have := ms_cn_no (ms_lo_no hN n)
    omega
  have n1 := ms_CR_nw h he y b3 0 s
  refine my_nwm hN (y := y) (by rw [ms_rd_nw h hN]; exact ey) y32 ?_
  refine ms_lp (fun n i (c : Nat → Int32) => wY_mount_79 post (nI q) (nI y) (nI N) (nI D) (nI S) n i lv (upd us y (vp_nar .boolean 1)) (upd fs y b3) (upd rt y 0) (upd sp y (nI s)) (upd ub y 0) (upd pa y (-1)) (upd pt y (-1)) (upd g y 0) (upd m y 0) w r c og om v6 v7 v8 v9) (fun i c => ∀ j, j < i → (¬ c j = 0 ↔ j = y)) 32 (Nat.le_refl _) v3 lt_0 (fun n c hI => ?_) (fun n i c hi ci vi ni hI go => ?_)
  · refine br_t (nI_le (b := 32) (Nat.le_refl _) (by omega)) ⟨by decide, by decide, ?_⟩
    rw [ms_pr q31, ms_pd q31]
    refine my_attach (Rf := ms_Rc A (q / 16) (q % 16)) (e0 := e) (ms_Aq_mt (f := b3) hN hF hL gq ey y32 z) hE he ⟨ms_Cl_r, gq.2.2.2.2⟩ (fun r _ => Iff.rfl) n1 he (ms_E_nw hE) hI (fun i hi => (hro i hi).1) (fun i hi => ⟨by rw [(hro i hi).2.1, ms_CR_g h hi], by rw [(hro i hi).2.2, ms_CR_m h hi]⟩) gq.2.2.2.1 fun e' us' fs' rt' sp' pa' pt' g' m' ub' v6' v7' v8' v9' i1 i2 i3 => hq z e' _ _ _ _ _ _ _ _ _ _ _ _ _ _ _ _ _ _ i1 i2 i3
  · refine br_f ni (br_c (fun k => ⟨vi, ?_⟩) (fun k => ⟨vi, ?_⟩))
    · rw [ci]
      have ei := (nI_eq (by omega) (by omega)).mp k
      exact nm_e (go _ (ms_wb hI (ms_v1 ei) Iff.rfl))
    · rw [ci]
      have ei : ¬ i = y := fun w => k (by rw [w])
      exact nm_e (go _ (ms_wb hI (ms_v0 ei) Iff.rfl))
end
theorem i_vc_mount {k : Nat} {u : SX} {v : SY} (I : i_Rel k u v) (hk : k + 5 ≤ 2563) (v1 : Int32) (v2 : Int32) (v3 : Int32) : wpX_mount (fun r u' => wpY_mount (fun r' v' => r' = r ∧ i_Rel (k + 5) u' v') v v1 v2 v3) u v1 v2 v3 := by
  refine ms_el (P := fun u v => wpX_mount (fun r u' => wpY_mount (fun r' v' => r' = r ∧ i_Rel (k + 5) u' v') v v1 v2 v3) u v1 v2 v3) I ?_
  intro N D S A lw rn e us fs rt sp pa pt g m ub lv rm w1 w2 w3 w4 w5 w6 w7 w8 w9 wa wb lvy usy fsy rty spy uby pay pty gy my v1y v2y v3y v4y v5y v6y v7y v8y v9y hI h hl hr he hE h' hl'
  have J : i_Rel (k + 5) (nI N, nI D, nI S, us, fs, rt, sp, pa, pt, g, m, ub, lv, rm, w1, w2, w3, w4, w5, w6, w7, w8, w9, wa, wb) (nI N, nI D, nI S, lvy, usy, fsy, rty, spy, uby, pay, pty, gy, my, v1y, v2y, v3y, v4y, v5y, v6y, v7y, v8y, v9y) := ms_mk hI h hl hr he hE h' hl'
  obtain ⟨hN, hN8, hD, hS, hF, hL⟩ := hI
  by_cases c : ∃ s, s < S ∧ v1 = nI s ∧ lw s
  · obtain ⟨s, hs, rfl, ls⟩ := c
    have s4 : s < 4 := by omega
    by_cases k0 : v3 < 0
    · unfold wpX_mount wpY_mount
      exact mx_il1 hS hl hs ls (br_f ms_10 (br_t k0 (my_il1 hS hl' hs ls (br_f ms_10 (br_t k0 ⟨rfl, J⟩)))))
    by_cases k8 : v3 < 8
    · cases hw : ms_wk N D A v2 16 (ms_cr N A 32 (rn s) (ms_R A (rn s))) with
      | none =>
        unfold wpX_mount wpY_mount
        refine mx_il1 hS hl hs ls (br_f ms_10 (br_f k0 (br_t k8 (mx_walk h hF hN hD s4 ls (hr s s4 ls) ?_))))
        rw [hw]
        refine br_f (by decide) (my_il1 hS hl' hs ls (br_f ms_10 (br_f k0 (br_t k8 (my_walk h' hF hN hD s4 ls ?_)))))
        rw [hw]
        exact br_f (by decide) ⟨rfl, J⟩
      | some q =>
        have gq := ms_wgd hF hN hD s4 ls hw
        refine mx_mount hN hD hS h hF hL hl hr hs ls k0 k8 hw rfl (fun z w1' w2' w7' w8' => ?_) (fun z us' fs' rt' sp' pa' pt' g' m' ub' w1' w2' w5' w7' w8' w9' wa' wb' hx => ?_)
        · exact my_mount hN hD hS h' he hE hF hL hl' hs ls k0 k8 hw rfl (fun _ v1' v2' v4' v5' => ⟨rfl, ms_mk ⟨hN, hN8, hD, hS, hF, hL⟩ h hl hr he hE h' hl'⟩) (fun z' => absurd z' z)
        · refine my_mount hN hD hS h' he hE hF hL hl' hs ls k0 k8 hw rfl (fun z' => absurd z z') (fun _ e' us2 fs2 rt2 sp2 pa2 pt2 g2 m2 ub2 v1' v2' v3' v4' v5' v6' v7' v8' v9' i1 i2 i3 => ⟨rfl, ?_⟩)
          have pos : 0 < ms_cn (ms_Rc A (q / 16) (q % 16)) 32 := by rw [ms_Rc_n hF hL hN gq]; omega
          have y32 : ms_lo (fun c => ¬ ms_U A c) N < 32 := by
            apply Classical.byContradiction
            intro n
            have := ms_cn_no (ms_lo_no hN n)
            omega
          obtain ⟨qF, qL⟩ := ms_q_F (ms_Aq_mt (f := v3) hN hF hL gq rfl y32 z)
          exact ms_mk ⟨hN, hN8, hD, hS, qF, qL⟩ hx hl hr i1 i2 i3 hl'
    · unfold wpX_mount wpY_mount
      exact mx_il1 hS hl hs ls (br_f ms_10 (br_f k0 (br_f k8 (my_il1 hS hl' hs ls (br_f ms_10 (br_f k0 (br_f k8 ⟨rfl, J⟩)))))))
  · unfold wpX_mount wpY_mount
    exact mx_il0 hS hl c (br_t rfl (my_il0 hS hl' c (br_t rfl ⟨rfl, J⟩)))
end
section
/-! move -/
def ms_m1 (A : ms_AS) (a : Nat) : Prop := a % 16 = ms_R A (a / 16) ∧ ms_P A (a / 16) < 32 ∧ ¬ ms_G A (ms_P A (a / 16)) < 32
def ms_m5 (A : ms_AS) (t p : Nat) : Prop := ms_G A p < 32 ∧ ∃ c, c < 32 ∧ ms_Cl (ms_Rt A (fun _ => True)) t c ∧ ¬ ms_B A c = 0
def ms_m6 (N : Nat) (A : ms_AS) (t p d : Nat) : Prop := ms_cn (ms_Cl (ms_Rt A (fun _ => True)) t) N * ms_cn (fun r => ms_Rc A p d r ∧ r ≠ p) N ≤ ms_cn (fun c => ¬ ms_U A c) N
theorem ms_Aq_mv {N : Nat} {lw : Nat → Prop} {rn : Nat → Nat} {A : ms_AS} {s t p d : Nat} (hN : N ≤ 32) (hF : ms_FI N lw rn A) (hL : ms_LI A) (t32 : t < 32) (ut : ms_U A t) (st : ms_S A t = s) (pt : ms_P A t < 32) (g : ms_gd A s p d) (np : ¬ ms_Cl (ms_Rt A (fun _ => True)) t p) (room : ms_m6 N A t p d) :
    ms_Aq N lw rn A A (ms_Cl (ms_Rt A (fun _ => True)) t) (fun r => ms_Rc A p d r ∧ r ≠ p) t p d := by
  have T32 : ∀ x, ms_Cl (ms_Rt A (fun _ => True)) t x → x < 32 ∧ ms_U A x := fun x c => ⟨ms_Cl_32 t32 c, ms_Cl_U ut c⟩
  refine ⟨hN, hL, hL, ?_, (hF.1 p g.1 g.2.1).1, fun r v => ⟨v.1.1, v.2⟩, T32, ?_, fun r v => ?_, g.2.2.2.1, ?_⟩
  · exact ms_FI_mv (T := ms_Cl (ms_Rt A (fun _ => True)) t) hF t32 ut pt ms_Cl_r (fun i hi u p c => ms_Cl_s c ⟨p, hi, u, rfl, trivial⟩) (fun i _ c n => (ms_Cl_p c n).2.1) g.1 g.2.1 np (by rw [g.2.2.1, st]) g.2.2.2.1 g.2.2.2.2
  · obtain ⟨dp, h5⟩ := hF.2.2.2.2
    refine ⟨ms_Cl_r, fun x c => ⟨(T32 x c).1, hF.2.1 x (T32 x c).1⟩, fun x c n => ?_, dp, fun x c n => h5 x (T32 x c).1 (T32 x c).2 (ms_Cl_p c n).1⟩
    obtain ⟨p1, p2, _⟩ := ms_Cl_p c n
    obtain ⟨_, _, b3, b4⟩ := hF.2.2.1 x (T32 x c).1 (T32 x c).2 p1
    exact ⟨p1, p2, b3, b4⟩
  · obtain ⟨r1, r2, r3, r4⟩ := ms_Rc_k hF hL g v.1
    exact ⟨r1, r3, r4⟩
  · rw [ms_cn_cut (P := ms_Cl (ms_Rt A (fun _ => True)) t) hN fun j a b c => by have := (hF.1 j b (T32 j c).2).1; omega]
    exact room
theorem ms_prod {a b : Nat} (ha : a ≤ 32) (hb : b ≤ 32) : a * b < 2 ^ 31 := by
  have := Nat.mul_le_mul ha hb
  omega
section
variable {N D S : Nat} {us fs rt sp pa pt g m ub lv rm w1 w2 w3 w4 w5 w6 w7 w8 w9 wa wb : Nat → Int32}
variable {A : ms_AS} {lw : Nat → Prop} {rn : Nat → Nat}
theorem mx_move {s a b : Nat} {x2 x3 : Int32} (hN : N ≤ 32) (hD : D ≤ 15) (hS : S ≤ 4) (h : ms_CR ms_c A us fs rt sp pa pt g m ub) (hF : ms_FI N lw rn A) (hL : ms_LI A) (hl : ∀ s, s < 4 → (lv s = 0 ↔ ¬ lw s)) (hr : ∀ s, s < 4 → lw s → rm s = nI (rn s)) (hs : s < S) (ls : lw s) (wa' : ms_wk N D A x2 16 (ms_cr N A 32 (rn s) (ms_R A (rn s))) = some a) (wb' : ms_wk N D A x3 16 (ms_cr N A 32 (rn s) (ms_R A (rn s))) = some b) {post : Int32 → SX → Prop}
    (o1 : ¬ ms_m1 A a → post (-2) (nI N, nI D, nI S, us, fs, rt, sp, pa, pt, g, m, ub, lv, rm, w1, w2, w3, w4, w5, w6, w7, w8, w9, wa, wb))
    (o4 : ms_m1 A a → ms_Cl (ms_Rt A (fun _ => True)) (a / 16) (b / 16) → ∀ w5', post (-5) (nI N, nI D, nI S, us, fs, rt, sp, pa, pt, g, m, ub, lv, rm, w1, w2, w3, w4, w5', w6, w7, w8, w9, wa, wb))
    (o5 : ms_m1 A a → ¬ ms_Cl (ms_Rt A (fun _ => True)) (a / 16) (b / 16) → ms_m5 A (a / 16) (b / 16) → ∀ w5', post (-2) (nI N, nI D, nI S, us, fs, rt, sp, pa, pt, g, m, ub, lv, rm, w1, w2, w3, w4, w5', w6, w7, w8, w9, wa, wb))
    (o6 : ms_m1 A a → ¬ ms_Cl (ms_Rt A (fun _ => True)) (a / 16) (b / 16) → ¬ ms_m5 A (a / 16) (b / 16) → ¬ ms_m6 N A (a / 16) (b / 16) (b % 16) → ∀ w1' w2' w5' w7' w8', post (-4) (nI N, nI D, nI S, us, fs, rt, sp, pa, pt, g, m, ub, lv, rm, w1', w2', w3, w4, w5', w6, w7', w8', w9, wa, wb))
    (ok : ms_m1 A a → ¬ ms_Cl (ms_Rt A (fun _ => True)) (a / 16) (b / 16) → ¬ ms_m5 A (a / 16) (b / 16) → ms_m6 N A (a / 16) (b / 16) (b % 16) → ∀ us' fs' rt' sp' pa' pt' g' m' ub' w1' w2' w5' w7' w8' w9' wa' wb', ms_CR ms_c (ms_aF N A A (ms_Cl (ms_Rt A (fun _ => True)) (a / 16)) (fun r => ms_Rc A (b / 16) (b % 16) r ∧ r ≠ b / 16) (a / 16) (b / 16) (b % 16)) us' fs' rt' sp' pa' pt' g' m' ub' → post (nI (a / 16)) (nI N, nI D, nI S, us', fs', rt', sp', pa', pt', g', m', ub', lv, rm, w1', w2', w3, w4, w5', w6, w7', w8', w9', wa', wb')) : wpX_move post (nI N, nI D, nI S, us, fs, rt, sp, pa, pt, g, m, ub, lv, rm, w1, w2, w3, w4, w5, w6, w7, w8, w9, wa, wb) (nI s) x2 x3 := by
  have s4 : s < 4 := by omega
  have ga := ms_wgd hF hN hD s4 ls wa'
  have gb := ms_wgd hF hN hD s4 ls wb'
  have a31 : a < 2 ^ 31 := by have := ms_gd_q ga; omega
  have b31 : b < 2 ^ 31 := by have := ms_gd_q gb; omega
  obtain ⟨a1, a2, a3, a4, a5⟩ := ga
  have pN := (hF.1 _ gb.1 gb.2.1).1
  have tN := (hF.1 _ a1 a2).1
  have hR := hF.2.1 _ a1
  have vt : vp_in (nI (a / 16)) 32 := vp_in_nI a1 (by omega)
  have ct : (nI (a / 16)).toNatClampNeg = a / 16 := nI_clamp (by omega)
  have vp : vp_in (nI (b / 16)) 32 := vp_in_nI gb.1 (by omega)
  have cp' : (nI (b / 16)).toNatClampNeg = b / 16 := nI_clamp (by omega)
  unfold wpX_move
  refine mx_il1 hS hl hs ls (br_f ms_10 (mx_walk h hF hN hD s4 ls (hr s s4 ls) ?_))
  rw [wa', ms_o_s]
  refine br_t (nI_pos' a31) (mx_walk h hF hN hD s4 ls (hr s s4 ls) ?_)
  rw [wb', ms_o_s]
  refine br_t (nI_pos' b31) ?_
  intro x6 e6 x7 e7 x8 e8
  rw [e6, e7, e8, ms_p4 a31, ms_p4 b31, ms_p15 a31, ms_p15 b31]
  refine ⟨vt, ?_⟩
  rw [ct, ms_CR_r h a1, nI_eq (by omega) (by omega), ms_CR_p h a1 a2]
  refine br_c (fun z1 => ⟨vt, br_c (fun z2 => ⟨vt, ?_⟩) (fun z2 => o1 fun q => z2 (ms_c_le.mpr q.2.1))⟩) (fun z1 => o1 fun q => z1 q.1)
  have p32 := ms_c_le.mp z2
  refine ⟨ms_c_in p32, ?_⟩
  rw [ms_c_cl p32]
  refine br_c (fun z3 => ?_) (fun z3 => o1 fun q => z3 ((ms_CR_gn h p32).mpr q.2.2))
  have m1 : ms_m1 A a := ⟨z1, p32, (ms_CR_gn h p32).mp z3⟩
  refine mx_mtr h hF hN tN fun w hw => ⟨vp, ?_⟩
  rw [cp']
  refine br_c (fun z4 => ⟨vp, ?_⟩) (fun z4 => o4 m1 ((hw _ gb.1).mp z4) _)
  have n4 : ¬ ms_Cl (ms_Rt A (fun _ => True)) (a / 16) (b / 16) := fun q => (hw _ gb.1).mpr q z4
  -- behind the checks
  have rest : ¬ ms_m5 A (a / 16) (b / 16) → wX_move_147 post (nI (a / 16)) (nI (b / 16)) (nI (b % 16)) (nI (ms_cn (ms_Cl (ms_Rt A (fun _ => True)) (a / 16)) N)) (nI N) (nI D) (nI S) us fs rt sp pa pt g m ub lv rm w1 w2 w3 w4 w w6 w7 w8 w9 wa wb := by
    intro n5
    have c1 := ms_cn_le (ms_Cl (ms_Rt A (fun _ => True)) (a / 16)) N
    have c2 := ms_cn_le (fun r => ms_Rc A (b / 16) (b % 16) r ∧ r ≠ b / 16) N
    have c3 := ms_cn_le (fun c => ¬ ms_U A c) N
    have c4 := ms_prod (a := ms_cn (ms_Cl (ms_Rt A (fun _ => True)) (a / 16)) N) (b := ms_cn (fun r => ms_Rc A (b / 16) (b % 16) r ∧ r ≠ b / 16) N) (by omega) (by omega)
    unfold wX_move_147
    refine mx_fre h hF hL hN pN (by omega) fun w1' r og om hro => mx_fct hN ?_
    rw [ms_rd_fc h hN, ms_Rc_n hF hL hN gb, nI_pred, pk_mul, nI_leI c4 (by omega)]
    refine br_c (fun z => ?_) (fun z => o6 m1 n4 n5 z _ _ _ _ _)
    exact mx_attach (ms_Aq_mv hN hF hL a1 a2 a3 p32 gb n4 z) (fun i hi u => (hF.1 i hi u).1) h hw (fun i hi => and_congr (hro i hi).1 Iff.rfl) (fun i hi => ⟨by rw [(hro i hi).2.1, ms_CR_g h hi], by rw [(hro i hi).2.2, ms_CR_m h hi]⟩) gb.2.2.2.1 fun us' fs' rt' sp' pa' pt' g' m' ub' w2' w9' wa' wb' h' => ok m1 n4 n5 z _ _ _ _ _ _ _ _ _ _ _ _ _ _ _ _ _ h'
  refine br_c (fun z5 => rest fun q => (ms_CR_gn h gb.1).mp z5 q.1) (fun z5 => mx_shu hN ?_)
  have gp : ms_G A (b / 16) < 32 := Classical.byContradiction fun q => z5 ((ms_CR_gn h gb.1).mpr q)
  have ub' : ms_lo (fun c => ¬ w c = 0 ∧ ¬ ub c = 0) N < 32 ↔ ∃ c, c < 32 ∧ ms_Cl (ms_Rt A (fun _ => True)) (a / 16) c ∧ ¬ ms_B A c = 0 := by
    constructor
    · intro q
      have k := ms_lo_P (P := fun c => ¬ w c = 0 ∧ ¬ ub c = 0) hN q
      exact ⟨_, q, (hw _ q).mp k.1, by rw [← ms_CR_b h q]; exact k.2⟩
    · rintro ⟨c, hc, t1, t2⟩
      exact ms_lo_ex hN (hF.1 c hc (ms_Cl_U a2 t1)).1 ⟨(hw c hc).mpr t1, by rw [ms_CR_b h hc]; exact t2⟩
  by_cases z6 : ms_lo (fun c => ¬ w c = 0 ∧ ¬ ub c = 0) N < 32
  · rw [if_pos z6]
    exact br_f ms_10 (o5 m1 n4 ⟨gp, ub'.mp z6⟩ _)
  · rw [if_neg z6]
    exact br_t rfl (rest fun q => z6 (ub'.mpr q.2))
end
section
variable {N D S : Nat} {lv us fs rt sp ub pa pt g m v1 v2 v3 v4 v5 v6 v7 v8 v9 : Nat → Int32}
variable {e : Nat → Int32} {A : ms_AS} {lw : Nat → Prop} {rn : Nat → Nat}
theorem my_move {s a b : Nat} {x2 x3 : Int32} (hN : N ≤ 32) (hD : D ≤ 15) (hS : S ≤ 4) (h : ms_CR e A us fs rt sp pa pt g m ub) (he : e 32 = 0) (hE : ms_E e A) (hF : ms_FI N lw rn A) (hL : ms_LI A) (hl : ∀ s, s < 4 → (lv s = 0 ↔ ¬ lw s)) (hs : s < S) (ls : lw s) (wa' : ms_wk N D A x2 16 (ms_cr N A 32 (rn s) (ms_R A (rn s))) = some a) (wb' : ms_wk N D A x3 16 (ms_cr N A 32 (rn s) (ms_R A (rn s))) = some b) {post : Int32 → SY → Prop}
    (o1 : ¬ ms_m1 A a → post (-2) (nI N, nI D, nI S, lv, us, fs, rt, sp, ub, pa, pt, g, m, v1, v2, v3, v4, v5, v6, v7, v8, v9))
    (o4 : ms_m1 A a → ms_Cl (ms_Rt A (fun _ => True)) (a / 16) (b / 16) → post (-5) (nI N, nI D, nI S, lv, us, fs, rt, sp, ub, pa, pt, g, m, v1, v2, v3, v4, v5, v6, v7, v8, v9))
    (o5 : ms_m1 A a → ¬ ms_Cl (ms_Rt A (fun _ => True)) (a / 16) (b / 16) → ms_m5 A (a / 16) (b / 16) → ∀ v3', post (-2) (nI N, nI D, nI S, lv, us, fs, rt, sp, ub, pa, pt, g, m, v1, v2, v3', v4, v5, v6, v7, v8, v9))
    (o6 : ms_m1 A a → ¬ ms_Cl (ms_Rt A (fun _ => True)) (a / 16) (b / 16) → ¬ ms_m5 A (a / 16) (b / 16) → ¬ ms_m6 N A (a / 16) (b / 16) (b % 16) → ∀ v1' v2' v3' v4' v5', post (-4) (nI N, nI D, nI S, lv, us, fs, rt, sp, ub, pa, pt, g, m, v1', v2', v3', v4', v5', v6, v7, v8, v9))
    (ok : ms_m1 A a → ¬ ms_Cl (ms_Rt A (fun _ => True)) (a / 16) (b / 16) → ¬ ms_m5 A (a / 16) (b / 16) → ms_m6 N A (a / 16) (b / 16) (b % 16) → ∀ e' us' fs' rt' sp' pa' pt' g' m' ub' v1' v2' v3' v4' v5' v6' v7' v8' v9', e' 32 = 0 → ms_E e' (ms_aF N A A (ms_Cl (ms_Rt A (fun _ => True)) (a / 16)) (fun r => ms_Rc A (b / 16) (b % 16) r ∧ r ≠ b / 16) (a / 16) (b / 16) (b % 16)) → ms_CR e' (ms_aF N A A (ms_Cl (ms_Rt A (fun _ => True)) (a / 16)) (fun r => ms_Rc A (b / 16) (b % 16) r ∧ r ≠ b / 16) (a / 16) (b / 16) (b % 16)) us' fs' rt' sp' pa' pt' g' m' ub' → post (nI (a / 16)) (nI N, nI D, nI S, lv, us', fs', rt', sp', ub', pa', pt', g', m', v1', v2', v3', v4', v5', v6', v7', v8', v9')) : wpY_move post (nI N, nI D, nI S, lv, us, fs, rt, sp, ub, pa, pt, g, m, v1, v2, v3, v4, v5, v6, v7, v8, v9) (nI s) x2 x3 := by
  have s4 : s < 4 := by omega
  have ga := ms_wgd hF hN hD s4 ls wa'
  have gb := ms_wgd hF hN hD s4 ls wb'
  have a31 : a < 2 ^ 31 := by have := ms_gd_q ga; omega
  have b31 : b < 2 ^ 31 := by have := ms_gd_q gb; omega
  obtain ⟨a1, a2, a3, a4, a5⟩ := ga
  have pN := (hF.1 _ gb.1 gb.2.1).1
  have tN := (hF.1 _ a1 a2).1
  have hR := hF.2.1 _ a1
  have vt : vp_in (nI (a / 16)) 32 := vp_in_nI a1 (by omega)
  have ct : (nI (a / 16)).toNatClampNeg = a / 16 := nI_clamp (by omega)
  have vp : vp_in (nI (b / 16)) 32 := vp_in_nI gb.1 (by omega)
  have cp' : (nI (b / 16)).toNatClampNeg = b / 16 := nI_clamp (by omega)
  unfold wpY_move
  refine my_il1 hS hl hs ls (br_f ms_10 (my_walk h hF hN hD s4 ls ?_))
  rw [wa', ms_o_s]
  refine br_t (nI_pos' a31) (my_walk h hF hN hD s4 ls ?_)
  rw [wb', ms_o_s]
  refine br_t (nI_pos' b31) ⟨by decide, ?_⟩
  rw [ms_pr a31, ms_pd a31, ms_pd b31]
  refine nm_e ⟨by decide, nm_e ⟨by decide, vt, ?_⟩⟩
  rw [ct, ms_CR_r h a1, nI_eq (by omega) (by omega), ms_CR_p h a1 a2]
  refine br_c (fun z1 => ⟨vt, br_c (fun z2 => o1 fun q => ms_c_neg.mp z2 q.2.1) (fun z2 => ⟨vt, ?_⟩)⟩) (fun z1 => o1 fun q => z1 q.1)
  have p32 : ms_P A (a / 16) < 32 := Classical.byContradiction fun q => z2 (ms_c_neg.mpr q)
  refine ⟨ms_c_in p32, ?_⟩
  rw [ms_c_cl p32]
  refine br_c (fun z3 => ?_) (fun z3 => o1 fun q => z3 ((ms_CR_gz h hE hL he p32).mpr q.2.2))
  have m1 : ms_m1 A a := ⟨z1, p32, (ms_CR_gz h hE hL he p32).mp z3⟩
  refine my_int h hF gb.1 gb.2.1 a1 (fun c4 => br_f ms_10 (o4 m1 c4)) (fun n4 => br_t rfl ?_)
  have T32 : ∀ x, ms_Cl (ms_Rt A (fun _ => True)) (a / 16) x → x < 32 ∧ ms_U A x := fun x c => ⟨ms_Cl_32 a1 c, ms_Cl_U a2 c⟩
  refine ms_lp (fun n i (z : Int32 × Int32 × (Nat → Int32)) => wY_move_121 post (nI b) (nI (a / 16)) (nI (b / 16)) (nI N) (nI D) (nI S) n z.1 z.2.1 i lv us fs rt sp ub pa pt g m v1 v2 z.2.2 v4 v5 v6 v7 v8 v9) (fun i z => z.1 = nI (ms_cn (ms_Cl (ms_Rt A (fun _ => True)) (a / 16)) i) ∧ (¬ z.2.1 = 0 ↔ ∃ c, c < i ∧ ms_Cl (ms_Rt A (fun _ => True)) (a / 16) c ∧ ¬ ms_B A c = 0) ∧ ∀ j, j < i → (¬ z.2.2 j = 0 ↔ ms_Cl (ms_Rt A (fun _ => True)) (a / 16) j)) 32 (Nat.le_refl _) (0, 0, v3) ⟨rfl, ⟨fun q => absurd rfl q, fun ⟨c, hc, _⟩ => absurd hc (Nat.not_lt_zero _)⟩, lt_0⟩ (fun n z hI => ?_) (fun n i z hi ci vi ni hI go => ?_)
  · obtain ⟨c, f, w⟩ := z
    obtain ⟨ec, hf, hw⟩ := hI
    dsimp only at ec hf hw ⊢
    rw [ms_cn_cut hN fun j p q c => by have := (hF.1 j q (T32 j c).2).1; omega] at ec
    refine br_t (nI_le (b := 32) (Nat.le_refl _) (by omega)) ⟨vp, ?_⟩
    rw [cp']
    have rest : ¬ ms_m5 A (a / 16) (b / 16) → wY_move_221 post (nI b) (nI (a / 16)) (nI (b / 16)) c (nI N) (nI D) (nI S) lv us fs rt sp ub pa pt g m v1 v2 w v4 v5 v6 v7 v8 v9 := by
      intro n5
      have c1 := ms_cn_le (ms_Cl (ms_Rt A (fun _ => True)) (a / 16)) N
      have c2 := ms_cn_le (fun r => ms_Rc A (b / 16) (b % 16) r ∧ r ≠ b / 16) N
      have c3 := ms_cn_le (fun c => ¬ ms_U A c) N
      have c4 := ms_prod (a := ms_cn (ms_Cl (ms_Rt A (fun _ => True)) (a / 16)) N) (b := ms_cn (fun r => ms_Rc A (b / 16) (b % 16) r ∧ r ≠ b / 16) N) (by omega) (by omega)
      refine ⟨by decide, ?_⟩
      rw [ms_pr b31]
      refine my_fre h hE he hF hL hN pN (by omega) fun w1' r og om hro => my_fct hN ?_
      rw [ms_rd_fc h hN, ec, ms_Rc_n hF hL hN gb, nI_pred, pk_mul, nI_leI c4 (by omega)]
      refine br_c (fun z => ⟨by decide, ?_⟩) (fun z => o6 m1 n4 n5 z _ _ _ _ _)
      exact my_attach (Rf := ms_Rc A (b / 16) (b % 16)) (e0 := e) (ms_Aq_mv hN hF hL a1 a2 a3 p32 gb n4 z) hE he ⟨ms_Cl_r, gb.2.2.2.2⟩ (fun r _ => Iff.rfl) h he hE hw (fun i hi => (hro i hi).1) (fun i hi => ⟨by rw [(hro i hi).2.1, ms_CR_g h hi], by rw [(hro i hi).2.2, ms_CR_m h hi]⟩) gb.2.2.2.1 fun e' us' fs' rt' sp' pa' pt' g' m' ub' v6' v7' v8' v9' i1 i2 i3 => ok m1 n4 n5 z e' _ _ _ _ _ _ _ _ _ _ _ _ _ _ _ _ _ _ i1 i2 i3
    refine br_c (fun z5 => rest fun q => (ms_CR_gz h hE hL he gb.1).mp z5 q.1) (fun z5 => br_c (fun z6 => rest fun q => hf.mpr q.2 z6) (fun z6 => o5 m1 n4 ⟨?_, hf.mp z6⟩ _))
    exact Classical.byContradiction fun q => z5 ((ms_CR_gz h hE hL he gb.1).mpr q)
  · obtain ⟨c, f, w⟩ := z
    obtain ⟨ec, hf, hw⟩ := hI
    dsimp only at ec hf hw ⊢
    -- behind the mark: the count and the flag
    have last : ∀ w' c', c' = nI (ms_cn (ms_Cl (ms_Rt A (fun _ => True)) (a / 16)) (i + 1)) → (¬ w' i = 0 ↔ ms_Cl (ms_Rt A (fun _ => True)) (a / 16) i) → (∀ j, j < i + 1 → (¬ w' j = 0 ↔ ms_Cl (ms_Rt A (fun _ => True)) (a / 16) j)) → wY_move_174 post (wY_move_121 post (nI b) (nI (a / 16)) (nI (b / 16)) (nI N) (nI D) (nI S) n) (nI b) (nI (a / 16)) (nI (b / 16)) c' f (nI i) (nI N) (nI D) (nI S) lv us fs rt sp ub pa pt g m v1 v2 w' v4 v5 v6 v7 v8 v9 := by
      intro w' c' ec' hwi hw'
      refine ⟨vi, ?_⟩
      rw [ci, ms_CR_b h hi]
      have old : (¬ (ms_Cl (ms_Rt A (fun _ => True)) (a / 16) i ∧ ¬ ms_B A i = 0)) → (¬ f = 0 ↔ ∃ c, c < i + 1 ∧ ms_Cl (ms_Rt A (fun _ => True)) (a / 16) c ∧ ¬ ms_B A c = 0) := fun no => hf.trans ⟨fun ⟨c, hc, q⟩ => ⟨c, by omega, q⟩, fun ⟨c, hc, q⟩ => ⟨c, by
        have : c ≠ i := fun k => no (k ▸ q)
        omega, q⟩⟩
      refine br_c (fun z => go (c', f, w') ⟨ec', old fun q => hwi.mpr q.1 z, hw'⟩) (fun z => ⟨vi, br_c (fun z2 => go (c', f, w') ⟨ec', old fun q => q.2 z2, hw'⟩) (fun z2 => go (c', 1, w') ⟨ec', ⟨fun _ => ⟨i, by omega, hwi.mp z, z2⟩, fun _ => ms_10⟩, hw'⟩)⟩)
    have fin : ∀ z0 : Int32, (z0 = 0 ∧ ¬ ms_Cl (ms_Rt A (fun _ => True)) (a / 16) i) ∨ (z0 = 1 ∧ ms_Cl (ms_Rt A (fun _ => True)) (a / 16) i) → wY_move_160 post (wY_move_121 post (nI b) (nI (a / 16)) (nI (b / 16)) (nI N) (nI D) (nI S) n) (nI b) (nI (a / 16)) (nI (b / 16)) c f (nI i) z0 (nI i) (nI N) (nI D) (nI S) lv us fs rt sp ub pa pt g m v1 v2 w v4 v5 v6 v7 v8 v9 := by
      intro z0 hz
      refine ⟨vi, ?_⟩
      rw [ci]
      refine nm_e ⟨vi, ?_⟩
      rw [ms_us]
      rcases hz with ⟨q, no⟩ | ⟨q, yes⟩
      · subst q
        have k := ms_wb hw (ms_v0 no) Iff.rfl
        rw [ms_b0] at k ⊢
        exact br_t rfl (last _ _ (by rw [ec, ms_cn_sf no]) (k i (by omega)) k)
      · subst q
        have k := ms_wb hw (ms_v1 yes) Iff.rfl
        rw [ms_b1] at k ⊢
        rw [ec]
        exact br_f ms_10 (nm_r (nI_1 _) (last _ _ (by rw [ms_cn_st yes]) (k i (by omega)) k))
    refine br_f ni ⟨vi, ?_⟩
    rw [ci]
    refine br_c (fun z => fin 0 (Or.inl ⟨rfl, fun q => (ms_CR_u h hi).mp z (T32 i q).2⟩)) (fun z => ?_)
    have u : ms_U A i := Classical.byContradiction fun n => z ((ms_CR_u h hi).mpr n)
    exact my_int h hF hi u a1 (fun q => br_f ms_10 (fin 1 (Or.inr ⟨rfl, q⟩))) (fun q => br_t rfl (fin 0 (Or.inl ⟨rfl, q⟩)))
end
theorem i_vc_move {k : Nat} {u : SX} {v : SY} (I : i_Rel k u v) (hk : k + 5 ≤ 2563) (v1 : Int32) (v2 : Int32) (v3 : Int32) : wpX_move (fun r u' => wpY_move (fun r' v' => r' = r ∧ i_Rel (k + 5) u' v') v v1 v2 v3) u v1 v2 v3 := by
  refine ms_el (P := fun u v => wpX_move (fun r u' => wpY_move (fun r' v' => r' = r ∧ i_Rel (k + 5) u' v') v v1 v2 v3) u v1 v2 v3) I ?_
  intro N D S A lw rn e us fs rt sp pa pt g m ub lv rm w1 w2 w3 w4 w5 w6 w7 w8 w9 wa wb lvy usy fsy rty spy uby pay pty gy my v1y v2y v3y v4y v5y v6y v7y v8y v9y hI h hl hr he hE h' hl'
  have J : i_Rel (k + 5) (nI N, nI D, nI S, us, fs, rt, sp, pa, pt, g, m, ub, lv, rm, w1, w2, w3, w4, w5, w6, w7, w8, w9, wa, wb) (nI N, nI D, nI S, lvy, usy, fsy, rty, spy, uby, pay, pty, gy, my, v1y, v2y, v3y, v4y, v5y, v6y, v7y, v8y, v9y) := ms_mk hI h hl hr he hE h' hl'
  obtain ⟨hN, hN8, hD, hS, hF, hL⟩ := hI
  have hI : ms_In N D S A lw rn := ⟨hN, hN8, hD, hS, hF, hL⟩
  by_cases c : ∃ s, s < S ∧ v1 = nI s ∧ lw s
  · obtain ⟨s, hs, rfl, ls⟩ := c
    have s4 : s < 4 := by omega
    cases hwa : ms_wk N D A v2 16 (ms_cr N A 32 (rn s) (ms_R A (rn s))) with
    | none =>
      unfold wpX_move wpY_move
      refine mx_il1 hS hl hs ls (br_f ms_10 (mx_walk h hF hN hD s4 ls (hr s s4 ls) ?_))
      rw [hwa]
      refine br_f (by decide) (my_il1 hS hl' hs ls (br_f ms_10 (my_walk h' hF hN hD s4 ls ?_)))
      rw [hwa]
      exact br_f (by decide) ⟨rfl, J⟩
    | some a =>
      have a31 : a < 2 ^ 31 := by have := ms_gd_q (ms_wgd hF hN hD s4 ls hwa); omega
      cases hwb : ms_wk N D A v3 16 (ms_cr N A 32 (rn s) (ms_R A (rn s))) with
      | none =>
        unfold wpX_move wpY_move
        refine mx_il1 hS hl hs ls (br_f ms_10 (mx_walk h hF hN hD s4 ls (hr s s4 ls) ?_))
        rw [hwa, ms_o_s]
        refine br_t (nI_pos' a31) (mx_walk h hF hN hD s4 ls (hr s s4 ls) ?_)
        rw [hwb]
        refine br_f (by decide) (my_il1 hS hl' hs ls (br_f ms_10 (my_walk h' hF hN hD s4 ls ?_)))
        rw [hwa, ms_o_s]
        refine br_t (nI_pos' a31) (my_walk h' hF hN hD s4 ls ?_)
        rw [hwb]
        exact br_f (by decide) ⟨rfl, J⟩
      | some b =>
        have ga := ms_wgd hF hN hD s4 ls hwa
        have gb := ms_wgd hF hN hD s4 ls hwb
        refine mx_move hN hD hS h hF hL hl hr hs ls hwa hwb (fun n1 => ?_) (fun y1 y4 w5' => ?_) (fun y1 n4 y5 w5' => ?_) (fun y1 n4 n5 n6 w1' w2' w5' w7' w8' => ?_) (fun y1 n4 n5 y6 us' fs' rt' sp' pa' pt' g' m' ub' w1' w2' w5' w7' w8' w9' wa' wb' hx => ?_)
        · exact my_move hN hD hS h' he hE hF hL hl' hs ls hwa hwb (fun _ => ⟨rfl, J⟩) (fun y1 => absurd y1 n1) (fun y1 => absurd y1 n1) (fun y1 => absurd y1 n1) (fun y1 => absurd y1 n1)
        · exact my_move hN hD hS h' he hE hF hL hl' hs ls hwa hwb (fun n1 => absurd y1 n1) (fun _ _ => ⟨rfl, ms_mk hI h hl hr he hE h' hl'⟩) (fun _ n4 => absurd y4 n4) (fun _ n4 => absurd y4 n4) (fun _ n4 => absurd y4 n4)
        · exact my_move hN hD hS h' he hE hF hL hl' hs ls hwa hwb (fun n1 => absurd y1 n1) (fun _ y4 => absurd y4 n4) (fun _ _ _ _ => ⟨rfl, ms_mk hI h hl hr he hE h' hl'⟩) (fun _ _ n5 => absurd y5 n5) (fun _ _ n5 => absurd y5 n5)
        · exact my_move hN hD hS h' he hE hF hL hl' hs ls hwa hwb (fun n1 => absurd y1 n1) (fun _ y4 => absurd y4 n4) (fun _ _ y5 => absurd y5 n5) (fun _ _ _ _ _ _ _ _ _ => ⟨rfl, ms_mk hI h hl hr he hE h' hl'⟩) (fun _ _ _ y6 => absurd y6 n6)
        · refine my_move hN hD hS h' he hE hF hL hl' hs ls hwa hwb (fun n1 => absurd y1 n1) (fun _ y4 => absurd y4 n4) (fun _ _ y5 => absurd y5 n5) (fun _ _ _ n6 => absurd y6 n6) (fun _ _ _ _ e' us2 fs2 rt2 sp2 pa2 pt2 g2 m2 ub2 v1' v2' v3' v4' v5' v6' v7' v8' v9' i1 i2 i3 => ⟨rfl, ?_⟩)
          obtain ⟨qF, qL⟩ := ms_q_F (ms_Aq_mv hN hF hL ga.1 ga.2.1 ga.2.2.1 y1.2.1 gb n4 y6)
          exact ms_mk ⟨hN, hN8, hD, hS, qF, qL⟩ hx hl hr i1 i2 i3 hl'
  · unfold wpX_move wpY_move
    exact mx_il0 hS hl c (br_t rfl (my_il0 hS hl' c (br_t rfl ⟨rfl, J⟩)))
end
section
/-! bind: what attach is given -/
def ms_bs (A : ms_AS) (k d : Nat) (dp : Int32) (x : Nat) : Prop := x = k ∨ (¬ dp = 0 ∧ ms_Cl (ms_Rt A (ms_Wb A k d)) k x)
def ms_br (A : ms_AS) (k d x : Nat) : Nat := if x = k then d else ms_R A x
/-- the state with the copies, the top one not attached -/
noncomputable def ms_bA (N : Nat) (A : ms_AS) (k d : Nat) (dp : Int32) (s : Nat) : ms_AS :=
  ms_gf A (ms_ix N (ms_U A) (ms_bs A k d dp)) (ms_yn N (ms_U A) (ms_bs A k d dp)) (ms_br A k d) s k 32 32 (ms_P A) (ms_Q A) 32 (fun i => if ms_ix N (ms_U A) (ms_bs A k d dp) i < 32 then ms_G A (ms_ix N (ms_U A) (ms_bs A k d dp) i) else ms_G A i) (fun i => if ms_ix N (ms_U A) (ms_bs A k d dp) i < 32 then ms_M A (ms_ix N (ms_U A) (ms_bs A k d dp) i) else ms_M A i) (fun i => if ms_ix N (ms_U A) (ms_bs A k d dp) i < 32 then 0 else ms_B A i)
theorem ms_FI_pt {N : Nat} {lw : Nat → Prop} {rn : Nat → Nat} {A A' : ms_AS} (h : ms_FI N lw rn A) (eq : ∀ i, i < 32 → (ms_U A' i ↔ ms_U A i) ∧ ms_R A' i = ms_R A i ∧ ms_S A' i = ms_S A i ∧ ms_P A' i = ms_P A i ∧ ms_Q A' i = ms_Q A i) : ms_FI N lw rn A' := by
  obtain ⟨h1, h2, h3, h4, dp, h5⟩ := h
  refine ⟨fun i hi u => ?_, fun i hi => ?_, fun i hi u hp => ?_, fun s hs l => ?_, dp, fun i hi u hp => ?_⟩
  · obtain ⟨e1, e2, e3, e4, e5⟩ := eq i hi
    rw [e3, e4, e5]; exact h1 i hi (e1.mp u)
  · rw [(eq i hi).2.1]; exact h2 i hi
  · obtain ⟨e1, e2, e3, e4, e5⟩ := eq i hi
    rw [e4] at hp ⊢
    obtain ⟨f1, f2, f3, f4, f5⟩ := eq _ hp
    rw [f2, f3, e3, e5, f1]
    exact h3 i hi (e1.mp u) hp
  · obtain ⟨m1, m2, m3, m4, m5⟩ := h4 s hs l
    obtain ⟨e1, e2, e3, e4, e5⟩ := eq _ m1
    rw [e3, e4]
    refine ⟨m1, e1.mpr m2, m3, m4, fun i hi u si pi => ?_⟩
    obtain ⟨f1, f2, f3, f4, f5⟩ := eq i hi
    rw [f3] at si
    rw [f4] at pi
    exact m5 i hi (f1.mp u) si pi
  · obtain ⟨e1, e2, e3, e4, e5⟩ := eq i hi
    rw [e4] at hp ⊢
    exact h5 i hi (e1.mp u) hp
theorem ms_cn_sp {P Q : Nat → Prop} : ∀ {N : Nat}, ms_cn P N = ms_cn (fun k => P k ∧ Q k) N + ms_cn (fun k => P k ∧ ¬ Q k) N
  | 0 => rfl
  | N + 1 => by
    have ih := ms_cn_sp (P := P) (Q := Q) (N := N)
    simp only [ms_cn]
    by_cases p : P N
    · by_cases q : Q N
      · rw [ms_b01_t p, ms_b01_t ⟨p, q⟩, ms_b01_f fun k => k.2 q]; omega
      · rw [ms_b01_t p, ms_b01_f fun k => q k.2, ms_b01_t ⟨p, q⟩]; omega
    · rw [ms_b01_f p, ms_b01_f fun k => p k.1, ms_b01_f fun k => p k.1]; omega
section
variable {N : Nat} {lw : Nat → Prop} {rn : Nat → Nat} {A : ms_AS} {s k d : Nat} {dp : Int32}
theorem ms_bs_U (g : ms_gd A s k d) {x : Nat} (h : ms_bs A k d dp x) : x < 32 ∧ ms_U A x := h.elim (fun q => by rw [q]; exact ⟨g.1, g.2.1⟩) fun q => ⟨ms_Cl_32 g.1 q.2, ms_Cl_U g.2.1 q.2⟩
theorem ms_bs_Tr (hF : ms_FI N lw rn A) (g : ms_gd A s k d) : ms_Tr (ms_bs A k d dp) k (ms_P A) (ms_Q A) (ms_br A k d) := by
  obtain ⟨rk, h5⟩ := hF.2.2.2.2
  have cl : ∀ x, ms_bs A k d dp x → x ≠ k → ¬ dp = 0 ∧ ms_Cl (ms_Rt A (ms_Wb A k d)) k x := fun x h n => h.elim (fun q => absurd q n) id
  refine ⟨Or.inl rfl, fun x h => ⟨(ms_bs_U g h).1, ?_⟩, fun x h n => ?_, rk, fun x h n => ?_⟩
  · unfold ms_br
    by_cases q : x = k
    · rw [if_pos q]; exact g.2.2.2.1
    · rw [if_neg q]; exact hF.2.1 x (ms_bs_U g h).1
  · obtain ⟨nz, c⟩ := cl x h n
    obtain ⟨p1, p2, wb⟩ := ms_Cl_p c n
    obtain ⟨x32, ux⟩ := ms_bs_U g h
    obtain ⟨_, _, b3, b4⟩ := hF.2.2.1 x x32 ux p1
    refine ⟨p1, Or.inr ⟨nz, p2⟩, b3, ?_⟩
    unfold ms_br
    by_cases q : ms_P A x = k
    · rw [if_pos q]; exact wb.2 q
    · rw [if_neg q]; exact b4
  · obtain ⟨nz, c⟩ := cl x h n
    obtain ⟨x32, ux⟩ := ms_bs_U g h
    exact h5 x x32 ux (ms_Cl_p c n).1
theorem ms_bA_L (hL : ms_LI A) (hc : ms_Cm N A (ms_bs A k d dp) (ms_ix N (ms_U A) (ms_bs A k d dp)) (ms_yn N (ms_U A) (ms_bs A k d dp))) : ms_LI (ms_bA N A k d dp s) ∧ ∀ i, i < 32 → ms_La A (ms_G (ms_bA N A k d dp s) i) := by
  have H : ∀ i, i < 32 → ∃ j, j < 32 ∧ ms_G (ms_bA N A k d dp s) i = ms_G A j ∧ ms_M (ms_bA N A k d dp s) i = ms_M A j := by
    intro i hi
    simp only [ms_bA, ms_gf, ms_G_mk, ms_M_mk]
    by_cases q : ms_ix N (ms_U A) (ms_bs A k d dp) i < 32
    · exact ⟨_, q, by rw [if_pos q], by rw [if_pos q]⟩
    · exact ⟨i, hi, by rw [if_neg q], by rw [if_neg q]⟩
  refine ⟨ms_LI_map hL (fun i hi => Or.inl (H i hi)) (fun j hj gj => ⟨j, hj, ?_⟩) (fun i hi n => ?_), fun i hi => ?_⟩
  · have uj : ms_U A j := Classical.byContradiction fun n => by have := (hL.2.1 j hj n).1; omega
    simp only [ms_bA, ms_gf, ms_G_mk]
    rw [if_neg (ms_Cm_o hc hj uj)]
  · simp only [ms_bA, ms_gf, ms_U_mk, ms_G_mk, ms_M_mk] at n ⊢
    rw [if_neg fun q => n (Or.inl q), if_neg fun q => n (Or.inl q)]
    exact hL.2.1 i hi fun q => n (Or.inr q)
  · obtain ⟨j, hj, e, _⟩ := H i hi
    rw [e]; exact ms_La_G hj
theorem ms_Aq_bd {p e : Nat} (hN : N ≤ 32) (hF : ms_FI N lw rn A) (hL : ms_LI A) (g : ms_gd A s k d) (gp : ms_gd A s p e) (room : ms_cn (ms_bs A k d dp) N * ms_cn (ms_Rc A p e) 32 ≤ ms_cn (fun c => ¬ ms_U A c) N) :
    ms_cn (ms_bs A k d dp) 32 ≤ ms_cn (fun c => ¬ ms_U A c) N ∧ ms_Aq N lw rn A (ms_bA N A k d dp s) (fun i => i < 32 ∧ ms_ix N (ms_U A) (ms_bs A k d dp) i < 32) (fun r => ms_Rc A p e r ∧ r ≠ p) (ms_yn N (ms_U A) (ms_bs A k d dp) k) p e := by
  have TN : ∀ x, ms_bs A k d dp x → x < N := fun x h => (hF.1 x (ms_bs_U g h).1 (ms_bs_U g h).2).1
  have c32 : ms_cn (ms_bs A k d dp) 32 = ms_cn (ms_bs A k d dp) N := ms_cn_cut hN fun j a b h => by have := TN j h; omega
  rw [ms_Rc_n hF hL hN gp, Nat.mul_add, Nat.mul_one, ← c32] at room
  have room1 : ms_cn (ms_bs A k d dp) 32 ≤ ms_cn (fun c => ¬ ms_U A c) N := by omega
  have hc : ms_Cm N A (ms_bs A k d dp) (ms_ix N (ms_U A) (ms_bs A k d dp)) (ms_yn N (ms_U A) (ms_bs A k d dp)) := ms_Cm_yn hN room1 fun x h => (ms_bs_U g h).1
  have tr := ms_bs_Tr (dp := dp) hF g
  obtain ⟨y1, y2, y3, y4⟩ := hc.1 k (Or.inl rfl)
  obtain ⟨bL, _⟩ := ms_bA_L (s := s) hL hc
  have ixc := ms_ix_cn (U := ms_U A) (T := ms_bs A k d dp) hN room1
  -- the copies are as many as what is copied
  have cT : ms_cn (fun i => i < 32 ∧ ms_ix N (ms_U A) (ms_bs A k d dp) i < 32) 32 = ms_cn (ms_bs A k d dp) 32 := by
    have e1 : ms_cn (fun i => i < 32 ∧ ms_ix N (ms_U A) (ms_bs A k d dp) i < 32) 32 = ms_cn (fun i => ms_ix N (ms_U A) (ms_bs A k d dp) i < 32) N := by
      rw [ms_cn_eq (Q := fun i => ms_ix N (ms_U A) (ms_bs A k d dp) i < 32) fun i hi => ⟨fun q => q.2, fun q => ⟨hi, q⟩⟩]
      exact ms_cn_cut hN fun j a b q => by
        obtain ⟨t1, t2⟩ := hc.2 j b q
        have := (hc.1 _ t1).1
        omega
    have e2 := ms_cn_sp (P := fun c => ¬ ms_U A c) (Q := fun i => ms_ix N (ms_U A) (ms_bs A k d dp) i < 32) (N := N)
    have e3 : ms_cn (fun i => ¬ ms_U A i ∧ ms_ix N (ms_U A) (ms_bs A k d dp) i < 32) N = ms_cn (fun i => ms_ix N (ms_U A) (ms_bs A k d dp) i < 32) N := ms_cn_eq fun i hi => ⟨fun q => q.2, fun q => ⟨fun u => ms_Cm_o hc (by omega) u q, q⟩⟩
    have e4 : ms_cn (fun i => ¬ ms_U A i ∧ ¬ ms_ix N (ms_U A) (ms_bs A k d dp) i < 32) N = ms_cn (fun i => ¬ (ms_ix N (ms_U A) (ms_bs A k d dp) i < 32 ∨ ms_U A i)) N := ms_cn_eq fun i hi => ⟨fun q w => w.elim q.2 q.1, fun q => ⟨fun w => q (Or.inr w), fun w => q (Or.inl w)⟩⟩
    omega
  refine ⟨room1, hN, hL, bL, ?_, (hF.1 p gp.1 gp.2.1).1, fun r v => ⟨v.1.1, v.2⟩, fun i q => ⟨q.1, ?_⟩, ?_, fun r v => ?_, gp.2.2.2.1, ?_⟩
  · -- attached at once
    have fg := ms_FI_gf (q := 32) (G' := ms_G A) (M' := ms_M A) (B' := ms_B A) hF hc tr gp.1 gp.2.1 gp.2.2.1 gp.2.2.2.1 gp.2.2.2.2 (fun q => absurd q (Nat.lt_irrefl _))
    refine ms_FI_pt fg fun i hi => ?_
    have yi := ms_Cm_i hc g.1 (Or.inl rfl) i hi
    have i32 : ¬ i = 32 := by omega
    simp only [ms_lk, ms_bA, ms_gf, ms_U_mk, ms_R_mk, ms_S_mk, ms_P_mk, ms_Q_mk, if_neg i32]
    refine ⟨by first | trivial | exact Iff.rfl, by first | trivial | rfl, by first | trivial | rfl, ?_, ?_⟩
    · by_cases w : i = ms_yn N (ms_U A) (ms_bs A k d dp) k
      · have ek := yi.mpr w
        have lt : ms_ix N (ms_U A) (ms_bs A k d dp) i < 32 := by rw [ek]; exact g.1
        rw [if_pos lt, if_pos ek, w, ms_fu_s]
      · have nk : ¬ ms_ix N (ms_U A) (ms_bs A k d dp) i = k := fun q => w (yi.mp q)
        rw [ms_fu_n w, if_neg nk, if_neg nk, if_neg i32]
    · by_cases w : i = ms_yn N (ms_U A) (ms_bs A k d dp) k
      · have ek := yi.mpr w
        have lt : ms_ix N (ms_U A) (ms_bs A k d dp) i < 32 := by rw [ek]; exact g.1
        rw [if_pos lt, if_pos ek, w, ms_fu_s]
      · have nk : ¬ ms_ix N (ms_U A) (ms_bs A k d dp) i = k := fun q => w (yi.mp q)
        rw [ms_fu_n w, if_neg nk, if_neg nk, if_neg i32]
  · exact Or.inl q.2
  · obtain ⟨t1, t2, t3, dl, t4⟩ := tr
    refine ⟨⟨y2, by rw [y4]; exact g.1⟩, fun i q => ⟨q.1, ?_⟩, fun i q n => ?_, fun i => dl (ms_ix N (ms_U A) (ms_bs A k d dp) i), fun i q n => ?_⟩
    · simp only [ms_bA, ms_gf, ms_R_mk]
      rw [if_pos q.2]
      exact (t2 _ (hc.2 i q.1 q.2).1).2
    · have nk : ms_ix N (ms_U A) (ms_bs A k d dp) i ≠ k := fun w => n ((ms_Cm_i hc g.1 (Or.inl rfl) i q.1).mp w)
      obtain ⟨tx, _⟩ := hc.2 i q.1 q.2
      obtain ⟨p1, p2, p3, p4⟩ := t3 _ tx nk
      obtain ⟨z1, z2, z3, z4⟩ := hc.1 _ p2
      simp only [ms_bA, ms_gf, ms_P_mk, ms_Q_mk, ms_R_mk, if_pos q.2, if_neg nk, z4, if_pos p1]
      exact ⟨z2, ⟨z2, p1⟩, p3, p4⟩
    · have nk : ms_ix N (ms_U A) (ms_bs A k d dp) i ≠ k := fun w => n ((ms_Cm_i hc g.1 (Or.inl rfl) i q.1).mp w)
      obtain ⟨tx, _⟩ := hc.2 i q.1 q.2
      obtain ⟨p1, p2, p3, p4⟩ := t3 _ tx nk
      obtain ⟨z1, z2, z3, z4⟩ := hc.1 _ p2
      simp only [ms_bA, ms_gf, ms_P_mk, if_pos q.2, if_neg nk, z4]
      exact t4 _ tx nk
  · obtain ⟨r1, r2, r3, r4⟩ := ms_Rc_k hF hL gp v.1
    have o := ms_Cm_o hc r2 r3
    simp only [ms_bA, ms_gf, ms_U_mk, ms_R_mk, if_neg o]
    exact ⟨r1, Or.inr r3, r4⟩
  · rw [cT]
    have eU : ms_cn (fun i => ¬ ms_U (ms_bA N A k d dp s) i) N = ms_cn (fun i => ¬ (ms_ix N (ms_U A) (ms_bs A k d dp) i < 32 ∨ ms_U A i)) N := by simp only [ms_bA, ms_gf, ms_U_mk]
    omega
end
end
section
/-! bind: the component -/
section
variable {N D S : Nat} {us fs rt sp pa pt g m ub lv rm w1 w2 w3 w4 w5 w6 w7 w8 w9 wa wb : Nat → Int32}
variable {A : ms_AS} {lw : Nat → Prop} {rn : Nat → Nat}
theorem mx_cfb {s k d : Nat} {dp : Int32} (hN : N ≤ 32) (h : ms_CR ms_c A us fs rt sp pa pt g m ub) (hF : ms_FI N lw rn A) (gk : ms_gd A s k d) (room : ms_cn (ms_bs A k d dp) 32 ≤ ms_cn (fun c => ¬ ms_U A c) N) (h4 : ∀ i, i < 32 → (¬ w4 i = 0 ↔ ms_bs A k d dp i)) {post : SX → Prop}
    (hq : ∀ us' fs' rt' sp' pa' pt' g' m' ub' w5' w6', ms_CR ms_c (ms_bA N A k d dp s) us' fs' rt' sp' pa' pt' g' m' ub' → (∀ i, i < 32 → (¬ w5' i = 0 ↔ (i < 32 ∧ ms_ix N (ms_U A) (ms_bs A k d dp) i < 32))) → w6' k = nI (ms_yn N (ms_U A) (ms_bs A k d dp) k) → post (nI N, nI D, nI S, us', fs', rt', sp', pa', pt', g', m', ub', lv, rm, w1, w2, w3, w4, w5', w6', w7, w8, w9, wa, wb)) : wpX_copyForBind post (nI N, nI D, nI S, us, fs, rt, sp, pa, pt, g, m, ub, lv, rm, w1, w2, w3, w4, w5, w6, w7, w8, w9, wa, wb) (nI k) (nI d) (nI s) := by
  have hT32 : ∀ x, ms_bs A k d dp x → x < 32 := fun x q => (ms_bs_U gk q).1
  have hTN : ∀ x, ms_bs A k d dp x → ms_U A x ∧ x < N := fun x q => ⟨(ms_bs_U gk q).2, (hF.1 x (ms_bs_U gk q).1 (ms_bs_U gk q).2).1⟩
  have hc : ms_Cm N A (ms_bs A k d dp) (ms_ix N (ms_U A) (ms_bs A k d dp)) (ms_yn N (ms_U A) (ms_bs A k d dp)) := ms_Cm_yn hN room hT32
  have tr := ms_bs_Tr (dp := dp) hF gk
  refine mx_cls fun w0 hw0 => ?_
  refine ms_lp (fun n i (z : (Nat → Int32) × (Nat → Int32) × (Nat → Int32) × (Nat → Int32) × (Nat → Int32) × (Nat → Int32) × (Nat → Int32) × (Nat → Int32) × (Nat → Int32) × (Nat → Int32) × (Nat → Int32)) => wX_copyForBind_7 post (nI k) (nI d) (nI s) n i (nI N) (nI D) (nI S) z.1 z.2.1 z.2.2.1 z.2.2.2.1 z.2.2.2.2.1 z.2.2.2.2.2.1 z.2.2.2.2.2.2.1 z.2.2.2.2.2.2.2.1 z.2.2.2.2.2.2.2.2.1 lv rm w1 w2 w3 w4 z.2.2.2.2.2.2.2.2.2.1 z.2.2.2.2.2.2.2.2.2.2 w7 w8 w9 wa wb) (fun j z => ms_CR ms_c (ms_sg A (ms_ix N (ms_U A) (ms_bs A k d dp)) j (ms_br A k d) s (ms_G A) (ms_M A) (fun _ => 0)) z.1 z.2.1 z.2.2.1 z.2.2.2.1 z.2.2.2.2.1 z.2.2.2.2.2.1 z.2.2.2.2.2.2.1 z.2.2.2.2.2.2.2.1 z.2.2.2.2.2.2.2.2.1 ∧ (∀ i, i < 32 → (¬ z.2.2.2.2.2.2.2.2.2.1 i = 0 ↔ ms_ix N (ms_U A) (ms_bs A k d dp) i < j)) ∧ ∀ x, x < j → ms_bs A k d dp x → z.2.2.2.2.2.2.2.2.2.2 x = nI (ms_yn N (ms_U A) (ms_bs A k d dp) x)) N hN (us, fs, rt, sp, pa, pt, g, m, ub, w0, w6) ⟨ms_sg_0 h, fun i hi => ⟨fun q => absurd (hw0 i hi) q, fun q => absurd q (Nat.not_lt_zero _)⟩, lt_0⟩ (fun n z hI => ?_) (fun n x z hi ci vi ni hI go => ?_)
  · obtain ⟨us', fs', rt', sp', pa', pt', g', m', ub', w5', w6'⟩ := z
    obtain ⟨hI, hW, hM⟩ := hI
    dsimp only at hI hW hM ⊢
    have all : ∀ j, N ≤ j → j ≤ 32 → ms_CR ms_c (ms_sg A (ms_ix N (ms_U A) (ms_bs A k d dp)) j (ms_br A k d) s (ms_G A) (ms_M A) (fun _ => 0)) us' fs' rt' sp' pa' pt' g' m' ub' := by
      intro j hj
      induction hj with
      | refl => intro _; exact hI
      | @step j hj ih =>
        intro h32
        refine ms_sg_n (ms_ix_n (by omega) fun q => ?_) (ih (by omega))
        have := (hTN j q).2
        have : N ≤ j := hj
        omega
    refine br_t (nI_le (Nat.le_refl _) (by omega)) ?_
    refine mx_lnk hN hc tr hTN gk.1 (all 32 hN (Nat.le_refl _)) h4 (fun x q => hM x (hTN x q).2 q) fun pa2 pt2 h2 => hq _ _ _ _ _ _ _ _ _ _ _ h2 (fun i hi => (hW i hi).trans ⟨fun q => ⟨hi, by omega⟩, fun q => (hTN _ (hc.2 i hi q.2).1).2⟩) (hM k (hTN k (Or.inl rfl)).2 (Or.inl rfl))
  · obtain ⟨us', fs', rt', sp', pa', pt', g', m', ub', w5', w6'⟩ := z
    obtain ⟨hI, hW, hM⟩ := hI
    dsimp only at hI hW hM ⊢
    have x32 : x < 32 := by omega
    refine br_f ni ⟨vi, ?_⟩
    rw [ci]
    refine br_c (fun z => go (us', fs', rt', sp', pa', pt', g', m', ub', w5', w6') ⟨ms_sg_n (ms_ix_n x32 fun q => (h4 x x32).mpr q z) hI, fun i hi => ?_, lt_s hM fun q => absurd z ((h4 x x32).mpr q)⟩) (fun z => ?_)
    · have ne := ms_ix_n (N := N) (U := ms_U A) (T := ms_bs A k d dp) x32 (fun q => (h4 x x32).mpr q z) i hi
      refine (hW i hi).trans ?_
      omega
    · have tx := (h4 x x32).mp z
      have ux := (hTN x tx).1
      have nox : ¬ ms_ix N (ms_U A) (ms_bs A k d dp) x < x := fun q => ms_Cm_o hc x32 ux (by omega)
      obtain ⟨y1, y2, y3, y4⟩ := hc.1 x tx
      have ny : x ≠ ms_yn N (ms_U A) (ms_bs A k d dp) x := fun q => y3 (q ▸ ux)
      have ef : fs' x = ms_F A x := by rw [ms_CR_f hI x32]; simp only [ms_sg, ms_F_mk, if_neg nox]
      have er : rt' x = nI (ms_R A x) := by rw [ms_CR_r hI x32]; simp only [ms_sg, ms_R_mk, if_neg nox]
      have eg : g' x = ms_c (ms_G A x) := by rw [ms_CR_g hI x32]; simp only [ms_sg, ms_G_mk, if_neg nox]
      have em : m' x = ms_c (ms_M A x) := by rw [ms_CR_m hI x32]; simp only [ms_sg, ms_M_mk, if_neg nox]
      have vy : vp_in (nI (ms_yn N (ms_U A) (ms_bs A k d dp) x)) 32 := vp_in_nI y2 (by omega)
      have cy : (nI (ms_yn N (ms_U A) (ms_bs A k d dp) x)).toNatClampNeg = ms_yn N (ms_U A) (ms_bs A k d dp) x := nI_clamp (by omega)
      have ey := ms_sg_lo (A := A) (T := ms_bs A k d dp) (rt' := ms_br A k d) (s := s) (gl := ms_G A) (ml := ms_M A) (bl := fun _ => 0) hN room (x := x) (by omega)
      have n1 := ms_CR_nw hI ms_c_32 (ms_yn N (ms_U A) (ms_bs A k d dp) x) (ms_F A x) (ms_br A k d x) s
      have n2 := ms_CR_sB (ms_CR_sM (ms_CR_sG n1 (ms_yn N (ms_U A) (ms_bs A k d dp) x) (ms_G A x)) (ms_yn N (ms_U A) (ms_bs A k d dp) x) (ms_M A x)) (ms_yn N (ms_U A) (ms_bs A k d dp) x) 0
      have n3 := ms_sg_s (y := ms_yn N (ms_U A) (ms_bs A k d dp)) (ms_Cm_i hc x32 tx) n2
      have eub : upd (upd ub' (ms_yn N (ms_U A) (ms_bs A k d dp) x) 0) (ms_yn N (ms_U A) (ms_bs A k d dp) x) 0 = upd ub' (ms_yn N (ms_U A) (ms_bs A k d dp) x) 0 := by
        funext i
        by_cases q : i = ms_yn N (ms_U A) (ms_bs A k d dp) x
        · rw [q, ms_us, ms_us]
        · rw [ms_un' q]
      rw [eub] at n3
      have join : wX_copyForBind_43 post (wX_copyForBind_7 post (nI k) (nI d) (nI s) n) (nI k) (nI d) (nI s) (nI x) (nI (ms_br A k d x)) (nI N) (nI D) (nI S) us' fs' rt' sp' pa' pt' g' m' ub' lv rm w1 w2 w3 w4 w5' w6' w7 w8 w9 wa wb := by
        refine ⟨vi, ?_⟩
        rw [ci, ef]
        refine mx_nwm hN (by rw [ms_rd_nw hI hN]; exact ey) y2 ⟨vi, vy, ?_⟩
        rw [cy, ms_un' (f := g') ny, eg]
        refine nm_e ⟨vi, vy, ?_⟩
        rw [ms_un' (f := m') ny, em]
        refine nm_e ⟨vi, nm_e ⟨vy, nm_e (go (_, _, _, _, _, _, _, _, _, upd w5' (ms_yn N (ms_U A) (ms_bs A k d dp) x) (vp_nar .boolean 1), upd w6' x (nI (ms_yn N (ms_U A) (ms_bs A k d dp) x))) ⟨n3, fun i hi => ?_, lt_s (fun j hj q => ?_) (fun _ => ms_us)⟩)⟩⟩
        · dsimp only
          rw [ms_ws, hW i hi]
          have q := ms_Cm_i hc x32 tx i hi
          constructor
          · rintro (w | w)
            · omega
            · have := q.mpr w; omega
          · intro w
            by_cases k' : ms_ix N (ms_U A) (ms_bs A k d dp) i = x
            · exact Or.inr (q.mp k')
            · exact Or.inl (by omega)
        · dsimp only
          rw [ms_un' (by omega)]
          exact hM j hj q
      have gk1 := gk.1
      refine br_c (fun z2 => ?_) (fun z2 => ⟨vi, ?_⟩)
      · have ek := (nI_eq (by omega) (by omega)).mp z2
        have eb : ms_br A k d x = d := if_pos ek
        rw [eb] at join
        exact join
      · have ek : ¬ x = k := fun q => z2 (by rw [q])
        have eb : ms_br A k d x = ms_R A x := if_neg ek
        rw [eb] at join
        rw [er]
        exact join
theorem mx_bind {s a b : Nat} {x2 x3 dp : Int32} (hN : N ≤ 32) (hD : D ≤ 15) (hS : S ≤ 4) (h : ms_CR ms_c A us fs rt sp pa pt g m ub) (hF : ms_FI N lw rn A) (hL : ms_LI A) (hl : ∀ s, s < 4 → (lv s = 0 ↔ ¬ lw s)) (hr : ∀ s, s < 4 → lw s → rm s = nI (rn s)) (hs : s < S) (ls : lw s) (wa' : ms_wk N D A x2 16 (ms_cr N A 32 (rn s) (ms_R A (rn s))) = some a) (wb' : ms_wk N D A x3 16 (ms_cr N A 32 (rn s) (ms_R A (rn s))) = some b) {post : Int32 → SX → Prop}
    (o1 : ¬ ms_B A (a / 16) = 0 → post (-2) (nI N, nI D, nI S, us, fs, rt, sp, pa, pt, g, m, ub, lv, rm, w1, w2, w3, w4, w5, w6, w7, w8, w9, wa, wb))
    (o6 : ms_B A (a / 16) = 0 → ¬ ms_cn (ms_bs A (a / 16) (a % 16) dp) N * ms_cn (ms_Rc A (b / 16) (b % 16)) 32 ≤ ms_cn (fun c => ¬ ms_U A c) N → ∀ w1' w2' w4' w7' w8', post (-4) (nI N, nI D, nI S, us, fs, rt, sp, pa, pt, g, m, ub, lv, rm, w1', w2', w3, w4', w5, w6, w7', w8', w9, wa, wb))
    (ok : ms_B A (a / 16) = 0 → ms_cn (ms_bs A (a / 16) (a % 16) dp) N * ms_cn (ms_Rc A (b / 16) (b % 16)) 32 ≤ ms_cn (fun c => ¬ ms_U A c) N → ∀ us' fs' rt' sp' pa' pt' g' m' ub' w1' w2' w4' w5' w6' w7' w8' w9' wa' wb', ms_CR ms_c (ms_aF N A (ms_bA N A (a / 16) (a % 16) dp s) (fun i => i < 32 ∧ ms_ix N (ms_U A) (ms_bs A (a / 16) (a % 16) dp) i < 32) (fun r => ms_Rc A (b / 16) (b % 16) r ∧ r ≠ b / 16) (ms_yn N (ms_U A) (ms_bs A (a / 16) (a % 16) dp) (a / 16)) (b / 16) (b % 16)) us' fs' rt' sp' pa' pt' g' m' ub' → post (nI (ms_yn N (ms_U A) (ms_bs A (a / 16) (a % 16) dp) (a / 16))) (nI N, nI D, nI S, us', fs', rt', sp', pa', pt', g', m', ub', lv, rm, w1', w2', w3, w4', w5', w6', w7', w8', w9', wa', wb')) : wpX_bind post (nI N, nI D, nI S, us, fs, rt, sp, pa, pt, g, m, ub, lv, rm, w1, w2, w3, w4, w5, w6, w7, w8, w9, wa, wb) (nI s) x2 x3 dp := by
  have s4 : s < 4 := by omega
  have ga := ms_wgd hF hN hD s4 ls wa'
  have gb := ms_wgd hF hN hD s4 ls wb'
  have a31 : a < 2 ^ 31 := by have := ms_gd_q ga; omega
  have b31 : b < 2 ^ 31 := by have := ms_gd_q gb; omega
  have pN := (hF.1 _ gb.1 gb.2.1).1
  have kN := (hF.1 _ ga.1 ga.2.1).1
  have ga1 := ga.1
  have vt : vp_in (nI (a / 16)) 32 := vp_in_nI ga.1 (by omega)
  have ct : (nI (a / 16)).toNatClampNeg = a / 16 := nI_clamp (by omega)
  unfold wpX_bind
  refine mx_il1 hS hl hs ls (br_f ms_10 (mx_walk h hF hN hD s4 ls (hr s s4 ls) ?_))
  rw [wa', ms_o_s]
  refine br_t (nI_pos' a31) (mx_walk h hF hN hD s4 ls (hr s s4 ls) ?_)
  rw [wb', ms_o_s]
  refine br_t (nI_pos' b31) ?_
  intro x7 e7 x8 e8 x9 e9 x10 e10
  rw [e7, e8, e9, e10, ms_p4 a31, ms_p15 a31, ms_p4 b31, ms_p15 b31]
  refine ⟨vt, ?_⟩
  rw [ct, ms_CR_b h ga.1]
  refine br_c (fun z1 => ?_) (fun z1 => o1 z1)
  refine mx_sfb h hF hN kN (by omega) fun w hw => mx_fre h hF hL hN pN (by omega) fun w1' r og om hro => mx_fct hN ?_
  have c1 := ms_cn_le (ms_bs A (a / 16) (a % 16) dp) N
  have c2 := ms_cn_le (ms_Rc A (b / 16) (b % 16)) 32
  have c3 := ms_cn_le (fun c => ¬ ms_U A c) N
  have c4 := ms_prod (a := ms_cn (ms_bs A (a / 16) (a % 16) dp) N) (b := ms_cn (ms_Rc A (b / 16) (b % 16)) 32) (by omega) (by omega)
  show (nI (ms_cn (ms_bs A (a / 16) (a % 16) dp) N) * _ ≤ _ → _) ∧ (¬ nI (ms_cn (ms_bs A (a / 16) (a % 16) dp) N) * _ ≤ _ → _)
  rw [ms_rd_fc h hN, pk_mul, nI_leI c4 (by omega)]
  refine br_c (fun z => ?_) (fun z => o6 z1 z _ _ _ _ _)
  obtain ⟨room, aq⟩ := ms_Aq_bd (dp := dp) hN hF hL ga gb z
  refine mx_cfb hN h hF ga room hw fun us2 fs2 rt2 sp2 pa2 pt2 g2 m2 ub2 w5' w6' h2 h5 h6 => ⟨vt, ?_⟩
  rw [h6]
  refine nm_e (mx_attach aq (fun i hi u => (hF.1 i hi u).1) h2 h5 (fun i hi => and_congr (hro i hi).1 Iff.rfl) (fun i hi => ⟨by rw [(hro i hi).2.1, ms_CR_g h hi], by rw [(hro i hi).2.2, ms_CR_m h hi]⟩) gb.2.2.2.1 fun us' fs' rt' sp' pa' pt' g' m' ub' w2' w9' wa' wb' h' => ok z1 z _ _ _ _ _ _ _ _ _ _ _ _ _ _ _ _ _ _ _ h')
end
end
section
/-! bind: the reference, and the two together -/
section
variable {N D S : Nat} {lv us fs rt sp ub pa pt g m v1 v2 v3 v4 v5 v6 v7 v8 v9 : Nat → Int32}
variable {e : Nat → Int32} {A : ms_AS} {lw : Nat → Prop} {rn : Nat → Nat}
/-- the copies, their links, and the call of attach -/
theorem my_cfb {s k d b : Nat} {dp : Int32} (hN : N ≤ 32) (h : ms_CR e A us fs rt sp pa pt g m ub) (he : e 32 = 0) (hF : ms_FI N lw rn A) (gk : ms_gd A s k d) (b31 : b < 2 ^ 31) (room : ms_cn (ms_bs A k d dp) 32 ≤ ms_cn (fun c => ¬ ms_U A c) N) (h3 : ∀ i, i < 32 → (¬ v3 i = 0 ↔ ms_bs A k d dp i)) (h8 : ∀ i, i < 32 → v8 i = -1 ∧ v9 i = -1) {post : Int32 → SY → Prop}
    (hq : ∀ us' fs' rt' sp' pa' pt' g' m' ub' v3' v8', ms_CR e (ms_bA N A k d dp s) us' fs' rt' sp' pa' pt' g' m' ub' → (∀ i, i < 32 → (¬ v3' i = 0 ↔ (i < 32 ∧ ms_ix N (ms_U A) (ms_bs A k d dp) i < 32))) → wpY_attach (fun u => post (nI (ms_yn N (ms_U A) (ms_bs A k d dp) k)) u) (nI N, nI D, nI S, lv, us', fs', rt', sp', ub', pa', pt', g', m', v1, v2, v3', v4, v5, v6, v7, v8', v9) (nI (ms_yn N (ms_U A) (ms_bs A k d dp) k)) (nI (b / 16)) (nI (b % 16))) : ∃ n, wY_bind_185 post (nI s) (nI b) (nI k) (nI d) n 0 (nI N) (nI D) (nI S) lv us fs rt sp ub pa pt g m v1 v2 v3 v4 v5 v6 v7 v8 v9 := by
  have hT32 : ∀ x, ms_bs A k d dp x → x < 32 := fun x q => (ms_bs_U gk q).1
  have hTN : ∀ x, ms_bs A k d dp x → ms_U A x ∧ x < N := fun x q => ⟨(ms_bs_U gk q).2, (hF.1 x (ms_bs_U gk q).1 (ms_bs_U gk q).2).1⟩
  have hc : ms_Cm N A (ms_bs A k d dp) (ms_ix N (ms_U A) (ms_bs A k d dp)) (ms_yn N (ms_U A) (ms_bs A k d dp)) := ms_Cm_yn hN room hT32
  have tr := ms_bs_Tr (dp := dp) hF gk
  have k32 := gk.1
  have d15 := gk.2.2.2.1
  refine ms_lp (fun n i (z : (Nat → Int32) × (Nat → Int32) × (Nat → Int32) × (Nat → Int32) × (Nat → Int32) × (Nat → Int32) × (Nat → Int32) × (Nat → Int32) × (Nat → Int32) × (Nat → Int32)) => wY_bind_185 post (nI s) (nI b) (nI k) (nI d) n i (nI N) (nI D) (nI S) lv z.1 z.2.1 z.2.2.1 z.2.2.2.1 z.2.2.2.2.2.2.2.2.1 z.2.2.2.2.1 z.2.2.2.2.2.1 z.2.2.2.2.2.2.1 z.2.2.2.2.2.2.2.1 v1 v2 v3 v4 v5 v6 v7 z.2.2.2.2.2.2.2.2.2 v9) (fun j z => ms_CR e (ms_sg A (ms_ix N (ms_U A) (ms_bs A k d dp)) j (ms_br A k d) s (ms_G A) (ms_M A) (fun _ => 0)) z.1 z.2.1 z.2.2.1 z.2.2.2.1 z.2.2.2.2.1 z.2.2.2.2.2.1 z.2.2.2.2.2.2.1 z.2.2.2.2.2.2.2.1 z.2.2.2.2.2.2.2.2.1 ∧ ∀ i, i < 32 → z.2.2.2.2.2.2.2.2.2 i = ms_c (if ms_ix N (ms_U A) (ms_bs A k d dp) i < j then ms_ix N (ms_U A) (ms_bs A k d dp) i else 32)) 32 (Nat.le_refl _) (us, fs, rt, sp, pa, pt, g, m, ub, v8) ⟨ms_sg_0 h, fun i hi => by rw [if_neg (Nat.not_lt_zero _), ms_c_32]; exact (h8 i hi).1⟩ (fun n z hI => ?_) (fun n x z hi ci vi ni hI go => ?_)
  · obtain ⟨us', fs', rt', sp', pa', pt', g', m', ub', w'⟩ := z
    obtain ⟨hI, hW⟩ := hI
    dsimp only at hI hW ⊢
    have hW' : ∀ i, i < 32 → w' i = ms_c (ms_ix N (ms_U A) (ms_bs A k d dp) i) := fun i i32 => by
      rw [hW i i32]
      by_cases q : ms_ix N (ms_U A) (ms_bs A k d dp) i < 32
      · rw [if_pos q]
      · rw [if_neg q, ms_c_ge q, ms_c_32]
    have h9 : ∀ i, i < 32 → v9 i = -1 := fun i hi => (h8 i hi).2
    refine br_t (nI_le (b := 32) (Nat.le_refl _) (by omega)) ?_
    refine ms_lp (fun n j (z : (Nat → Int32) × (Nat → Int32) × (Nat → Int32)) => wY_bind_281 post (nI b) (nI k) (nI N) (nI D) (nI S) n j lv us' fs' rt' sp' ub' z.1 z.2.1 g' m' v1 v2 z.2.2 v4 v5 v6 v7 w' v9) (fun j z => ms_CR e (ms_ls (ms_sg A (ms_ix N (ms_U A) (ms_bs A k d dp)) 32 (ms_br A k d) s (ms_G A) (ms_M A) (fun _ => 0)) (ms_ix N (ms_U A) (ms_bs A k d dp)) (ms_yn N (ms_U A) (ms_bs A k d dp)) k (ms_P A) (ms_Q A) (fun i => i < j)) us' fs' rt' sp' z.1 z.2.1 g' m' ub' ∧ ∀ i, i < j → (¬ z.2.2 i = 0 ↔ (i < 32 ∧ ms_ix N (ms_U A) (ms_bs A k d dp) i < 32))) 32 (Nat.le_refl _) (pa', pt', v3) ⟨ms_ls_0 hI fun i q => Nat.not_lt_zero _ q, lt_0⟩ (fun n z hJ => ?_) (fun n j z hj cj vj nj hJ go2 => ?_)
    · have hG := ms_ls_gf (ms_ls_k (c' := fun _ => True) hJ.1 fun i i32 _ _ => ⟨fun _ => i32, fun _ => trivial⟩)
      have y2 := (hc.1 k (Or.inl rfl)).2.1
      have e1 : nI k = ms_c k := (ms_c_lt k32).symm
      refine br_t (nI_le (b := 32) (Nat.le_refl _) (by omega)) ?_
      rw [e1]
      refine my_cpx k32 (ms_Cm_i hc k32 (Or.inl rfl)) y2 hW' h9 ⟨by decide, by decide, ?_⟩
      rw [ms_pr b31, ms_pd b31, ms_c_lt y2]
      exact hq _ _ _ _ _ _ _ _ _ _ _ hG hJ.2
    · obtain ⟨pa2, pt2, w3⟩ := z
      obtain ⟨hJ, hT⟩ := hJ
      dsimp only at hJ hT ⊢
      have join : ∀ z0 : Int32, (z0 = 0 ∧ ¬ ms_ix N (ms_U A) (ms_bs A k d dp) j < 32) ∨ (z0 = 1 ∧ ms_ix N (ms_U A) (ms_bs A k d dp) j < 32) → wY_bind_309 post (wY_bind_281 post (nI b) (nI k) (nI N) (nI D) (nI S) n) (nI b) (nI k) (nI j) z0 (nI j) (nI N) (nI D) (nI S) lv us' fs' rt' sp' ub' pa2 pt2 g' m' v1 v2 w3 v4 v5 v6 v7 w' v9 := by
        intro z0 hz
        refine ⟨vj, ?_⟩
        rw [cj]
        refine nm_e ⟨vj, ?_⟩
        rw [ms_us]
        rcases hz with ⟨q, no⟩ | ⟨q, x32⟩
        · subst q
          have kk : ∀ i, i < j + 1 → (¬ upd w3 j (vp_nar .boolean 0) i = 0 ↔ (i < 32 ∧ ms_ix N (ms_U A) (ms_bs A k d dp) i < 32)) := ms_wb hT (ms_v0 (c := j < 32 ∧ ms_ix N (ms_U A) (ms_bs A k d dp) j < 32) fun w => no w.2) Iff.rfl
          rw [ms_b0] at kk ⊢
          exact br_t rfl (go2 (pa2, pt2, _) ⟨ms_ls_k hJ fun i i32 a _ => by have : i ≠ j := fun w => no (w ▸ a); omega, kk⟩)
        · subst q
          have kk : ∀ i, i < j + 1 → (¬ upd w3 j (vp_nar .boolean 1) i = 0 ↔ (i < 32 ∧ ms_ix N (ms_U A) (ms_bs A k d dp) i < 32)) := ms_wb hT (ms_v1 (c := j < 32 ∧ ms_ix N (ms_U A) (ms_bs A k d dp) j < 32) ⟨hj, x32⟩) Iff.rfl
          rw [ms_b1] at kk ⊢
          refine br_f ms_10 ⟨vj, ?_⟩
          obtain ⟨tx, yj⟩ := hc.2 j hj x32
          have ux := (hTN _ tx).1
          have ox := ms_Cm_o hc x32 ux
          rw [hW' j hj]
          generalize hx : ms_ix N (ms_U A) (ms_bs A k d dp) j = x at *
          refine br_c (fun z2 => go2 (pa2, pt2, _) ⟨ms_ls_k hJ fun i i32 _ b' => ?_, kk⟩) (fun z2 => ⟨vj, ms_c_in x32, ?_⟩)
          · have : i ≠ j := fun w => b' (by rw [w, hx]; exact (ms_c_eq k32).mp z2)
            omega
          · have xt : x ≠ k := fun q => z2 (by rw [q, ms_c_lt k32])
            obtain ⟨p1, p2, p3, p4⟩ := tr.2.2.1 x tx xt
            have ex : pa2 x = ms_c (ms_P A x) := by
              rw [ms_CR_p hJ x32 (Or.inr ux)]
              simp only [ms_ls, ms_sg, ms_P_mk, if_neg ox]
              rw [ms_ic_f (fun q => ox q.2.1)]
            have eq : pt2 x = ms_c (ms_Q A x) := by
              rw [ms_CR_q hJ x32 (Or.inr ux)]
              simp only [ms_ls, ms_sg, ms_Q_mk, if_neg ox]
              rw [ms_ic_f (fun q => ox q.2.1)]
            rw [ms_c_cl x32, ex, eq]
            have kl := ms_ls_s (c' := fun i => i < j + 1) hj hJ (by rw [hx]; exact x32) (by rw [hx]; exact xt) (fun i i32 ne a b => by omega) (by omega)
            rw [hx] at kl
            exact my_cpx p1 (ms_Cm_i hc p1 p2) (hc.1 _ p2).2.1 hW' h9 ⟨vj, nm_e ⟨vj, ms_c_in x32, vj, nm_e (go2 (_, _, _) ⟨kl, kk⟩)⟩⟩
      refine br_f nj ⟨vj, ?_⟩
      rw [cj, hW' j hj]
      exact br_c (fun z => join 0 (Or.inl ⟨rfl, ms_c_neg.mp z⟩)) (fun z => join 1 (Or.inr ⟨rfl, Classical.byContradiction fun q => z (ms_c_neg.mpr q)⟩))
  · obtain ⟨us', fs', rt', sp', pa', pt', g', m', ub', w'⟩ := z
    obtain ⟨hI, hW⟩ := hI
    dsimp only at hI hW ⊢
    refine br_f ni ⟨vi, ?_⟩
    rw [ci]
    refine br_c (fun z => go (us', fs', rt', sp', pa', pt', g', m', ub', w') ⟨ms_sg_n (ms_ix_n hi fun q => (h3 x hi).mpr q z) hI, fun i i32 => ?_⟩) (fun z => ⟨vi, ?_⟩)
    · have ne := ms_ix_n (N := N) (U := ms_U A) (T := ms_bs A k d dp) hi (fun q => (h3 x hi).mpr q z) i i32
      have : (ms_ix N (ms_U A) (ms_bs A k d dp) i < x + 1) ↔ ms_ix N (ms_U A) (ms_bs A k d dp) i < x := by omega
      simp only [this]
      exact hW i i32
    · have tx := (h3 x hi).mp z
      have ux := (hTN x tx).1
      have nox : ¬ ms_ix N (ms_U A) (ms_bs A k d dp) x < x := fun q => ms_Cm_o hc hi ux (by omega)
      obtain ⟨y1, y2, y3, y4⟩ := hc.1 x tx
      have ny : x ≠ ms_yn N (ms_U A) (ms_bs A k d dp) x := fun q => y3 (q ▸ ux)
      have ef : fs' x = ms_F A x := by rw [ms_CR_f hI hi]; simp only [ms_sg, ms_F_mk, if_neg nox]
      have er : rt' x = nI (ms_R A x) := by rw [ms_CR_r hI hi]; simp only [ms_sg, ms_R_mk, if_neg nox]
      have eg : g' x = e (ms_G A x) := by rw [ms_CR_g hI hi]; simp only [ms_sg, ms_G_mk, if_neg nox]
      have em : m' x = e (ms_M A x) := by rw [ms_CR_m hI hi]; simp only [ms_sg, ms_M_mk, if_neg nox]
      have vy : vp_in (nI (ms_yn N (ms_U A) (ms_bs A k d dp) x)) 32 := vp_in_nI y2 (by omega)
      have cy : (nI (ms_yn N (ms_U A) (ms_bs A k d dp) x)).toNatClampNeg = ms_yn N (ms_U A) (ms_bs A k d dp) x := nI_clamp (by omega)
      have ey := ms_sg_lo (A := A) (T := ms_bs A k d dp) (rt' := ms_br A k d) (s := s) (gl := ms_G A) (ml := ms_M A) (bl := fun _ => 0) hN room (x := x) (by omega)
      have n1 := ms_CR_nw hI he (ms_yn N (ms_U A) (ms_bs A k d dp) x) (ms_F A x) (ms_br A k d x) s
      have n2 := ms_CR_sB (ms_CR_sM (ms_CR_sG n1 (ms_yn N (ms_U A) (ms_bs A k d dp) x) (ms_G A x)) (ms_yn N (ms_U A) (ms_bs A k d dp) x) (ms_M A x)) (ms_yn N (ms_U A) (ms_bs A k d dp) x) 0
      have n3 := ms_sg_s (y := ms_yn N (ms_U A) (ms_bs A k d dp)) (ms_Cm_i hc hi tx) n2
      have eub : upd (upd ub' (ms_yn N (ms_U A) (ms_bs A k d dp) x) 0) (ms_yn N (ms_U A) (ms_bs A k d dp) x) 0 = upd ub' (ms_yn N (ms_U A) (ms_bs A k d dp) x) 0 := by
        funext i
        by_cases q : i = ms_yn N (ms_U A) (ms_bs A k d dp) x
        · rw [q, ms_us, ms_us]
        · rw [ms_un' q]
      rw [eub] at n3
      have join : wY_bind_229 post (wY_bind_185 post (nI s) (nI b) (nI k) (nI d) n) (nI s) (nI b) (nI k) (nI d) (nI x) (nI (ms_br A k d x)) (ms_F A x) (nI N) (nI D) (nI S) lv us' fs' rt' sp' ub' pa' pt' g' m' v1 v2 v3 v4 v5 v6 v7 w' v9 := by
        unfold wY_bind_229
        refine my_nwm hN (by rw [ms_rd_nw hI hN]; exact ey) y2 ⟨vi, vy, ?_⟩
        rw [ci, cy, ms_un' (f := g') ny, eg]
        refine nm_e ⟨vi, vy, ?_⟩
        rw [ms_un' (f := m') ny, em]
        refine nm_e ⟨vy, nm_e (go (_, _, _, _, _, _, _, _, _, upd w' (ms_yn N (ms_U A) (ms_bs A k d dp) x) (nI x)) ⟨n3, fun i i32 => ?_⟩)⟩
        dsimp only
        by_cases q : i = ms_yn N (ms_U A) (ms_bs A k d dp) x
        · rw [q, ms_us, y4, if_pos (by omega), ms_c_lt hi]
        · rw [ms_un' q, hW i i32]
          have ne : ms_ix N (ms_U A) (ms_bs A k d dp) i ≠ x := fun w => q ((ms_Cm_i hc hi tx i i32).mp w)
          have : (ms_ix N (ms_U A) (ms_bs A k d dp) i < x + 1) ↔ ms_ix N (ms_U A) (ms_bs A k d dp) i < x := by omega
          simp only [this]
      rw [ef]
      refine br_c (fun z2 => ?_) (fun z2 => ⟨vi, ?_⟩)
      · have ek := (nI_eq (by omega) (by omega)).mp z2
        have eb : ms_br A k d x = d := if_pos ek
        rw [eb] at join
        exact join
      · have ek : ¬ x = k := fun q => z2 (by rw [q])
        have eb : ms_br A k d x = ms_R A x := if_neg ek
        rw [eb] at join
        rw [er]
        exact join
theorem my_bind {s a b : Nat} {x2 x3 dp : Int32} (hN : N ≤ 32) (hD : D ≤ 15) (hS : S ≤ 4) (h : ms_CR e A us fs rt sp pa pt g m ub) (he : e 32 = 0) (hE : ms_E e A) (hF : ms_FI N lw rn A) (hL : ms_LI A) (hl : ∀ s, s < 4 → (lv s = 0 ↔ ¬ lw s)) (hs : s < S) (ls : lw s) (wa' : ms_wk N D A x2 16 (ms_cr N A 32 (rn s) (ms_R A (rn s))) = some a) (wb' : ms_wk N D A x3 16 (ms_cr N A 32 (rn s) (ms_R A (rn s))) = some b) {post : Int32 → SY → Prop}
    (o1 : ¬ ms_B A (a / 16) = 0 → post (-2) (nI N, nI D, nI S, lv, us, fs, rt, sp, ub, pa, pt, g, m, v1, v2, v3, v4, v5, v6, v7, v8, v9))
    (o6 : ms_B A (a / 16) = 0 → ¬ ms_cn (ms_bs A (a / 16) (a % 16) dp) N * ms_cn (ms_Rc A (b / 16) (b % 16)) 32 ≤ ms_cn (fun c => ¬ ms_U A c) N → ∀ v1' v2' v3' v4' v5', post (-4) (nI N, nI D, nI S, lv, us, fs, rt, sp, ub, pa, pt, g, m, v1', v2', v3', v4', v5', v6, v7, v8, v9))
    (ok : ms_B A (a / 16) = 0 → ms_cn (ms_bs A (a / 16) (a % 16) dp) N * ms_cn (ms_Rc A (b / 16) (b % 16)) 32 ≤ ms_cn (fun c => ¬ ms_U A c) N → ∀ e' us' fs' rt' sp' pa' pt' g' m' ub' v1' v2' v3' v4' v5' v6' v7' v8' v9', e' 32 = 0 → ms_E e' (ms_aF N A (ms_bA N A (a / 16) (a % 16) dp s) (fun i => i < 32 ∧ ms_ix N (ms_U A) (ms_bs A (a / 16) (a % 16) dp) i < 32) (fun r => ms_Rc A (b / 16) (b % 16) r ∧ r ≠ b / 16) (ms_yn N (ms_U A) (ms_bs A (a / 16) (a % 16) dp) (a / 16)) (b / 16) (b % 16)) → ms_CR e' (ms_aF N A (ms_bA N A (a / 16) (a % 16) dp s) (fun i => i < 32 ∧ ms_ix N (ms_U A) (ms_bs A (a / 16) (a % 16) dp) i < 32) (fun r => ms_Rc A (b / 16) (b % 16) r ∧ r ≠ b / 16) (ms_yn N (ms_U A) (ms_bs A (a / 16) (a % 16) dp) (a / 16)) (b / 16) (b % 16)) us' fs' rt' sp' pa' pt' g' m' ub' → post (nI (ms_yn N (ms_U A) (ms_bs A (a / 16) (a % 16) dp) (a / 16))) (nI N, nI D, nI S, lv, us', fs', rt', sp', ub', pa', pt', g', m', v1', v2', v3', v4', v5', v6', v7', v8', v9')) : wpY_bind post (nI N, nI D, nI S, lv, us, fs, rt, sp, ub, pa, pt, g, m, v1, v2, v3, v4, v5, v6, v7, v8, v9) (nI s) x2 x3 dp := by
  have s4 : s < 4 := by omega
  have ga := ms_wgd hF hN hD s4 ls wa'
  have gb := ms_wgd hF hN hD s4 ls wb'
  have a31 : a < 2 ^ 31 := by have := ms_gd_q ga; omega
  have b31 : b < 2 ^ 31 := by have := ms_gd_q gb; omega
  have pN := (hF.1 _ gb.1 gb.2.1).1
  have ga1 := ga.1
  have vt : vp_in (nI (a / 16)) 32 := vp_in_nI ga.1 (by omega)
  have ct : (nI (a / 16)).toNatClampNeg = a / 16 := nI_clamp (by omega)
  have TN : ∀ x, ms_bs A (a / 16) (a % 16) dp x → x < 32 ∧ ms_U A x ∧ x < N := fun x q => ⟨(ms_bs_U ga q).1, (ms_bs_U ga q).2, (hF.1 x (ms_bs_U ga q).1 (ms_bs_U ga q).2).1⟩
  unfold wpY_bind
  refine my_il1 hS hl hs ls (br_f ms_10 (my_walk h hF hN hD s4 ls ?_))
  rw [wa', ms_o_s]
  refine br_t (nI_pos' a31) (my_walk h hF hN hD s4 ls ?_)
  rw [wb', ms_o_s]
  refine br_t (nI_pos' b31) ⟨by decide, ?_⟩
  rw [ms_pr a31, ms_pd a31]
  refine nm_e ⟨by decide, nm_e ⟨vt, ?_⟩⟩
  rw [ct, ms_CR_b h ga.1]
  refine br_c (fun z1 => ?_) (fun z1 => o1 z1)
  refine ms_lp (fun n i (z : Int32 × (Nat → Int32)) => wY_bind_74 post (nI s) dp (nI b) (nI (a / 16)) (nI (a % 16)) (nI N) (nI D) (nI S) n z.1 i lv us fs rt sp ub pa pt g m v1 v2 z.2 v4 v5 v6 v7 v8 v9) (fun i z => z.1 = nI (ms_cn (ms_bs A (a / 16) (a % 16) dp) i) ∧ ∀ j, j < i → (¬ z.2 j = 0 ↔ ms_bs A (a / 16) (a % 16) dp j)) 32 (Nat.le_refl _) (0, v3) ⟨rfl, lt_0⟩ (fun n z hI => ?_) (fun n i z hi ci vi ni hI go => ?_)
  · obtain ⟨c, w⟩ := z
    obtain ⟨ec, hw⟩ := hI
    dsimp only at ec hw ⊢
    rw [ms_cn_cut hN fun j p q c => by have := (TN j c).2.2; omega] at ec
    have c1 := ms_cn_le (ms_bs A (a / 16) (a % 16) dp) N
    have c2 := ms_cn_le (ms_Rc A (b / 16) (b % 16)) 32
    have c3 := ms_cn_le (fun c => ¬ ms_U A c) N
    have c4 := ms_prod (a := ms_cn (ms_bs A (a / 16) (a % 16) dp) N) (b := ms_cn (ms_Rc A (b / 16) (b % 16)) 32) (by omega) (by omega)
    refine br_t (nI_le (b := 32) (Nat.le_refl _) (by omega)) ⟨by decide, by decide, ?_⟩
    rw [ms_pr b31, ms_pd b31]
    refine my_fre h hE he hF hL hN pN (by omega) fun w1' r og om hro => my_fct hN ?_
    rw [ms_rd_fc h hN, ec, pk_mul, nI_leI c4 (by omega)]
    refine br_c (fun z => ?_) (fun z => o6 z1 z _ _ _ _ _)
    obtain ⟨room, aq⟩ := ms_Aq_bd (dp := dp) hN hF hL ga gb z
    have hc : ms_Cm N A (ms_bs A (a / 16) (a % 16) dp) (ms_ix N (ms_U A) (ms_bs A (a / 16) (a % 16) dp)) (ms_yn N (ms_U A) (ms_bs A (a / 16) (a % 16) dp)) := ms_Cm_yn hN room fun x q => (TN x q).1
    refine my_clr fun a8 a9 h89 => my_cfb hN h he hF ga b31 room hw h89 fun us2 fs2 rt2 sp2 pa2 pt2 g2 m2 ub2 v3' v8' h2 h3' => ?_
    exact my_attach (Rf := ms_Rc A (b / 16) (b % 16)) (e0 := e) aq hE he ⟨ms_Cl_r, gb.2.2.2.2⟩ (fun r _ => Iff.rfl) h2 he (ms_E_map hE (ms_bA_L (s := s) hL hc).2) h3' (fun i hi => (hro i hi).1) (fun i hi => ⟨by rw [(hro i hi).2.1, ms_CR_g h hi], by rw [(hro i hi).2.2, ms_CR_m h hi]⟩) gb.2.2.2.1 fun e' us' fs' rt' sp' pa' pt' g' m' ub' v6' v7' v8' v9' i1 i2 i3 => ok z1 z e' _ _ _ _ _ _ _ _ _ _ _ _ _ _ _ _ _ _ i1 i2 i3
  · obtain ⟨c, w⟩ := z
    obtain ⟨ec, hw⟩ := hI
    dsimp only at ec hw ⊢
    have fin : ∀ z0 : Int32, (z0 = 0 ∧ ¬ ms_bs A (a / 16) (a % 16) dp i) ∨ (z0 = 1 ∧ ms_bs A (a / 16) (a % 16) dp i) → wY_bind_127 post (wY_bind_74 post (nI s) dp (nI b) (nI (a / 16)) (nI (a % 16)) (nI N) (nI D) (nI S) n) (nI s) dp (nI b) (nI (a / 16)) (nI (a % 16)) c (nI i) z0 (nI i) (nI N) (nI D) (nI S) lv us fs rt sp ub pa pt g m v1 v2 w v4 v5 v6 v7 v8 v9 := by
      intro z0 hz
      refine ⟨vi, ?_⟩
      rw [ci]
      refine nm_e ⟨vi, ?_⟩
      rw [ms_us]
      rcases hz with ⟨q, no⟩ | ⟨q, yes⟩
      · subst q
        have k := ms_wb hw (ms_v0 no) Iff.rfl
        rw [ms_b0] at k ⊢
        exact br_t rfl (go (c, _) ⟨by rw [ms_cn_sf no]; exact ec, k⟩)
      · subst q
        have k := ms_wb hw (ms_v1 yes) Iff.rfl
        rw [ms_b1] at k ⊢
        rw [ec]
        exact br_f ms_10 (nm_r (nI_1 _) (go (nI (ms_cn (ms_bs A (a / 16) (a % 16) dp) i + 1), _) ⟨by rw [ms_cn_st yes], k⟩))
    refine br_f ni ⟨vi, ?_⟩
    rw [ci]
    refine br_c (fun z => fin 0 (Or.inl ⟨rfl, fun q => (ms_CR_u h hi).mp z (TN i q).2.1⟩)) (fun z => ?_)
    have u : ms_U A i := Classical.byContradiction fun n => z ((ms_CR_u h hi).mpr n)
    refine br_c (fun z2 => fin 1 (Or.inr ⟨rfl, Or.inl ((nI_eq (by omega) (by omega)).mp z2)⟩)) (fun z2 => ?_)
    have ne : ¬ i = a / 16 := fun q => z2 (by rw [q])
    refine br_c (fun z3 => fin 0 (Or.inl ⟨rfl, fun q => q.elim ne fun q => q.1 z3⟩)) (fun z3 => ?_)
    exact my_inb h hF hi u ga.1 (by omega) (fun q => br_f ms_10 (fin 1 (Or.inr ⟨rfl, Or.inr ⟨z3, q⟩⟩))) (fun q => br_t rfl (fin 0 (Or.inl ⟨rfl, fun w => w.elim ne fun w => q w.2⟩)))
end
theorem i_vc_bind {k : Nat} {u : SX} {v : SY} (I : i_Rel k u v) (hk : k + 5 ≤ 2563) (v1 : Int32) (v2 : Int32) (v3 : Int32) (v4 : Int32) : wpX_bind (fun r u' => wpY_bind (fun r' v' => r' = r ∧ i_Rel (k + 5) u' v') v v1 v2 v3 v4) u v1 v2 v3 v4 := by
  refine ms_el (P := fun u v => wpX_bind (fun r u' => wpY_bind (fun r' v' => r' = r ∧ i_Rel (k + 5) u' v') v v1 v2 v3 v4) u v1 v2 v3 v4) I ?_
  intro N D S A lw rn e us fs rt sp pa pt g m ub lv rm w1 w2 w3 w4 w5 w6 w7 w8 w9 wa wb lvy usy fsy rty spy uby pay pty gy my v1y v2y v3y v4y v5y v6y v7y v8y v9y hI h hl hr he hE h' hl'
  have J : i_Rel (k + 5) (nI N, nI D, nI S, us, fs, rt, sp, pa, pt, g, m, ub, lv, rm, w1, w2, w3, w4, w5, w6, w7, w8, w9, wa, wb) (nI N, nI D, nI S, lvy, usy, fsy, rty, spy, uby, pay, pty, gy, my, v1y, v2y, v3y, v4y, v5y, v6y, v7y, v8y, v9y) := ms_mk hI h hl hr he hE h' hl'
  obtain ⟨hN, hN8, hD, hS, hF, hL⟩ := hI
  have hI : ms_In N D S A lw rn := ⟨hN, hN8, hD, hS, hF, hL⟩
  by_cases c : ∃ s, s < S ∧ v1 = nI s ∧ lw s
  · obtain ⟨s, hs, rfl, ls⟩ := c
    have s4 : s < 4 := by omega
    cases hwa : ms_wk N D A v2 16 (ms_cr N A 32 (rn s) (ms_R A (rn s))) with
    | none =>
      unfold wpX_bind wpY_bind
      refine mx_il1 hS hl hs ls (br_f ms_10 (mx_walk h hF hN hD s4 ls (hr s s4 ls) ?_))
      rw [hwa]
      refine br_f (by decide) (my_il1 hS hl' hs ls (br_f ms_10 (my_walk h' hF hN hD s4 ls ?_)))
      rw [hwa]
      exact br_f (by decide) ⟨rfl, J⟩
    | some a =>
      have a31 : a < 2 ^ 31 := by have := ms_gd_q (ms_wgd hF hN hD s4 ls hwa); omega
      cases hwb : ms_wk N D A v3 16 (ms_cr N A 32 (rn s) (ms_R A (rn s))) with
      | none =>
        unfold wpX_bind wpY_bind
        refine mx_il1 hS hl hs ls (br_f ms_10 (mx_walk h hF hN hD s4 ls (hr s s4 ls) ?_))
        rw [hwa, ms_o_s]
        refine br_t (nI_pos' a31) (mx_walk h hF hN hD s4 ls (hr s s4 ls) ?_)
        rw [hwb]
        refine br_f (by decide) (my_il1 hS hl' hs ls (br_f ms_10 (my_walk h' hF hN hD s4 ls ?_)))
        rw [hwa, ms_o_s]
        refine br_t (nI_pos' a31) (my_walk h' hF hN hD s4 ls ?_)
        rw [hwb]
        exact br_f (by decide) ⟨rfl, J⟩
      | some b =>
        have ga := ms_wgd hF hN hD s4 ls hwa
        have gb := ms_wgd hF hN hD s4 ls hwb
        refine mx_bind hN hD hS h hF hL hl hr hs ls hwa hwb (fun n1 => ?_) (fun y1 n6 w1' w2' w4' w7' w8' => ?_) (fun y1 y6 us' fs' rt' sp' pa' pt' g' m' ub' w1' w2' w4' w5' w6' w7' w8' w9' wa' wb' hx => ?_)
        · exact my_bind hN hD hS h' he hE hF hL hl' hs ls hwa hwb (fun _ => ⟨rfl, J⟩) (fun y1 => absurd y1 n1) (fun y1 => absurd y1 n1)
        · exact my_bind hN hD hS h' he hE hF hL hl' hs ls hwa hwb (fun n1 => absurd y1 n1) (fun _ _ _ _ _ _ _ => ⟨rfl, ms_mk hI h hl hr he hE h' hl'⟩) (fun _ y6 => absurd y6 n6)
        · refine my_bind hN hD hS h' he hE hF hL hl' hs ls hwa hwb (fun n1 => absurd y1 n1) (fun _ n6 => absurd y6 n6) (fun _ _ e' us2 fs2 rt2 sp2 pa2 pt2 g2 m2 ub2 v1' v2' v3' v4' v5' v6' v7' v8' v9' i1 i2 i3 => ⟨rfl, ?_⟩)
          obtain ⟨qF, qL⟩ := ms_q_F (ms_Aq_bd (dp := v4) hN hF hL ga gb y6).2
          exact ms_mk ⟨hN, hN8, hD, hS, qF, qL⟩ hx hl hr i1 i2 i3 hl'
  · unfold wpX_bind wpY_bind
    exact mx_il0 hS hl c (br_t rfl (my_il0 hS hl' c (br_t rfl ⟨rfl, J⟩)))
end

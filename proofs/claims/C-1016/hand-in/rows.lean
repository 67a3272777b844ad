section
/-! pure rows to paste: stores, nI and lN arithmetic, masks, shifts, narrowing, branches by naturals (pk_le, pk_lt, pk_eq), loops (lp1 .. lp16: the measure of the state; rp1 ..: recursion), negatives. Take what you need -/
theorem pk_us {f : Nat → Int32} {k : Nat} {x : Int32} : upd f k x k = x := if_pos rfl
theorem pk_un {f : Nat → Int32} {k j : Nat} {x : Int32} (h : j ≠ k) : upd f k x j = f j := if_neg h
theorem pk_uLs {f : Nat → Int64} {k : Nat} {x : Int64} : vp_updL f k x k = x := if_pos rfl
theorem pk_uLn {f : Nat → Int64} {k j : Nat} {x : Int64} (h : j ≠ k) : vp_updL f k x j = f j := if_neg h
theorem pk_sub {a b : Nat} (h : b ≤ a) : nI a - nI b = nI (a - b) := by
  obtain ⟨c, rfl⟩ : ∃ c, a = c + b := ⟨a - b, by omega⟩
  rw [← nI_add, Int32.add_sub_cancel, Nat.add_sub_cancel]
theorem pk_m1 (n : Nat) : nI (n + 1) + (-1) = nI n := by
  rw [← nI_1, Int32.add_assoc, show (1 : Int32) + (-1) = 0 from rfl, Int32.add_zero]
theorem pk_mul (a b : Nat) : nI a * nI b = nI (a * b) := (Int32.ofNat_mul a b).symm
theorem pk_div {a d : Nat} (ha : a < 2 ^ 31) (h0 : 0 < d) (hd : d < 2 ^ 31) : nI a / nI d = nI (a / d) := by
  apply Int32.toInt_inj.mp
  rw [lg_idiv_nonneg (by rw [nI_toInt ha]; omega) (by rw [nI_toInt hd]; omega), nI_toInt ha, nI_toInt hd, nI_toInt (Nat.lt_of_le_of_lt (Nat.div_le_self a d) ha)]
  first | rfl | exact (Int.natCast_ediv _ _).symm
theorem pk_rem {a d : Nat} (ha : a < 2 ^ 31) (h0 : 0 < d) (hd : d < 2 ^ 31) : nI a - nI a / nI d * nI d = nI (a % d) := by
  rw [pk_div ha h0 hd, pk_mul, pk_sub (Nat.div_mul_le_self a d)]
  exact congrArg nI (by have := Nat.div_add_mod' a d; omega)
theorem pk_sub_toInt {a b : Nat} (ha : a < 2 ^ 30) (hb : b < 2 ^ 30) : (nI a - nI b).toInt = (a : Int) - b := by
  rw [Int32.toInt_sub, nI_toInt (by omega), nI_toInt (by omega)]
  exact Int.bmod_eq_of_le (by omega) (by omega)
theorem pk_sneg {a b : Nat} (hb : b < 2 ^ 30) (h : a < b) : nI a - nI b < 0 := by
  rw [Int32.lt_iff_toInt_lt, pk_sub_toInt (by omega) hb, show (0 : Int32).toInt = 0 from by decide]
  omega
theorem pk_ix (x : Int32) {n : Nat} (hn : n < 2 ^ 31) : x < 0 ∨ nI n ≤ x ∨ ∃ j : Nat, j < n ∧ x = nI j := by
  by_cases h : x < 0
  · exact Or.inl h
  · obtain ⟨j, hj, rfl⟩ := nI_of h
    by_cases h2 : j < n
    · exact Or.inr (Or.inr ⟨j, h2, rfl⟩)
    · exact Or.inr (Or.inl (nI_le (by omega) hj))
theorem pk_le {x y : Int32} {A B : Prop} (a b : Nat) (f : a ≤ b → A) (g : b < a → B) (hx : x = nI a := by rfl) (hy : y = nI b := by rfl) (ha : a < 2 ^ 31 := by omega) (hb : b < 2 ^ 31 := by omega) : (x ≤ y → A) ∧ (¬ x ≤ y → B) := by
  subst hx hy
  rw [nI_leI ha hb]
  exact ⟨f, fun z => g (by omega)⟩
theorem pk_lt {x y : Int32} {A B : Prop} (a b : Nat) (f : a < b → A) (g : b ≤ a → B) (hx : x = nI a := by rfl) (hy : y = nI b := by rfl) (ha : a < 2 ^ 31 := by omega) (hb : b < 2 ^ 31 := by omega) : (x < y → A) ∧ (¬ x < y → B) := by
  subst hx hy
  rw [nI_ltI ha hb]
  exact ⟨f, fun z => g (by omega)⟩
theorem pk_eq {x y : Int32} {A B : Prop} (a b : Nat) (f : a = b → A) (g : a ≠ b → B) (hx : x = nI a := by rfl) (hy : y = nI b := by rfl) (ha : a < 2 ^ 31 := by omega) (hb : b < 2 ^ 31 := by omega) : (x = y → A) ∧ (¬ x = y → B) := by
  subst hx hy
  rw [nI_eq ha hb]
  exact ⟨f, g⟩
theorem pk_in {x : Int32} (n N : Nat) (h : n < N) (hx : x = nI n := by rfl) (hN : N < 2 ^ 31 := by omega) : vp_in x N := by
  subst hx
  exact vp_in_nI h hN
theorem pk_cl {x : Int32} (n : Nat) (hx : x = nI n := by rfl) (h : n < 2 ^ 31 := by omega) : x.toNatClampNeg = n := by
  subst hx
  exact nI_clamp h
theorem pk_tn {n : Nat} (h : n < 2 ^ 32) : (nI n).toBitVec.toNat = n := Nat.mod_eq_of_lt h
theorem pk_and (x : Int32) {m : Int32} (k : Nat) (hm : m.toBitVec.toNat = 2 ^ k - 1) : x &&& m = nI (x.toBitVec.toNat % 2 ^ k) := by
  apply Int32.toBitVec_inj.mp
  apply BitVec.eq_of_toNat_eq
  rw [Int32.toBitVec_and, BitVec.toNat_and, hm, Nat.and_two_pow_sub_one_eq_mod]
  show _ = (BitVec.ofNat 32 _).toNat
  rw [BitVec.toNat_ofNat]
  exact (Nat.mod_eq_of_lt (Nat.lt_of_le_of_lt (Nat.mod_le _ _) x.toBitVec.isLt)).symm
theorem pk_andN {n : Nat} (h : n < 2 ^ 32) {m : Int32} (k : Nat) (hm : m.toBitVec.toNat = 2 ^ k - 1) : nI n &&& m = nI (n % 2 ^ k) := by
  rw [pk_and _ k hm, pk_tn h]
theorem pk_andE (x : Int32) {m : Int32} (k : Nat) (hm : m.toBitVec.toNat = 2 ^ k - 1) : ∃ j : Nat, j < 2 ^ k ∧ x &&& m = nI j := ⟨_, Nat.mod_lt _ (Nat.two_pow_pos k), pk_and x k hm⟩
theorem pk_andIn (x : Int32) {m : Int32} (k : Nat) (hm : m.toBitVec.toNat = 2 ^ k - 1) (hk : k ≤ 30) : vp_in (x &&& m) (2 ^ k) := by
  obtain ⟨j, hj, e⟩ := pk_andE x k hm
  rw [e]
  exact vp_in_nI hj (Nat.lt_of_le_of_lt (Nat.pow_le_pow_right (by decide) hk) (by decide))
theorem pk_shl (a s : Int32) (k : Nat) (hs : (s.toBitVec.smod 32).toNat = k) : (a <<< s).toBitVec.toNat = a.toBitVec.toNat * 2 ^ k % 2 ^ 32 := by
  show (a.toBitVec <<< (s.toBitVec.smod 32).toNat).toNat = _
  rw [hs, BitVec.toNat_shiftLeft, Nat.shiftLeft_eq]
theorem pk_shlN {n : Nat} (s : Int32) (k : Nat) (hs : (s.toBitVec.smod 32).toNat = k) (h : n * 2 ^ k < 2 ^ 32) : nI n <<< s = nI (n * 2 ^ k) := by
  apply Int32.toBitVec_inj.mp
  apply BitVec.eq_of_toNat_eq
  have hn : n < 2 ^ 32 := Nat.lt_of_le_of_lt (Nat.le_mul_of_pos_right n (Nat.two_pow_pos k)) h
  rw [pk_shl _ _ k hs, pk_tn hn, pk_tn h, Nat.mod_eq_of_lt h]
theorem pk_shr (a s : Int32) (k : Nat) (hs : (s.toBitVec.smod 32).toNat = k) : (a >>> s).toInt = a.toInt >>> k := by
  show (a.toBitVec.sshiftRight (s.toBitVec.smod 32).toNat).toInt = _
  rw [hs, BitVec.toInt_sshiftRight]
  rfl
theorem pk_shrN {n : Nat} (h : n < 2 ^ 31) (s : Int32) (k : Nat) (hs : (s.toBitVec.smod 32).toNat = k) : nI n >>> s = nI (n / 2 ^ k) := by
  apply Int32.toInt_inj.mp
  have h2 : n / 2 ^ k ≤ n := Nat.div_le_self _ _
  rw [pk_shr _ _ k hs, nI_toInt h, nI_toInt (by omega), Int.shiftRight_eq_div_pow]
  rfl
theorem pk_ushr (x s : Int32) (k : Nat) (hs : ((s.toUInt32 &&& Int32.toUInt32 31).toBitVec % 32).toNat = k) : (x.toUInt32 >>> (s.toUInt32 &&& Int32.toUInt32 31)).toInt32.toBitVec.toNat = x.toBitVec.toNat / 2 ^ k := by
  have e : (x.toUInt32 >>> (s.toUInt32 &&& Int32.toUInt32 31)).toInt32.toBitVec = x.toBitVec >>> k := by
    rw [← hs]
    exact UInt32.toBitVec_shiftRight _ _
  rw [e, BitVec.toNat_ushiftRight, Nat.shiftRight_eq_div_pow]
theorem pk_ushrN {n : Nat} (hn : n < 2 ^ 32) (s : Int32) (k : Nat) (hs : ((s.toUInt32 &&& Int32.toUInt32 31).toBitVec % 32).toNat = k) : ((nI n).toUInt32 >>> (s.toUInt32 &&& Int32.toUInt32 31)).toInt32 = nI (n / 2 ^ k) := by
  apply Int32.toBitVec_inj.mp
  apply BitVec.eq_of_toNat_eq
  rw [pk_ushr _ s k hs, pk_tn hn, pk_tn (Nat.lt_of_le_of_lt (Nat.div_le_self _ _) hn)]
theorem pk_nb (z : Int32) : narrow .byte (.int z.toInt8.toInt32) = .int z.toInt8.toInt32 := congrArg Value.int (by simp)
theorem pk_ns (z : Int32) : narrow .short (.int z.toInt16.toInt32) = .int z.toInt16.toInt32 := congrArg Value.int (by simp)
theorem pk_fb (r : Int32) : fits .byte (.int r.toInt8.toInt32) = true := by
  have ⟨a, b⟩ := lg_i2b_range r
  have h1 : (-128 : Int32).toInt = -128 := by decide
  have h2 : (127 : Int32).toInt = 127 := by decide
  simp only [fits, Bool.and_eq_true, decide_eq_true_eq, Int32.le_iff_toInt_le, h1, h2]
  omega
theorem pk_fs (r : Int32) : fits .short (.int r.toInt16.toInt32) = true := by
  have ⟨a, b⟩ := lg_i2s_range r
  have h1 : (-32768 : Int32).toInt = -32768 := by decide
  have h2 : (32767 : Int32).toInt = 32767 := by decide
  simp only [fits, Bool.and_eq_true, decide_eq_true_eq, Int32.le_iff_toInt_le, h1, h2]
  omega
theorem pk_charN {q : Nat} (hq : q < 65536) : narrow .char (.int (nI q)) = .int (nI q) ∧ fits .char (.int (nI q)) = true := by
  constructor
  · have e : (nI q).toUInt32.toUInt16.toUInt32.toInt32 = nI q := by
      apply Int32.toBitVec_inj.mp
      apply BitVec.eq_of_toNat_eq
      show (nI q).toUInt32.toUInt16.toUInt32.toNat = q % 2 ^ 32
      rw [UInt16.toNat_toUInt32, UInt32.toNat_toUInt16, show (nI q).toUInt32.toNat = q % 2 ^ 32 from rfl]
      omega
    exact congrArg Value.int e
  · have a : (0 : Int32) ≤ nI q := nI_pos' (by omega)
    have b : nI q ≤ 65535 := nI_le (b := 65535) (by omega) (by decide)
    show (decide ((0 : Int32) ≤ nI q) && decide (nI q ≤ 65535)) = true
    rw [decide_eq_true a, decide_eq_true b]
    rfl
theorem pk_char (x : Int32) : (x.toUInt32 % 65536).toInt32 = nI (x.toBitVec.toNat % 65536) := by
  apply Int32.toBitVec_inj.mp
  apply BitVec.eq_of_toNat_eq
  rw [pk_tn (by omega)]
  show (x.toUInt32 % 65536).toNat = _
  rw [UInt32.toNat_mod]
  rfl
theorem pk_nc (x : Int32) : narrow .char (.int (x.toUInt32 % 65536).toInt32) = .int (x.toUInt32 % 65536).toInt32 := by
  rw [pk_char]
  exact (pk_charN (Nat.mod_lt _ (by decide))).1
theorem pk_fc (x : Int32) : fits .char (.int (x.toUInt32 % 65536).toInt32) = true := by
  rw [pk_char]
  exact (pk_charN (Nat.mod_lt _ (by decide))).2
theorem pk_vb (z : Int32) : vp_nar .byte z.toInt8.toInt32 = z.toInt8.toInt32 := by rw [vp_nar_byte]; simp
theorem pk_vs (z : Int32) : vp_nar .short z.toInt16.toInt32 = z.toInt16.toInt32 := by rw [vp_nar_short]; simp
theorem pk_vc (z : Int32) : vp_nar .char (z.toUInt32 % 65536).toInt32 = (z.toUInt32 % 65536).toInt32 := Value.int.inj (pk_nc z)
theorem pk_lT {n : Nat} (h : n < 2 ^ 63) : (lN n).toInt = (n : Int) := lg_ofNat_toInt h
theorem pk_lLT {a b : Nat} (ha : a < 2 ^ 63) (hb : b < 2 ^ 63) : lN a < lN b ↔ a < b := by
  rw [Int64.lt_iff_toInt_lt, pk_lT ha, pk_lT hb]; omega
theorem pk_lLE {a b : Nat} (ha : a < 2 ^ 63) (hb : b < 2 ^ 63) : lN a ≤ lN b ↔ a ≤ b := by
  rw [Int64.le_iff_toInt_le, pk_lT ha, pk_lT hb]; omega
theorem pk_lEQ {a b : Nat} (ha : a < 2 ^ 63) (hb : b < 2 ^ 63) : lN a = lN b ↔ a = b := by
  rw [← Int64.toInt_inj, pk_lT ha, pk_lT hb]; omega
theorem pk_lOf {x : Int64} (h : ¬ x < 0) : ∃ k : Nat, k < 2 ^ 63 ∧ x = lN k := by
  rw [Int64.lt_iff_toInt_lt] at h
  have h0 : (0 : Int64).toInt = 0 := by decide
  have hx := Int64.toInt_lt x
  refine ⟨x.toInt.toNat, by omega, Int64.toInt_inj.mp ?_⟩
  rw [pk_lT (by omega)]
  omega
theorem pk_lDiv {a b : Nat} (ha : a < 2 ^ 63) (h0 : 0 < b) (hb : b < 2 ^ 63) : lN a / lN b = lN (a / b) := by
  apply Int64.toInt_inj.mp
  rw [lg_ldiv_nonneg (by rw [pk_lT ha]; omega) (by rw [pk_lT hb]; omega), pk_lT ha, pk_lT hb, pk_lT (Nat.lt_of_le_of_lt (Nat.div_le_self a b) ha)]
  rfl
theorem pk_lRem {a b : Nat} (ha : a < 2 ^ 63) (h0 : 0 < b) (hb : b < 2 ^ 63) : lN a - lN a / lN b * lN b = lN (a % b) := by
  rw [pk_lDiv ha h0 hb, lN_mul, lN_sub (Nat.div_mul_le_self a b)]
  exact congrArg lN (by have := Nat.div_add_mod' a b; omega)
theorem pk_loop {σ : Type} (W : Nat → Nat → σ → Prop) (I : Nat → σ → Prop) (e i0 : Nat) (s : σ) (hi : i0 ≤ e) (h0 : I i0 s) (hx : ∀ n s, I e s → W (n + 1) e s)
    (hs : ∀ n i s, i < e → I i s → (∀ s', I (i + 1) s' → W n (i + 1) s') → W (n + 1) i s) : ∃ n, W n i0 s :=
  ⟨e + 1, loop_i W I e hx hs (e + 1) i0 s hi (by omega) h0⟩
theorem pk_loopD {σ : Type} (W : Nat → Nat → σ → Prop) (I : Nat → σ → Prop) (hx : ∀ n s, I 0 s → W (n + 1) 0 s)
    (hs : ∀ n i s, I (i + 1) s → (∀ s', I i s' → W n i s') → W (n + 1) (i + 1) s) : ∀ (e : Nat) (s : σ), I e s → W (e + 1) e s := by
  intro e
  induction e with
  | zero => exact fun s h => hx 0 s h
  | succ e ih => exact fun s h => hs (e + 1) e s h (fun s' h' => ih s' h')
theorem lp1 {A1 : Type} (W : Nat → A1 → Prop) (I : A1 → Prop) (μ : A1 → Nat) (hs : ∀ (n : Nat) (a1 : A1), I a1 → (∀ (b1 : A1), I b1 → μ b1 < μ a1 → W n b1) → W (n + 1) a1) (a1 : A1) (h : I a1) : ∃ n, W n a1 :=
  loop_m (σ := A1) (fun n s => W n s) (fun s => I s) (fun s => μ s) (fun n s hI hk => hs n s hI (fun b1 h9 hm => hk b1 h9 hm)) a1 h
theorem lp2 {A1 A2 : Type} (W : Nat → A1 → A2 → Prop) (I : A1 → A2 → Prop) (μ : A1 → A2 → Nat) (hs : ∀ (n : Nat) (a1 : A1) (a2 : A2), I a1 a2 → (∀ (b1 : A1) (b2 : A2), I b1 b2 → μ b1 b2 < μ a1 a2 → W n b1 b2) → W (n + 1) a1 a2) (a1 : A1) (a2 : A2) (h : I a1 a2) : ∃ n, W n a1 a2 :=
  loop_m (σ := A1 × A2) (fun n s => W n s.1 s.2) (fun s => I s.1 s.2) (fun s => μ s.1 s.2) (fun n s hI hk => hs n s.1 s.2 hI (fun b1 b2 h9 hm => hk (b1, b2) h9 hm)) (a1, a2) h
theorem lp3 {A1 A2 A3 : Type} (W : Nat → A1 → A2 → A3 → Prop) (I : A1 → A2 → A3 → Prop) (μ : A1 → A2 → A3 → Nat) (hs : ∀ (n : Nat) (a1 : A1) (a2 : A2) (a3 : A3), I a1 a2 a3 → (∀ (b1 : A1) (b2 : A2) (b3 : A3), I b1 b2 b3 → μ b1 b2 b3 < μ a1 a2 a3 → W n b1 b2 b3) → W (n + 1) a1 a2 a3) (a1 : A1) (a2 : A2) (a3 : A3) (h : I a1 a2 a3) : ∃ n, W n a1 a2 a3 :=
  loop_m (σ := A1 × A2 × A3) (fun n s => W n s.1 s.2.1 s.2.2) (fun s => I s.1 s.2.1 s.2.2) (fun s => μ s.1 s.2.1 s.2.2) (fun n s hI hk => hs n s.1 s.2.1 s.2.2 hI (fun b1 b2 b3 h9 hm => hk (b1, b2, b3) h9 hm)) (a1, a2, a3) h
theorem lp4 {A1 A2 A3 A4 : Type} (W : Nat → A1 → A2 → A3 → A4 → Prop) (I : A1 → A2 → A3 → A4 → Prop) (μ : A1 → A2 → A3 → A4 → Nat) (hs : ∀ (n : Nat) (a1 : A1) (a2 : A2) (a3 : A3) (a4 : A4), I a1 a2 a3 a4 → (∀ (b1 : A1) (b2 : A2) (b3 : A3) (b4 : A4), I b1 b2 b3 b4 → μ b1 b2 b3 b4 < μ a1 a2 a3 a4 → W n b1 b2 b3 b4) → W (n + 1) a1 a2 a3 a4) (a1 : A1) (a2 : A2) (a3 : A3) (a4 : A4) (h : I a1 a2 a3 a4) : ∃ n, W n a1 a2 a3 a4 :=
  loop_m (σ := A1 × A2 × A3 × A4) (fun n s => W n s.1 s.2.1 s.2.2.1 s.2.2.2) (fun s => I s.1 s.2.1 s.2.2.1 s.2.2.2) (fun s => μ s.1 s.2.1 s.2.2.1 s.2.2.2) (fun n s hI hk => hs n s.1 s.2.1 s.2.2.1 s.2.2.2 hI (fun b1 b2 b3 b4 h9 hm => hk (b1, b2, b3, b4) h9 hm)) (a1, a2, a3, a4) h
theorem lp5 {A1 A2 A3 A4 A5 : Type} (W : Nat → A1 → A2 → A3 → A4 → A5 → Prop) (I : A1 → A2 → A3 → A4 → A5 → Prop) (μ : A1 → A2 → A3 → A4 → A5 → Nat) (hs : ∀ (n : Nat) (a1 : A1) (a2 : A2) (a3 : A3) (a4 : A4) (a5 : A5), I a1 a2 a3 a4 a5 → (∀ (b1 : A1) (b2 : A2) (b3 : A3) (b4 : A4) (b5 : A5), I b1 b2 b3 b4 b5 → μ b1 b2 b3 b4 b5 < μ a1 a2 a3 a4 a5 → W n b1 b2 b3 b4 b5) → W (n + 1) a1 a2 a3 a4 a5) (a1 : A1) (a2 : A2) (a3 : A3) (a4 : A4) (a5 : A5) (h : I a1 a2 a3 a4 a5) : ∃ n, W n a1 a2 a3 a4 a5 :=
  loop_m (σ := A1 × A2 × A3 × A4 × A5) (fun n s => W n s.1 s.2.1 s.2.2.1 s.2.2.2.1 s.2.2.2.2) (fun s => I s.1 s.2.1 s.2.2.1 s.2.2.2.1 s.2.2.2.2) (fun s => μ s.1 s.2.1 s.2.2.1 s.2.2.2.1 s.2.2.2.2) (fun n s hI hk => hs n s.1 s.2.1 s.2.2.1 s.2.2.2.1 s.2.2.2.2 hI (fun b1 b2 b3 b4 b5 h9 hm => hk (b1, b2, b3, b4, b5) h9 hm)) (a1, a2, a3, a4, a5) h
theorem lp6 {A1 A2 A3 A4 A5 A6 : Type} (W : Nat → A1 → A2 → A3 → A4 → A5 → A6 → Prop) (I : A1 → A2 → A3 → A4 → A5 → A6 → Prop) (μ : A1 → A2 → A3 → A4 → A5 → A6 → Nat) (hs : ∀ (n : Nat) (a1 : A1) (a2 : A2) (a3 : A3) (a4 : A4) (a5 : A5) (a6 : A6), I a1 a2 a3 a4 a5 a6 → (∀ (b1 : A1) (b2 : A2) (b3 : A3) (b4 : A4) (b5 : A5) (b6 : A6), I b1 b2 b3 b4 b5 b6 → μ b1 b2 b3 b4 b5 b6 < μ a1 a2 a3 a4 a5 a6 → W n b1 b2 b3 b4 b5 b6) → W (n + 1) a1 a2 a3 a4 a5 a6) (a1 : A1) (a2 : A2) (a3 : A3) (a4 : A4) (a5 : A5) (a6 : A6) (h : I a1 a2 a3 a4 a5 a6) : ∃ n, W n a1 a2 a3 a4 a5 a6 :=
  loop_m (σ := A1 × A2 × A3 × A4 × A5 × A6) (fun n s => W n s.1 s.2.1 s.2.2.1 s.2.2.2.1 s.2.2.2.2.1 s.2.2.2.2.2) (fun s => I s.1 s.2.1 s.2.2.1 s.2.2.2.1 s.2.2.2.2.1 s.2.2.2.2.2) (fun s => μ s.1 s.2.1 s.2.2.1 s.2.2.2.1 s.2.2.2.2.1 s.2.2.2.2.2) (fun n s hI hk => hs n s.1 s.2.1 s.2.2.1 s.2.2.2.1 s.2.2.2.2.1 s.2.2.2.2.2 hI (fun b1 b2 b3 b4 b5 b6 h9 hm => hk (b1, b2, b3, b4, b5, b6) h9 hm)) (a1, a2, a3, a4, a5, a6) h
theorem lp7 {A1 A2 A3 A4 A5 A6 A7 : Type} (W : Nat → A1 → A2 → A3 → A4 → A5 → A6 → A7 → Prop) (I : A1 → A2 → A3 → A4 → A5 → A6 → A7 → Prop) (μ : A1 → A2 → A3 → A4 → A5 → A6 → A7 → Nat) (hs : ∀ (n : Nat) (a1 : A1) (a2 : A2) (a3 : A3) (a4 : A4) (a5 : A5) (a6 : A6) (a7 : A7), I a1 a2 a3 a4 a5 a6 a7 → (∀ (b1 : A1) (b2 : A2) (b3 : A3) (b4 : A4) (b5 : A5) (b6 : A6) (b7 : A7), I b1 b2 b3 b4 b5 b6 b7 → μ b1 b2 b3 b4 b5 b6 b7 < μ a1 a2 a3 a4 a5 a6 a7 → W n b1 b2 b3 b4 b5 b6 b7) → W (n + 1) a1 a2 a3 a4 a5 a6 a7) (a1 : A1) (a2 : A2) (a3 : A3) (a4 : A4) (a5 : A5) (a6 : A6) (a7 : A7) (h : I a1 a2 a3 a4 a5 a6 a7) : ∃ n, W n a1 a2 a3 a4 a5 a6 a7 :=
  loop_m (σ := A1 × A2 × A3 × A4 × A5 × A6 × A7) (fun n s => W n s.1 s.2.1 s.2.2.1 s.2.2.2.1 s.2.2.2.2.1 s.2.2.2.2.2.1 s.2.2.2.2.2.2) (fun s => I s.1 s.2.1 s.2.2.1 s.2.2.2.1 s.2.2.2.2.1 s.2.2.2.2.2.1 s.2.2.2.2.2.2) (fun s => μ s.1 s.2.1 s.2.2.1 s.2.2.2.1 s.2.2.2.2.1 s.2.2.2.2.2.1 s.2.2.2.2.2.2) (fun n s hI hk => hs n s.1 s.2.1 s.2.2.1 s.2.2.2.1 s.2.2.2.2.1 s.2.2.2.2.2.1 s.2.2.2.2.2.2 hI (fun b1 b2 b3 b4 b5 b6 b7 h9 hm => hk (b1, b2, b3, b4, b5, b6, b7) h9 hm)) (a1, a2, a3, a4, a5, a6, a7) h
theorem lp8 {A1 A2 A3 A4 A5 A6 A7 A8 : Type} (W : Nat → A1 → A2 → A3 → A4 → A5 → A6 → A7 → A8 → Prop) (I : A1 → A2 → A3 → A4 → A5 → A6 → A7 → A8 → Prop) (μ : A1 → A2 → A3 → A4 → A5 → A6 → A7 → A8 → Nat) (hs : ∀ (n : Nat) (a1 : A1) (a2 : A2) (a3 : A3) (a4 : A4) (a5 : A5) (a6 : A6) (a7 : A7) (a8 : A8), I a1 a2 a3 a4 a5 a6 a7 a8 → (∀ (b1 : A1) (b2 : A2) (b3 : A3) (b4 : A4) (b5 : A5) (b6 : A6) (b7 : A7) (b8 : A8), I b1 b2 b3 b4 b5 b6 b7 b8 → μ b1 b2 b3 b4 b5 b6 b7 b8 < μ a1 a2 a3 a4 a5 a6 a7 a8 → W n b1 b2 b3 b4 b5 b6 b7 b8) → W (n + 1) a1 a2 a3 a4 a5 a6 a7 a8) (a1 : A1) (a2 : A2) (a3 : A3) (a4 : A4) (a5 : A5) (a6 : A6) (a7 : A7) (a8 : A8) (h : I a1 a2 a3 a4 a5 a6 a7 a8) : ∃ n, W n a1 a2 a3 a4 a5 a6 a7 a8 :=
  loop_m (σ := A1 × A2 × A3 × A4 × A5 × A6 × A7 × A8) (fun n s => W n s.1 s.2.1 s.2.2.1 s.2.2.2.1 s.2.2.2.2.1 s.2.2.2.2.2.1 s.2.2.2.2.2.2.1 s.2.2.2.2.2.2.2) (fun s => I s.1 s.2.1 s.2.2.1 s.2.2.2.1 s.2.2.2.2.1 s.2.2.2.2.2.1 s.2.2.2.2.2.2.1 s.2.2.2.2.2.2.2) (fun s => μ s.1 s.2.1 s.2.2.1 s.2.2.2.1 s.2.2.2.2.1 s.2.2.2.2.2.1 s.2.2.2.2.2.2.1 s.2.2.2.2.2.2.2) (fun n s hI hk => hs n s.1 s.2.1 s.2.2.1 s.2.2.2.1 s.2.2.2.2.1 s.2.2.2.2.2.1 s.2.2.2.2.2.2.1 s.2.2.2.2.2.2.2 hI (fun b1 b2 b3 b4 b5 b6 b7 b8 h9 hm => hk (b1, b2, b3, b4, b5, b6, b7, b8) h9 hm)) (a1, a2, a3, a4, a5, a6, a7, a8) h
theorem lp9 {A1 A2 A3 A4 A5 A6 A7 A8 A9 : Type} (W : Nat → A1 → A2 → A3 → A4 → A5 → A6 → A7 → A8 → A9 → Prop) (I : A1 → A2 → A3 → A4 → A5 → A6 → A7 → A8 → A9 → Prop) (μ : A1 → A2 → A3 → A4 → A5 → A6 → A7 → A8 → A9 → Nat) (hs : ∀ (n : Nat) (a1 : A1) (a2 : A2) (a3 : A3) (a4 : A4) (a5 : A5) (a6 : A6) (a7 : A7) (a8 : A8) (a9 : A9), I a1 a2 a3 a4 a5 a6 a7 a8 a9 → (∀ (b1 : A1) (b2 : A2) (b3 : A3) (b4 : A4) (b5 : A5) (b6 : A6) (b7 : A7) (b8 : A8) (b9 : A9), I b1 b2 b3 b4 b5 b6 b7 b8 b9 → μ b1 b2 b3 b4 b5 b6 b7 b8 b9 < μ a1 a2 a3 a4 a5 a6 a7 a8 a9 → W n b1 b2 b3 b4 b5 b6 b7 b8 b9) → W (n + 1) a1 a2 a3 a4 a5 a6 a7 a8 a9) (a1 : A1) (a2 : A2) (a3 : A3) (a4 : A4) (a5 : A5) (a6 : A6) (a7 : A7) (a8 : A8) (a9 : A9) (h : I a1 a2 a3 a4 a5 a6 a7 a8 a9) : ∃ n, W n a1 a2 a3 a4 a5 a6 a7 a8 a9 :=
  loop_m (σ := A1 × A2 × A3 × A4 × A5 × A6 × A7 × A8 × A9) (fun n s => W n s.1 s.2.1 s.2.2.1 s.2.2.2.1 s.2.2.2.2.1 s.2.2.2.2.2.1 s.2.2.2.2.2.2.1 s.2.2.2.2.2.2.2.1 s.2.2.2.2.2.2.2.2) (fun s => I s.1 s.2.1 s.2.2.1 s.2.2.2.1 s.2.2.2.2.1 s.2.2.2.2.2.1 s.2.2.2.2.2.2.1 s.2.2.2.2.2.2.2.1 s.2.2.2.2.2.2.2.2) (fun s => μ s.1 s.2.1 s.2.2.1 s.2.2.2.1 s.2.2.2.2.1 s.2.2.2.2.2.1 s.2.2.2.2.2.2.1 s.2.2.2.2.2.2.2.1 s.2.2.2.2.2.2.2.2) (fun n s hI hk => hs n s.1 s.2.1 s.2.2.1 s.2.2.2.1 s.2.2.2.2.1 s.2.2.2.2.2.1 s.2.2.2.2.2.2.1 s.2.2.2.2.2.2.2.1 s.2.2.2.2.2.2.2.2 hI (fun b1 b2 b3 b4 b5 b6 b7 b8 b9 h9 hm => hk (b1, b2, b3, b4, b5, b6, b7, b8, b9) h9 hm)) (a1, a2, a3, a4, a5, a6, a7, a8, a9) h
theorem lp10 {A1 A2 A3 A4 A5 A6 A7 A8 A9 A10 : Type} (W : Nat → A1 → A2 → A3 → A4 → A5 → A6 → A7 → A8 → A9 → A10 → Prop) (I : A1 → A2 → A3 → A4 → A5 → A6 → A7 → A8 → A9 → A10 → Prop) (μ : A1 → A2 → A3 → A4 → A5 → A6 → A7 → A8 → A9 → A10 → Nat) (hs : ∀ (n : Nat) (a1 : A1) (a2 : A2) (a3 : A3) (a4 : A4) (a5 : A5) (a6 : A6) (a7 : A7) (a8 : A8) (a9 : A9) (a10 : A10), I a1 a2 a3 a4 a5 a6 a7 a8 a9 a10 → (∀ (b1 : A1) (b2 : A2) (b3 : A3) (b4 : A4) (b5 : A5) (b6 : A6) (b7 : A7) (b8 : A8) (b9 : A9) (b10 : A10), I b1 b2 b3 b4 b5 b6 b7 b8 b9 b10 → μ b1 b2 b3 b4 b5 b6 b7 b8 b9 b10 < μ a1 a2 a3 a4 a5 a6 a7 a8 a9 a10 → W n b1 b2 b3 b4 b5 b6 b7 b8 b9 b10) → W (n + 1) a1 a2 a3 a4 a5 a6 a7 a8 a9 a10) (a1 : A1) (a2 : A2) (a3 : A3) (a4 : A4) (a5 : A5) (a6 : A6) (a7 : A7) (a8 : A8) (a9 : A9) (a10 : A10) (h : I a1 a2 a3 a4 a5 a6 a7 a8 a9 a10) : ∃ n, W n a1 a2 a3 a4 a5 a6 a7 a8 a9 a10 :=
  loop_m (σ := A1 × A2 × A3 × A4 × A5 × A6 × A7 × A8 × A9 × A10) (fun n s => W n s.1 s.2.1 s.2.2.1 s.2.2.2.1 s.2.2.2.2.1 s.2.2.2.2.2.1 s.2.2.2.2.2.2.1 s.2.2.2.2.2.2.2.1 s.2.2.2.2.2.2.2.2.1 s.2.2.2.2.2.2.2.2.2) (fun s => I s.1 s.2.1 s.2.2.1 s.2.2.2.1 s.2.2.2.2.1 s.2.2.2.2.2.1 s.2.2.2.2.2.2.1 s.2.2.2.2.2.2.2.1 s.2.2.2.2.2.2.2.2.1 s.2.2.2.2.2.2.2.2.2) (fun s => μ s.1 s.2.1 s.2.2.1 s.2.2.2.1 s.2.2.2.2.1 s.2.2.2.2.2.1 s.2.2.2.2.2.2.1 s.2.2.2.2.2.2.2.1 s.2.2.2.2.2.2.2.2.1 s.2.2.2.2.2.2.2.2.2) (fun n s hI hk => hs n s.1 s.2.1 s.2.2.1 s.2.2.2.1 s.2.2.2.2.1 s.2.2.2.2.2.1 s.2.2.2.2.2.2.1 s.2.2.2.2.2.2.2.1 s.2.2.2.2.2.2.2.2.1 s.2.2.2.2.2.2.2.2.2 hI (fun b1 b2 b3 b4 b5 b6 b7 b8 b9 b10 h9 hm => hk (b1, b2, b3, b4, b5, b6, b7, b8, b9, b10) h9 hm)) (a1, a2, a3, a4, a5, a6, a7, a8, a9, a10) h
theorem lp11 {A1 A2 A3 A4 A5 A6 A7 A8 A9 A10 A11 : Type} (W : Nat → A1 → A2 → A3 → A4 → A5 → A6 → A7 → A8 → A9 → A10 → A11 → Prop) (I : A1 → A2 → A3 → A4 → A5 → A6 → A7 → A8 → A9 → A10 → A11 → Prop) (μ : A1 → A2 → A3 → A4 → A5 → A6 → A7 → A8 → A9 → A10 → A11 → Nat) (hs : ∀ (n : Nat) (a1 : A1) (a2 : A2) (a3 : A3) (a4 : A4) (a5 : A5) (a6 : A6) (a7 : A7) (a8 : A8) (a9 : A9) (a10 : A10) (a11 : A11), I a1 a2 a3 a4 a5 a6 a7 a8 a9 a10 a11 → (∀ (b1 : A1) (b2 : A2) (b3 : A3) (b4 : A4) (b5 : A5) (b6 : A6) (b7 : A7) (b8 : A8) (b9 : A9) (b10 : A10) (b11 : A11), I b1 b2 b3 b4 b5 b6 b7 b8 b9 b10 b11 → μ b1 b2 b3 b4 b5 b6 b7 b8 b9 b10 b11 < μ a1 a2 a3 a4 a5 a6 a7 a8 a9 a10 a11 → W n b1 b2 b3 b4 b5 b6 b7 b8 b9 b10 b11) → W (n + 1) a1 a2 a3 a4 a5 a6 a7 a8 a9 a10 a11) (a1 : A1) (a2 : A2) (a3 : A3) (a4 : A4) (a5 : A5) (a6 : A6) (a7 : A7) (a8 : A8) (a9 : A9) (a10 : A10) (a11 : A11) (h : I a1 a2 a3 a4 a5 a6 a7 a8 a9 a10 a11) : ∃ n, W n a1 a2 a3 a4 a5 a6 a7 a8 a9 a10 a11 :=
  loop_m (σ := A1 × A2 × A3 × A4 × A5 × A6 × A7 × A8 × A9 × A10 × A11) (fun n s => W n s.1 s.2.1 s.2.2.1 s.2.2.2.1 s.2.2.2.2.1 s.2.2.2.2.2.1 s.2.2.2.2.2.2.1 s.2.2.2.2.2.2.2.1 s.2.2.2.2.2.2.2.2.1 s.2.2.2.2.2.2.2.2.2.1 s.2.2.2.2.2.2.2.2.2.2) (fun s => I s.1 s.2.1 s.2.2.1 s.2.2.2.1 s.2.2.2.2.1 s.2.2.2.2.2.1 s.2.2.2.2.2.2.1 s.2.2.2.2.2.2.2.1 s.2.2.2.2.2.2.2.2.1 s.2.2.2.2.2.2.2.2.2.1 s.2.2.2.2.2.2.2.2.2.2) (fun s => μ s.1 s.2.1 s.2.2.1 s.2.2.2.1 s.2.2.2.2.1 s.2.2.2.2.2.1 s.2.2.2.2.2.2.1 s.2.2.2.2.2.2.2.1 s.2.2.2.2.2.2.2.2.1 s.2.2.2.2.2.2.2.2.2.1 s.2.2.2.2.2.2.2.2.2.2) (fun n s hI hk => hs n s.1 s.2.1 s.2.2.1 s.2.2.2.1 s.2.2.2.2.1 s.2.2.2.2.2.1 s.2.2.2.2.2.2.1 s.2.2.2.2.2.2.2.1 s.2.2.2.2.2.2.2.2.1 s.2.2.2.2.2.2.2.2.2.1 s.2.2.2.2.2.2.2.2.2.2 hI (fun b1 b2 b3 b4 b5 b6 b7 b8 b9 b10 b11 h9 hm => hk (b1, b2, b3, b4, b5, b6, b7, b8, b9, b10, b11) h9 hm)) (a1, a2, a3, a4, a5, a6, a7, a8, a9, a10, a11) h
theorem lp12 {A1 A2 A3 A4 A5 A6 A7 A8 A9 A10 A11 A12 : Type} (W : Nat → A1 → A2 → A3 → A4 → A5 → A6 → A7 → A8 → A9 → A10 → A11 → A12 → Prop) (I : A1 → A2 → A3 → A4 → A5 → A6 → A7 → A8 → A9 → A10 → A11 → A12 → Prop) (μ : A1 → A2 → A3 → A4 → A5 → A6 → A7 → A8 → A9 → A10 → A11 → A12 → Nat) (hs : ∀ (n : Nat) (a1 : A1) (a2 : A2) (a3 : A3) (a4 : A4) (a5 : A5) (a6 : A6) (a7 : A7) (a8 : A8) (a9 : A9) (a10 : A10) (a11 : A11) (a12 : A12), I a1 a2 a3 a4 a5 a6 a7 a8 a9 a10 a11 a12 → (∀ (b1 : A1) (b2 : A2) (b3 : A3) (b4 : A4) (b5 : A5) (b6 : A6) (b7 : A7) (b8 : A8) (b9 : A9) (b10 : A10) (b11 : A11) (b12 : A12), I b1 b2 b3 b4 b5 b6 b7 b8 b9 b10 b11 b12 → μ b1 b2 b3 b4 b5 b6 b7 b8 b9 b10 b11 b12 < μ a1 a2 a3 a4 a5 a6 a7 a8 a9 a10 a11 a12 → W n b1 b2 b3 b4 b5 b6 b7 b8 b9 b10 b11 b12) → W (n + 1) a1 a2 a3 a4 a5 a6 a7 a8 a9 a10 a11 a12) (a1 : A1) (a2 : A2) (a3 : A3) (a4 : A4) (a5 : A5) (a6 : A6) (a7 : A7) (a8 : A8) (a9 : A9) (a10 : A10) (a11 : A11) (a12 : A12) (h : I a1 a2 a3 a4 a5 a6 a7 a8 a9 a10 a11 a12) : ∃ n, W n a1 a2 a3 a4 a5 a6 a7 a8 a9 a10 a11 a12 :=
  loop_m (σ := A1 × A2 × A3 × A4 × A5 × A6 × A7 × A8 × A9 × A10 × A11 × A12) (fun n s => W n s.1 s.2.1 s.2.2.1 s.2.2.2.1 s.2.2.2.2.1 s.2.2.2.2.2.1 s.2.2.2.2.2.2.1 s.2.2.2.2.2.2.2.1 s.2.2.2.2.2.2.2.2.1 s.2.2.2.2.2.2.2.2.2.1 s.2.2.2.2.2.2.2.2.2.2.1 s.2.2.2.2.2.2.2.2.2.2.2) (fun s => I s.1 s.2.1 s.2.2.1 s.2.2.2.1 s.2.2.2.2.1 s.2.2.2.2.2.1 s.2.2.2.2.2.2.1 s.2.2.2.2.2.2.2.1 s.2.2.2.2.2.2.2.2.1 s.2.2.2.2.2.2.2.2.2.1 s.2.2.2.2.2.2.2.2.2.2.1 s.2.2.2.2.2.2.2.2.2.2.2) (fun s => μ s.1 s.2.1 s.2.2.1 s.2.2.2.1 s.2.2.2.2.1 s.2.2.2.2.2.1 s.2.2.2.2.2.2.1 s.2.2.2.2.2.2.2.1 s.2.2.2.2.2.2.2.2.1 s.2.2.2.2.2.2.2.2.2.1 s.2.2.2.2.2.2.2.2.2.2.1 s.2.2.2.2.2.2.2.2.2.2.2) (fun n s hI hk => hs n s.1 s.2.1 s.2.2.1 s.2.2.2.1 s.2.2.2.2.1 s.2.2.2.2.2.1 s.2.2.2.2.2.2.1 s.2.2.2.2.2.2.2.1 s.2.2.2.2.2.2.2.2.1 s.2.2.2.2.2.2.2.2.2.1 s.2.2.2.2.2.2.2.2.2.2.1 s.2.2.2.2.2.2.2.2.2.2.2 hI (fun b1 b2 b3 b4 b5 b6 b7 b8 b9 b10 b11 b12 h9 hm => hk (b1, b2, b3, b4, b5, b6, b7, b8, b9, b10, b11, b12) h9 hm)) (a1, a2, a3, a4, a5, a6, a7, a8, a9, a10, a11, a12) h
theorem lp13 {A1 A2 A3 A4 A5 A6 A7 A8 A9 A10 A11 A12 A13 : Type} (W : Nat → A1 → A2 → A3 → A4 → A5 → A6 → A7 → A8 → A9 → A10 → A11 → A12 → A13 → Prop) (I : A1 → A2 → A3 → A4 → A5 → A6 → A7 → A8 → A9 → A10 → A11 → A12 → A13 → Prop) (μ : A1 → A2 → A3 → A4 → A5 → A6 → A7 → A8 → A9 → A10 → A11 → A12 → A13 → Nat) (hs : ∀ (n : Nat) (a1 : A1) (a2 : A2) (a3 : A3) (a4 : A4) (a5 : A5) (a6 : A6) (a7 : A7) (a8 : A8) (a9 : A9) (a10 : A10) (a11 : A11) (a12 : A12) (a13 : A13), I a1 a2 a3 a4 a5 a6 a7 a8 a9 a10 a11 a12 a13 → (∀ (b1 : A1) (b2 : A2) (b3 : A3) (b4 : A4) (b5 : A5) (b6 : A6) (b7 : A7) (b8 : A8) (b9 : A9) (b10 : A10) (b11 : A11) (b12 : A12) (b13 : A13), I b1 b2 b3 b4 b5 b6 b7 b8 b9 b10 b11 b12 b13 → μ b1 b2 b3 b4 b5 b6 b7 b8 b9 b10 b11 b12 b13 < μ a1 a2 a3 a4 a5 a6 a7 a8 a9 a10 a11 a12 a13 → W n b1 b2 b3 b4 b5 b6 b7 b8 b9 b10 b11 b12 b13) → W (n + 1) a1 a2 a3 a4 a5 a6 a7 a8 a9 a10 a11 a12 a13) (a1 : A1) (a2 : A2) (a3 : A3) (a4 : A4) (a5 : A5) (a6 : A6) (a7 : A7) (a8 : A8) (a9 : A9) (a10 : A10) (a11 : A11) (a12 : A12) (a13 : A13) (h : I a1 a2 a3 a4 a5 a6 a7 a8 a9 a10 a11 a12 a13) : ∃ n, W n a1 a2 a3 a4 a5 a6 a7 a8 a9 a10 a11 a12 a13 :=
  loop_m (σ := A1 × A2 × A3 × A4 × A5 × A6 × A7 × A8 × A9 × A10 × A11 × A12 × A13) (fun n s => W n s.1 s.2.1 s.2.2.1 s.2.2.2.1 s.2.2.2.2.1 s.2.2.2.2.2.1 s.2.2.2.2.2.2.1 s.2.2.2.2.2.2.2.1 s.2.2.2.2.2.2.2.2.1 s.2.2.2.2.2.2.2.2.2.1 s.2.2.2.2.2.2.2.2.2.2.1 s.2.2.2.2.2.2.2.2.2.2.2.1 s.2.2.2.2.2.2.2.2.2.2.2.2) (fun s => I s.1 s.2.1 s.2.2.1 s.2.2.2.1 s.2.2.2.2.1 s.2.2.2.2.2.1 s.2.2.2.2.2.2.1 s.2.2.2.2.2.2.2.1 s.2.2.2.2.2.2.2.2.1 s.2.2.2.2.2.2.2.2.2.1 s.2.2.2.2.2.2.2.2.2.2.1 s.2.2.2.2.2.2.2.2.2.2.2.1 s.2.2.2.2.2.2.2.2.2.2.2.2) (fun s => μ s.1 s.2.1 s.2.2.1 s.2.2.2.1 s.2.2.2.2.1 s.2.2.2.2.2.1 s.2.2.2.2.2.2.1 s.2.2.2.2.2.2.2.1 s.2.2.2.2.2.2.2.2.1 s.2.2.2.2.2.2.2.2.2.1 s.2.2.2.2.2.2.2.2.2.2.1 s.2.2.2.2.2.2.2.2.2.2.2.1 s.2.2.2.2.2.2.2.2.2.2.2.2) (fun n s hI hk => hs n s.1 s.2.1 s.2.2.1 s.2.2.2.1 s.2.2.2.2.1 s.2.2.2.2.2.1 s.2.2.2.2.2.2.1 s.2.2.2.2.2.2.2.1 s.2.2.2.2.2.2.2.2.1 s.2.2.2.2.2.2.2.2.2.1 s.2.2.2.2.2.2.2.2.2.2.1 s.2.2.2.2.2.2.2.2.2.2.2.1 s.2.2.2.2.2.2.2.2.2.2.2.2 hI (fun b1 b2 b3 b4 b5 b6 b7 b8 b9 b10 b11 b12 b13 h9 hm => hk (b1, b2, b3, b4, b5, b6, b7, b8, b9, b10, b11, b12, b13) h9 hm)) (a1, a2, a3, a4, a5, a6, a7, a8, a9, a10, a11, a12, a13) h
theorem lp14 {A1 A2 A3 A4 A5 A6 A7 A8 A9 A10 A11 A12 A13 A14 : Type} (W : Nat → A1 → A2 → A3 → A4 → A5 → A6 → A7 → A8 → A9 → A10 → A11 → A12 → A13 → A14 → Prop) (I : A1 → A2 → A3 → A4 → A5 → A6 → A7 → A8 → A9 → A10 → A11 → A12 → A13 → A14 → Prop) (μ : A1 → A2 → A3 → A4 → A5 → A6 → A7 → A8 → A9 → A10 → A11 → A12 → A13 → A14 → Nat) (hs : ∀ (n : Nat) (a1 : A1) (a2 : A2) (a3 : A3) (a4 : A4) (a5 : A5) (a6 : A6) (a7 : A7) (a8 : A8) (a9 : A9) (a10 : A10) (a11 : A11) (a12 : A12) (a13 : A13) (a14 : A14), I a1 a2 a3 a4 a5 a6 a7 a8 a9 a10 a11 a12 a13 a14 → (∀ (b1 : A1) (b2 : A2) (b3 : A3) (b4 : A4) (b5 : A5) (b6 : A6) (b7 : A7) (b8 : A8) (b9 : A9) (b10 : A10) (b11 : A11) (b12 : A12) (b13 : A13) (b14 : A14), I b1 b2 b3 b4 b5 b6 b7 b8 b9 b10 b11 b12 b13 b14 → μ b1 b2 b3 b4 b5 b6 b7 b8 b9 b10 b11 b12 b13 b14 < μ a1 a2 a3 a4 a5 a6 a7 a8 a9 a10 a11 a12 a13 a14 → W n b1 b2 b3 b4 b5 b6 b7 b8 b9 b10 b11 b12 b13 b14) → W (n + 1) a1 a2 a3 a4 a5 a6 a7 a8 a9 a10 a11 a12 a13 a14) (a1 : A1) (a2 : A2) (a3 : A3) (a4 : A4) (a5 : A5) (a6 : A6) (a7 : A7) (a8 : A8) (a9 : A9) (a10 : A10) (a11 : A11) (a12 : A12) (a13 : A13) (a14 : A14) (h : I a1 a2 a3 a4 a5 a6 a7 a8 a9 a10 a11 a12 a13 a14) : ∃ n, W n a1 a2 a3 a4 a5 a6 a7 a8 a9 a10 a11 a12 a13 a14 :=
  loop_m (σ := A1 × A2 × A3 × A4 × A5 × A6 × A7 × A8 × A9 × A10 × A11 × A12 × A13 × A14) (fun n s => W n s.1 s.2.1 s.2.2.1 s.2.2.2.1 s.2.2.2.2.1 s.2.2.2.2.2.1 s.2.2.2.2.2.2.1 s.2.2.2.2.2.2.2.1 s.2.2.2.2.2.2.2.2.1 s.2.2.2.2.2.2.2.2.2.1 s.2.2.2.2.2.2.2.2.2.2.1 s.2.2.2.2.2.2.2.2.2.2.2.1 s.2.2.2.2.2.2.2.2.2.2.2.2.1 s.2.2.2.2.2.2.2.2.2.2.2.2.2) (fun s => I s.1 s.2.1 s.2.2.1 s.2.2.2.1 s.2.2.2.2.1 s.2.2.2.2.2.1 s.2.2.2.2.2.2.1 s.2.2.2.2.2.2.2.1 s.2.2.2.2.2.2.2.2.1 s.2.2.2.2.2.2.2.2.2.1 s.2.2.2.2.2.2.2.2.2.2.1 s.2.2.2.2.2.2.2.2.2.2.2.1 s.2.2.2.2.2.2.2.2.2.2.2.2.1 s.2.2.2.2.2.2.2.2.2.2.2.2.2) (fun s => μ s.1 s.2.1 s.2.2.1 s.2.2.2.1 s.2.2.2.2.1 s.2.2.2.2.2.1 s.2.2.2.2.2.2.1 s.2.2.2.2.2.2.2.1 s.2.2.2.2.2.2.2.2.1 s.2.2.2.2.2.2.2.2.2.1 s.2.2.2.2.2.2.2.2.2.2.1 s.2.2.2.2.2.2.2.2.2.2.2.1 s.2.2.2.2.2.2.2.2.2.2.2.2.1 s.2.2.2.2.2.2.2.2.2.2.2.2.2) (fun n s hI hk => hs n s.1 s.2.1 s.2.2.1 s.2.2.2.1 s.2.2.2.2.1 s.2.2.2.2.2.1 s.2.2.2.2.2.2.1 s.2.2.2.2.2.2.2.1 s.2.2.2.2.2.2.2.2.1 s.2.2.2.2.2.2.2.2.2.1 s.2.2.2.2.2.2.2.2.2.2.1 s.2.2.2.2.2.2.2.2.2.2.2.1 s.2.2.2.2.2.2.2.2.2.2.2.2.1 s.2.2.2.2.2.2.2.2.2.2.2.2.2 hI (fun b1 b2 b3 b4 b5 b6 b7 b8 b9 b10 b11 b12 b13 b14 h9 hm => hk (b1, b2, b3, b4, b5, b6, b7, b8, b9, b10, b11, b12, b13, b14) h9 hm)) (a1, a2, a3, a4, a5, a6, a7, a8, a9, a10, a11, a12, a13, a14) h
theorem lp15 {A1 A2 A3 A4 A5 A6 A7 A8 A9 A10 A11 A12 A13 A14 A15 : Type} (W : Nat → A1 → A2 → A3 → A4 → A5 → A6 → A7 → A8 → A9 → A10 → A11 → A12 → A13 → A14 → A15 → Prop) (I : A1 → A2 → A3 → A4 → A5 → A6 → A7 → A8 → A9 → A10 → A11 → A12 → A13 → A14 → A15 → Prop) (μ : A1 → A2 → A3 → A4 → A5 → A6 → A7 → A8 → A9 → A10 → A11 → A12 → A13 → A14 → A15 → Nat) (hs : ∀ (n : Nat) (a1 : A1) (a2 : A2) (a3 : A3) (a4 : A4) (a5 : A5) (a6 : A6) (a7 : A7) (a8 : A8) (a9 : A9) (a10 : A10) (a11 : A11) (a12 : A12) (a13 : A13) (a14 : A14) (a15 : A15), I a1 a2 a3 a4 a5 a6 a7 a8 a9 a10 a11 a12 a13 a14 a15 → (∀ (b1 : A1) (b2 : A2) (b3 : A3) (b4 : A4) (b5 : A5) (b6 : A6) (b7 : A7) (b8 : A8) (b9 : A9) (b10 : A10) (b11 : A11) (b12 : A12) (b13 : A13) (b14 : A14) (b15 : A15), I b1 b2 b3 b4 b5 b6 b7 b8 b9 b10 b11 b12 b13 b14 b15 → μ b1 b2 b3 b4 b5 b6 b7 b8 b9 b10 b11 b12 b13 b14 b15 < μ a1 a2 a3 a4 a5 a6 a7 a8 a9 a10 a11 a12 a13 a14 a15 → W n b1 b2 b3 b4 b5 b6 b7 b8 b9 b10 b11 b12 b13 b14 b15) → W (n + 1) a1 a2 a3 a4 a5 a6 a7 a8 a9 a10 a11 a12 a13 a14 a15) (a1 : A1) (a2 : A2) (a3 : A3) (a4 : A4) (a5 : A5) (a6 : A6) (a7 : A7) (a8 : A8) (a9 : A9) (a10 : A10) (a11 : A11) (a12 : A12) (a13 : A13) (a14 : A14) (a15 : A15) (h : I a1 a2 a3 a4 a5 a6 a7 a8 a9 a10 a11 a12 a13 a14 a15) : ∃ n, W n a1 a2 a3 a4 a5 a6 a7 a8 a9 a10 a11 a12 a13 a14 a15 :=
  loop_m (σ := A1 × A2 × A3 × A4 × A5 × A6 × A7 × A8 × A9 × A10 × A11 × A12 × A13 × A14 × A15) (fun n s => W n s.1 s.2.1 s.2.2.1 s.2.2.2.1 s.2.2.2.2.1 s.2.2.2.2.2.1 s.2.2.2.2.2.2.1 s.2.2.2.2.2.2.2.1 s.2.2.2.2.2.2.2.2.1 s.2.2.2.2.2.2.2.2.2.1 s.2.2.2.2.2.2.2.2.2.2.1 s.2.2.2.2.2.2.2.2.2.2.2.1 s.2.2.2.2.2.2.2.2.2.2.2.2.1 s.2.2.2.2.2.2.2.2.2.2.2.2.2.1 s.2.2.2.2.2.2.2.2.2.2.2.2.2.2) (fun s => I s.1 s.2.1 s.2.2.1 s.2.2.2.1 s.2.2.2.2.1 s.2.2.2.2.2.1 s.2.2.2.2.2.2.1 s.2.2.2.2.2.2.2.1 s.2.2.2.2.2.2.2.2.1 s.2.2.2.2.2.2.2.2.2.1 s.2.2.2.2.2.2.2.2.2.2.1 s.2.2.2.2.2.2.2.2.2.2.2.1 s.2.2.2.2.2.2.2.2.2.2.2.2.1 s.2.2.2.2.2.2.2.2.2.2.2.2.2.1 s.2.2.2.2.2.2.2.2.2.2.2.2.2.2) (fun s => μ s.1 s.2.1 s.2.2.1 s.2.2.2.1 s.2.2.2.2.1 s.2.2.2.2.2.1 s.2.2.2.2.2.2.1 s.2.2.2.2.2.2.2.1 s.2.2.2.2.2.2.2.2.1 s.2.2.2.2.2.2.2.2.2.1 s.2.2.2.2.2.2.2.2.2.2.1 s.2.2.2.2.2.2.2.2.2.2.2.1 s.2.2.2.2.2.2.2.2.2.2.2.2.1 s.2.2.2.2.2.2.2.2.2.2.2.2.2.1 s.2.2.2.2.2.2.2.2.2.2.2.2.2.2) (fun n s hI hk => hs n s.1 s.2.1 s.2.2.1 s.2.2.2.1 s.2.2.2.2.1 s.2.2.2.2.2.1 s.2.2.2.2.2.2.1 s.2.2.2.2.2.2.2.1 s.2.2.2.2.2.2.2.2.1 s.2.2.2.2.2.2.2.2.2.1 s.2.2.2.2.2.2.2.2.2.2.1 s.2.2.2.2.2.2.2.2.2.2.2.1 s.2.2.2.2.2.2.2.2.2.2.2.2.1 s.2.2.2.2.2.2.2.2.2.2.2.2.2.1 s.2.2.2.2.2.2.2.2.2.2.2.2.2.2 hI (fun b1 b2 b3 b4 b5 b6 b7 b8 b9 b10 b11 b12 b13 b14 b15 h9 hm => hk (b1, b2, b3, b4, b5, b6, b7, b8, b9, b10, b11, b12, b13, b14, b15) h9 hm)) (a1, a2, a3, a4, a5, a6, a7, a8, a9, a10, a11, a12, a13, a14, a15) h
theorem lp16 {A1 A2 A3 A4 A5 A6 A7 A8 A9 A10 A11 A12 A13 A14 A15 A16 : Type} (W : Nat → A1 → A2 → A3 → A4 → A5 → A6 → A7 → A8 → A9 → A10 → A11 → A12 → A13 → A14 → A15 → A16 → Prop) (I : A1 → A2 → A3 → A4 → A5 → A6 → A7 → A8 → A9 → A10 → A11 → A12 → A13 → A14 → A15 → A16 → Prop) (μ : A1 → A2 → A3 → A4 → A5 → A6 → A7 → A8 → A9 → A10 → A11 → A12 → A13 → A14 → A15 → A16 → Nat) (hs : ∀ (n : Nat) (a1 : A1) (a2 : A2) (a3 : A3) (a4 : A4) (a5 : A5) (a6 : A6) (a7 : A7) (a8 : A8) (a9 : A9) (a10 : A10) (a11 : A11) (a12 : A12) (a13 : A13) (a14 : A14) (a15 : A15) (a16 : A16), I a1 a2 a3 a4 a5 a6 a7 a8 a9 a10 a11 a12 a13 a14 a15 a16 → (∀ (b1 : A1) (b2 : A2) (b3 : A3) (b4 : A4) (b5 : A5) (b6 : A6) (b7 : A7) (b8 : A8) (b9 : A9) (b10 : A10) (b11 : A11) (b12 : A12) (b13 : A13) (b14 : A14) (b15 : A15) (b16 : A16), I b1 b2 b3 b4 b5 b6 b7 b8 b9 b10 b11 b12 b13 b14 b15 b16 → μ b1 b2 b3 b4 b5 b6 b7 b8 b9 b10 b11 b12 b13 b14 b15 b16 < μ a1 a2 a3 a4 a5 a6 a7 a8 a9 a10 a11 a12 a13 a14 a15 a16 → W n b1 b2 b3 b4 b5 b6 b7 b8 b9 b10 b11 b12 b13 b14 b15 b16) → W (n + 1) a1 a2 a3 a4 a5 a6 a7 a8 a9 a10 a11 a12 a13 a14 a15 a16) (a1 : A1) (a2 : A2) (a3 : A3) (a4 : A4) (a5 : A5) (a6 : A6) (a7 : A7) (a8 : A8) (a9 : A9) (a10 : A10) (a11 : A11) (a12 : A12) (a13 : A13) (a14 : A14) (a15 : A15) (a16 : A16) (h : I a1 a2 a3 a4 a5 a6 a7 a8 a9 a10 a11 a12 a13 a14 a15 a16) : ∃ n, W n a1 a2 a3 a4 a5 a6 a7 a8 a9 a10 a11 a12 a13 a14 a15 a16 :=
  loop_m (σ := A1 × A2 × A3 × A4 × A5 × A6 × A7 × A8 × A9 × A10 × A11 × A12 × A13 × A14 × A15 × A16) (fun n s => W n s.1 s.2.1 s.2.2.1 s.2.2.2.1 s.2.2.2.2.1 s.2.2.2.2.2.1 s.2.2.2.2.2.2.1 s.2.2.2.2.2.2.2.1 s.2.2.2.2.2.2.2.2.1 s.2.2.2.2.2.2.2.2.2.1 s.2.2.2.2.2.2.2.2.2.2.1 s.2.2.2.2.2.2.2.2.2.2.2.1 s.2.2.2.2.2.2.2.2.2.2.2.2.1 s.2.2.2.2.2.2.2.2.2.2.2.2.2.1 s.2.2.2.2.2.2.2.2.2.2.2.2.2.2.1 s.2.2.2.2.2.2.2.2.2.2.2.2.2.2.2) (fun s => I s.1 s.2.1 s.2.2.1 s.2.2.2.1 s.2.2.2.2.1 s.2.2.2.2.2.1 s.2.2.2.2.2.2.1 s.2.2.2.2.2.2.2.1 s.2.2.2.2.2.2.2.2.1 s.2.2.2.2.2.2.2.2.2.1 s.2.2.2.2.2.2.2.2.2.2.1 s.2.2.2.2.2.2.2.2.2.2.2.1 s.2.2.2.2.2.2.2.2.2.2.2.2.1 s.2.2.2.2.2.2.2.2.2.2.2.2.2.1 s.2.2.2.2.2.2.2.2.2.2.2.2.2.2.1 s.2.2.2.2.2.2.2.2.2.2.2.2.2.2.2) (fun s => μ s.1 s.2.1 s.2.2.1 s.2.2.2.1 s.2.2.2.2.1 s.2.2.2.2.2.1 s.2.2.2.2.2.2.1 s.2.2.2.2.2.2.2.1 s.2.2.2.2.2.2.2.2.1 s.2.2.2.2.2.2.2.2.2.1 s.2.2.2.2.2.2.2.2.2.2.1 s.2.2.2.2.2.2.2.2.2.2.2.1 s.2.2.2.2.2.2.2.2.2.2.2.2.1 s.2.2.2.2.2.2.2.2.2.2.2.2.2.1 s.2.2.2.2.2.2.2.2.2.2.2.2.2.2.1 s.2.2.2.2.2.2.2.2.2.2.2.2.2.2.2) (fun n s hI hk => hs n s.1 s.2.1 s.2.2.1 s.2.2.2.1 s.2.2.2.2.1 s.2.2.2.2.2.1 s.2.2.2.2.2.2.1 s.2.2.2.2.2.2.2.1 s.2.2.2.2.2.2.2.2.1 s.2.2.2.2.2.2.2.2.2.1 s.2.2.2.2.2.2.2.2.2.2.1 s.2.2.2.2.2.2.2.2.2.2.2.1 s.2.2.2.2.2.2.2.2.2.2.2.2.1 s.2.2.2.2.2.2.2.2.2.2.2.2.2.1 s.2.2.2.2.2.2.2.2.2.2.2.2.2.2.1 s.2.2.2.2.2.2.2.2.2.2.2.2.2.2.2 hI (fun b1 b2 b3 b4 b5 b6 b7 b8 b9 b10 b11 b12 b13 b14 b15 b16 h9 hm => hk (b1, b2, b3, b4, b5, b6, b7, b8, b9, b10, b11, b12, b13, b14, b15, b16) h9 hm)) (a1, a2, a3, a4, a5, a6, a7, a8, a9, a10, a11, a12, a13, a14, a15, a16) h
theorem pk_least (P : Nat → Prop) (h : ∃ k, P k) : ∃ k, P k ∧ ∀ j, j < k → ¬ P j := by
  obtain ⟨k, hk⟩ := h
  induction k using Nat.strongRecOn with
  | ind k ih =>
    by_cases e : ∃ j, j < k ∧ P j
    · obtain ⟨j, hj, pj⟩ := e
      exact ih j hj pj
    · exact ⟨k, hk, fun j hj pj => e ⟨j, hj, pj⟩⟩
theorem rp1 {ρ A1 : Type} (W : Nat → (ρ → Prop) → A1 → Prop) (ok : A1 → Prop) (μ : A1 → Nat) (val : A1 → ρ)
    (hs : ∀ (d : Nat) (post : ρ → Prop) (a1 : A1), ok a1 → post (val a1) → (∀ (post' : ρ → Prop) (b1 : A1), ok b1 → μ b1 < μ a1 → post' (val b1) → W d post' b1) → W (d + 1) post a1) :
    ∀ (d : Nat) (post : ρ → Prop) (a1 : A1), ok a1 → μ a1 < d → post (val a1) → W d post a1 := by
  intro d
  induction d with
  | zero => intro post a1 _ h; omega
  | succ d ih =>
    intro post a1 ho hm hp
    exact hs d post a1 ho hp (fun post' b1 ho' hm' hp' => ih post' b1 ho' (by omega) hp')
theorem rp2 {ρ A1 A2 : Type} (W : Nat → (ρ → Prop) → A1 → A2 → Prop) (ok : A1 → A2 → Prop) (μ : A1 → A2 → Nat) (val : A1 → A2 → ρ)
    (hs : ∀ (d : Nat) (post : ρ → Prop) (a1 : A1) (a2 : A2), ok a1 a2 → post (val a1 a2) → (∀ (post' : ρ → Prop) (b1 : A1) (b2 : A2), ok b1 b2 → μ b1 b2 < μ a1 a2 → post' (val b1 b2) → W d post' b1 b2) → W (d + 1) post a1 a2) :
    ∀ (d : Nat) (post : ρ → Prop) (a1 : A1) (a2 : A2), ok a1 a2 → μ a1 a2 < d → post (val a1 a2) → W d post a1 a2 := by
  intro d
  induction d with
  | zero => intro post a1 a2 _ h; omega
  | succ d ih =>
    intro post a1 a2 ho hm hp
    exact hs d post a1 a2 ho hp (fun post' b1 b2 ho' hm' hp' => ih post' b1 b2 ho' (by omega) hp')
theorem rp3 {ρ A1 A2 A3 : Type} (W : Nat → (ρ → Prop) → A1 → A2 → A3 → Prop) (ok : A1 → A2 → A3 → Prop) (μ : A1 → A2 → A3 → Nat) (val : A1 → A2 → A3 → ρ)
    (hs : ∀ (d : Nat) (post : ρ → Prop) (a1 : A1) (a2 : A2) (a3 : A3), ok a1 a2 a3 → post (val a1 a2 a3) → (∀ (post' : ρ → Prop) (b1 : A1) (b2 : A2) (b3 : A3), ok b1 b2 b3 → μ b1 b2 b3 < μ a1 a2 a3 → post' (val b1 b2 b3) → W d post' b1 b2 b3) → W (d + 1) post a1 a2 a3) :
    ∀ (d : Nat) (post : ρ → Prop) (a1 : A1) (a2 : A2) (a3 : A3), ok a1 a2 a3 → μ a1 a2 a3 < d → post (val a1 a2 a3) → W d post a1 a2 a3 := by
  intro d
  induction d with
  | zero => intro post a1 a2 a3 _ h; omega
  | succ d ih =>
    intro post a1 a2 a3 ho hm hp
    exact hs d post a1 a2 a3 ho hp (fun post' b1 b2 b3 ho' hm' hp' => ih post' b1 b2 b3 ho' (by omega) hp')
theorem rp4 {ρ A1 A2 A3 A4 : Type} (W : Nat → (ρ → Prop) → A1 → A2 → A3 → A4 → Prop) (ok : A1 → A2 → A3 → A4 → Prop) (μ : A1 → A2 → A3 → A4 → Nat) (val : A1 → A2 → A3 → A4 → ρ)
    (hs : ∀ (d : Nat) (post : ρ → Prop) (a1 : A1) (a2 : A2) (a3 : A3) (a4 : A4), ok a1 a2 a3 a4 → post (val a1 a2 a3 a4) → (∀ (post' : ρ → Prop) (b1 : A1) (b2 : A2) (b3 : A3) (b4 : A4), ok b1 b2 b3 b4 → μ b1 b2 b3 b4 < μ a1 a2 a3 a4 → post' (val b1 b2 b3 b4) → W d post' b1 b2 b3 b4) → W (d + 1) post a1 a2 a3 a4) :
    ∀ (d : Nat) (post : ρ → Prop) (a1 : A1) (a2 : A2) (a3 : A3) (a4 : A4), ok a1 a2 a3 a4 → μ a1 a2 a3 a4 < d → post (val a1 a2 a3 a4) → W d post a1 a2 a3 a4 := by
  intro d
  induction d with
  | zero => intro post a1 a2 a3 a4 _ h; omega
  | succ d ih =>
    intro post a1 a2 a3 a4 ho hm hp
    exact hs d post a1 a2 a3 a4 ho hp (fun post' b1 b2 b3 b4 ho' hm' hp' => ih post' b1 b2 b3 b4 ho' (by omega) hp')
theorem rp5 {ρ A1 A2 A3 A4 A5 : Type} (W : Nat → (ρ → Prop) → A1 → A2 → A3 → A4 → A5 → Prop) (ok : A1 → A2 → A3 → A4 → A5 → Prop) (μ : A1 → A2 → A3 → A4 → A5 → Nat) (val : A1 → A2 → A3 → A4 → A5 → ρ)
    (hs : ∀ (d : Nat) (post : ρ → Prop) (a1 : A1) (a2 : A2) (a3 : A3) (a4 : A4) (a5 : A5), ok a1 a2 a3 a4 a5 → post (val a1 a2 a3 a4 a5) → (∀ (post' : ρ → Prop) (b1 : A1) (b2 : A2) (b3 : A3) (b4 : A4) (b5 : A5), ok b1 b2 b3 b4 b5 → μ b1 b2 b3 b4 b5 < μ a1 a2 a3 a4 a5 → post' (val b1 b2 b3 b4 b5) → W d post' b1 b2 b3 b4 b5) → W (d + 1) post a1 a2 a3 a4 a5) :
    ∀ (d : Nat) (post : ρ → Prop) (a1 : A1) (a2 : A2) (a3 : A3) (a4 : A4) (a5 : A5), ok a1 a2 a3 a4 a5 → μ a1 a2 a3 a4 a5 < d → post (val a1 a2 a3 a4 a5) → W d post a1 a2 a3 a4 a5 := by
  intro d
  induction d with
  | zero => intro post a1 a2 a3 a4 a5 _ h; omega
  | succ d ih =>
    intro post a1 a2 a3 a4 a5 ho hm hp
    exact hs d post a1 a2 a3 a4 a5 ho hp (fun post' b1 b2 b3 b4 b5 ho' hm' hp' => ih post' b1 b2 b3 b4 b5 ho' (by omega) hp')
theorem rp6 {ρ A1 A2 A3 A4 A5 A6 : Type} (W : Nat → (ρ → Prop) → A1 → A2 → A3 → A4 → A5 → A6 → Prop) (ok : A1 → A2 → A3 → A4 → A5 → A6 → Prop) (μ : A1 → A2 → A3 → A4 → A5 → A6 → Nat) (val : A1 → A2 → A3 → A4 → A5 → A6 → ρ)
    (hs : ∀ (d : Nat) (post : ρ → Prop) (a1 : A1) (a2 : A2) (a3 : A3) (a4 : A4) (a5 : A5) (a6 : A6), ok a1 a2 a3 a4 a5 a6 → post (val a1 a2 a3 a4 a5 a6) → (∀ (post' : ρ → Prop) (b1 : A1) (b2 : A2) (b3 : A3) (b4 : A4) (b5 : A5) (b6 : A6), ok b1 b2 b3 b4 b5 b6 → μ b1 b2 b3 b4 b5 b6 < μ a1 a2 a3 a4 a5 a6 → post' (val b1 b2 b3 b4 b5 b6) → W d post' b1 b2 b3 b4 b5 b6) → W (d + 1) post a1 a2 a3 a4 a5 a6) :
    ∀ (d : Nat) (post : ρ → Prop) (a1 : A1) (a2 : A2) (a3 : A3) (a4 : A4) (a5 : A5) (a6 : A6), ok a1 a2 a3 a4 a5 a6 → μ a1 a2 a3 a4 a5 a6 < d → post (val a1 a2 a3 a4 a5 a6) → W d post a1 a2 a3 a4 a5 a6 := by
  intro d
  induction d with
  | zero => intro post a1 a2 a3 a4 a5 a6 _ h; omega
  | succ d ih =>
    intro post a1 a2 a3 a4 a5 a6 ho hm hp
    exact hs d post a1 a2 a3 a4 a5 a6 ho hp (fun post' b1 b2 b3 b4 b5 b6 ho' hm' hp' => ih post' b1 b2 b3 b4 b5 b6 ho' (by omega) hp')
theorem rec_p {σ ρ : Type} (W : Nat → (ρ → Prop) → σ → Prop) (ok : σ → Prop) (μ : σ → Nat) (val : σ → ρ)
    (hs : ∀ d s post, ok s → post (val s) → (∀ s' post', ok s' → μ s' < μ s → post' (val s') → W d post' s') → W (d + 1) post s) :
    ∀ d s post, ok s → μ s < d → post (val s) → W d post s := by
  intro d
  induction d with
  | zero => intro s post _ h; omega
  | succ d ih =>
    intro s post ho hm hp
    exact hs d s post ho hp (fun s' post' ho' hm' hp' => ih s' post' ho' (by omega) hp')
theorem rec_q {σ ρ : Type} (W : Nat → (ρ → Prop) → σ → Prop) (ok : σ → Prop) (μ : σ → Nat) (Q : σ → ρ → Prop)
    (hs : ∀ d s post, ok s → (∀ r, Q s r → post r) → (∀ s' post', ok s' → μ s' < μ s → (∀ r, Q s' r → post' r) → W d post' s') → W (d + 1) post s) :
    ∀ d s post, ok s → μ s < d → (∀ r, Q s r → post r) → W d post s := by
  intro d
  induction d with
  | zero => intro s post _ h; omega
  | succ d ih =>
    intro s post ho hm hp
    exact hs d s post ho hp (fun s' post' ho' hm' hp' => ih s' post' ho' (by omega) hp')
def bx_sum (f : Nat → Int32) : Nat → Int32
  | 0 => 0
  | n + 1 => bx_sum f n + f n
theorem ek_u {A : Prop} {B : Nat → Prop} {k N : Nat} (hk : k < N) (h : B k) : (some k = none → A) ∧ (∀ y : Nat, some k = some y → (y < N ∧ B y)) :=
  ⟨fun z => absurd z (Option.some_ne_none k), fun _ e => (by cases e; exact ⟨hk, h⟩)⟩
theorem ek_nu {A : Prop} {B : Nat → Prop} (h : A) : ((none : Option Nat) = none → A) ∧ (∀ y : Nat, (none : Option Nat) = some y → B y) :=
  ⟨fun _ => h, fun _ e => (by cases e)⟩
theorem ek_if {c d A B : Prop} (e : c ↔ d) (f : d → A) (g : ¬ d → B) : (c → A) ∧ (¬ c → B) :=
  ⟨fun z => f (e.mp z), fun z => g (fun y => z (e.mpr y))⟩
theorem ek_v {α : Sort _} {P : α → Prop} {a b : α} (e : a = b) (h : P b) : P a := e ▸ h
theorem co_some {x : Option Nat} {A : Prop} {B : Nat → Prop} (i : Nat) (h : B i) (hx : x = some i := by rfl) : (x = none → A) ∧ (∀ y : Nat, x = some y → B y) := by
  subst hx
  exact ⟨fun e => (nomatch e), fun y e => Option.some.inj e ▸ h⟩
theorem co_none {x : Option Nat} {A : Prop} {B : Nat → Prop} (h : A) (hx : x = none := by rfl) : (x = none → A) ∧ (∀ y : Nat, x = some y → B y) := by
  subst hx
  exact ⟨fun _ => h, fun y e => (nomatch e)⟩
theorem co_any {x : Option Nat} {A : Prop} {B : Nat → Prop} (hn : x = none → A) (hs : ∀ i : Nat, x = some i → B i) : (x = none → A) ∧ (∀ y : Nat, x = some y → B y) := ⟨hn, hs⟩
theorem co_2 {P : Nat → Prop} (h0 : P 0) (h1 : P 1) {i : Nat} (hi : i < 2) : P i :=
  match i, hi with
  | 0, _ => h0
  | 1, _ => h1
theorem co_3 {P : Nat → Prop} (h0 : P 0) (h1 : P 1) (h2 : P 2) {i : Nat} (hi : i < 3) : P i :=
  match i, hi with
  | 0, _ => h0
  | 1, _ => h1
  | 2, _ => h2
theorem co_4 {P : Nat → Prop} (h0 : P 0) (h1 : P 1) (h2 : P 2) (h3 : P 3) {i : Nat} (hi : i < 4) : P i :=
  match i, hi with
  | 0, _ => h0
  | 1, _ => h1
  | 2, _ => h2
  | 3, _ => h3
theorem co_dec {N : Nat} {P : Nat → Prop} [DecidablePred P] (h : (List.range N).all (fun i => decide (P i)) = true) {i : Nat} (hi : i < N) : P i := by
  have := List.all_eq_true.mp h i (List.mem_range.mpr hi)
  exact of_decide_eq_true this
theorem co_tab {α : Type} {l : List α} {d : α} {P : α → Prop} (h : ∀ a, a ∈ l → P a) {i : Nat} (hi : i < l.length) : P (l.getD i d) := by
  rw [List.getD_eq_getElem?_getD, List.getElem?_eq_getElem hi]
  exact h _ (List.getElem_mem hi)
theorem pk_mu {x : Int32} {L : Nat} (h0 : ¬ x < 0) (h : ¬ nI L ≤ x) (hL : L < 2 ^ 31) : ∃ j : Nat, j < L ∧ x = nI j ∧ x + 1 = nI (j + 1) ∧ x.toNatClampNeg = j ∧ L - (x + 1).toNatClampNeg < L - x.toNatClampNeg := by
  obtain ⟨j, hj, rfl⟩ := nI_of h0
  have hl : j < L := Nat.not_le.mp fun q => h (nI_le q hj)
  refine ⟨j, hl, rfl, nI_1 j, nI_clamp hj, ?_⟩
  rw [nI_1, nI_clamp (by omega), nI_clamp hj]
  omega
theorem op_s {α : Type} {r : Option α} {A : Prop} {B : α → Prop} {y : α} (h : r = some y) (b : B y) : (r = none → A) ∧ ∀ z, r = some z → B z :=
  ⟨fun e => (by rw [h] at e; cases e), fun z e => (by rw [h] at e; cases e; exact b)⟩
def l_holds {α : Type} (a : Nat → Option Nat) (LP : List Nat) (p : Nat → α) (c : Nat) (b : Nat → α) : Prop :=
  ∀ j, j < c → ∃ y, a j = some y ∧ y ∈ LP ∧ p y = b j
theorem l_holds_0 {α : Type} {a : Nat → Option Nat} {LP : List Nat} {p b : Nat → α} : l_holds a LP p 0 b := fun j h => absurd h (Nat.not_lt_zero j)
theorem l_in_new (LP : List Nat) (q : Nat) : q ∈ LP ++ [q] := List.mem_append.mpr (Or.inr (List.mem_singleton.mpr rfl))
def l_sum (b : Nat → Int32) : Nat → Int32
  | 0 => 0
  | k + 1 => l_sum b k + b k
theorem sb_shr0 (x : Int32) : x >>> ((0 : Int32) &&& 31) = x := by
  rw [show ((0 : Int32) &&& 31) = 0 by decide]
  simp
theorem sb_shl0 (x : Int32) : x <<< ((0 : Int32) &&& 31) = x := by
  rw [show ((0 : Int32) &&& 31) = 0 by decide]
  simp
theorem sb_cl0 : (0 : Int32).toNatClampNeg = 0 := by decide
theorem sb_m1 {p : Nat} (h : 0 < p) : nI p + (-1) = nI (p - 1) := by
  obtain ⟨q, rfl⟩ : ∃ q, p = q + 1 := ⟨p - 1, by omega⟩
  exact pk_m1 q
def sb_b (c : Nat) : Int32 := (nI c).toInt8.toInt32
theorem sb_byte : ∀ c, c < 256 → sb_b c &&& 255 = nI c ∧ ((nI c).toUInt32 % 65536).toInt32 = nI c ∧ nI c ≤ 255 := by decide +kernel
def sb_Fit (a : Nat → Int32) : Prop := ∀ j, fits .byte (.int (a j)) = true
def sb_Lat (t : Nat → Nat) (n : Nat) (a : Nat → Int32) : Prop := ∀ j, j < n → t j < 256 ∧ a j = sb_b (t j)
theorem sb_fitB (c : Nat) : fits .byte (.int (sb_b c)) = true := pk_fb _
theorem sb_fit0 : sb_Fit (fun _ => 0) := fun _ => by
  show fits .byte (.int 0) = true
  decide
theorem sb_fitU {a : Nat → Int32} {k : Nat} {x : Int32} (h : sb_Fit a) (hx : fits .byte (.int x) = true) : sb_Fit (upd a k x) := by
  intro j
  by_cases e : j = k
  · subst e
    rw [pk_us]
    exact hx
  · rw [pk_un e]
    exact h j
def sb_cat (t : Nat → Nat) (n : Nat) (s : Nat → Nat) : Nat → Nat := fun j => if j < n then t j else s (j - n)
theorem sb_cat_lo {t s : Nat → Nat} {n j : Nat} (h : j < n) : sb_cat t n s j = t j := if_pos h
theorem sb_cat_hi {t s : Nat → Nat} {n j : Nat} : sb_cat t n s (n + j) = s j := by
  show (if n + j < n then t (n + j) else s (n + j - n)) = s j
  rw [if_neg (by omega), Nat.add_sub_cancel_left]
theorem sb_latPut {t s : Nat → Nat} {n w : Nat} {a a' : Nat → Int32} (h : sb_Lat t n a) (hk : ∀ j, j < n → a' j = a j) (hs : ∀ i, i < w → s i < 256 ∧ a' (n + i) = sb_b (s i)) : sb_Lat (sb_cat t n s) (n + w) a' := by
  intro j hj
  by_cases e : j < n
  · rw [sb_cat_lo e, hk j e]
    exact h j e
  · obtain ⟨i, rfl⟩ : ∃ i, j = n + i := ⟨j - n, by omega⟩
    rw [sb_cat_hi]
    exact hs i (by omega)
theorem sb_latKeep {t : Nat → Nat} {n : Nat} {a a' : Nat → Int32} (h : sb_Lat t n a) (hk : ∀ j, j < n → a' j = a j) : sb_Lat t n a' := fun j hj => by
  rw [hk j hj]
  exact h j hj
def sb_cap (q m : Nat) : Nat := if q ≤ m then m else if 2 * m + 2 < q then q else 2 * m + 2
def sb_Room (q m mc ms : Nat) : Prop := q ≤ m ∨ (1 ≤ mc ∧ sb_cap q m ≤ ms ∧ sb_cap q m ≤ 65536)
theorem sb_cap_ge (q m : Nat) : q ≤ sb_cap q m := by
  unfold sb_cap
  split
  · omega
  · split <;> omega
theorem sb_cap_gem (q m : Nat) : m ≤ sb_cap q m := by
  unfold sb_cap
  split
  · omega
  · split <;> omega
theorem sb_cap_le {q m mc ms : Nat} (hm : m ≤ 65536) (hr : sb_Room q m mc ms) : sb_cap q m ≤ 65536 := by
  rcases hr with h | h
  · rw [sb_cap, if_pos h]
    exact hm
  · exact h.2.2
theorem sb_at {P : Int32 → Prop} {x y : Int32} (e : x = y) (h : P y) : P x := e ▸ h
def sb_dg (w : Nat) : Nat := if w < 10 then 1 else if w < 100 then 2 else if w < 1000 then 3 else if w < 10000 then 4 else if w < 100000 then 5 else if w < 1000000 then 6 else if w < 10000000 then 7 else if w < 100000000 then 8 else if w < 1000000000 then 9 else 10
def sb_dec (v : Nat) : Nat → Nat := fun i => 48 + v / 10 ^ (sb_dg v - 1 - i) % 10
theorem sb_dg_in (w : Nat) : 1 ≤ sb_dg w ∧ sb_dg w ≤ 10 := by
  unfold sb_dg
  constructor <;> (repeat' split) <;> omega
theorem sb_dg100 {w : Nat} (h : 100 ≤ w) (hw : w < 2 ^ 31) : sb_dg w = sb_dg (w / 100) + 2 := by
  rw [sb_dg, sb_dg, if_neg (show ¬ w < 10 by omega), if_neg (show ¬ w < 100 by omega)]
  by_cases h3 : w < 1000
  · rw [if_pos h3, if_pos (show w / 100 < 10 by omega)]
  rw [if_neg h3, if_neg (show ¬ w / 100 < 10 by omega)]
  by_cases h4 : w < 10000
  · rw [if_pos h4, if_pos (show w / 100 < 100 by omega)]
  rw [if_neg h4, if_neg (show ¬ w / 100 < 100 by omega)]
  by_cases h5 : w < 100000
  · rw [if_pos h5, if_pos (show w / 100 < 1000 by omega)]
  rw [if_neg h5, if_neg (show ¬ w / 100 < 1000 by omega)]
  by_cases h6 : w < 1000000
  · rw [if_pos h6, if_pos (show w / 100 < 10000 by omega)]
  rw [if_neg h6, if_neg (show ¬ w / 100 < 10000 by omega)]
  by_cases h7 : w < 10000000
  · rw [if_pos h7, if_pos (show w / 100 < 100000 by omega)]
  rw [if_neg h7, if_neg (show ¬ w / 100 < 100000 by omega)]
  by_cases h8 : w < 100000000
  · rw [if_pos h8, if_pos (show w / 100 < 1000000 by omega)]
  rw [if_neg h8, if_neg (show ¬ w / 100 < 1000000 by omega)]
  by_cases h9 : w < 1000000000
  · rw [if_pos h9, if_pos (show w / 100 < 10000000 by omega)]
  rw [if_neg h9, if_neg (show ¬ w / 100 < 10000000 by omega)]
  rw [if_pos (show w / 100 < 100000000 by omega)]
theorem sb_negT {w : Nat} (h : w < 2 ^ 31) : (-nI w).toInt = -(w : Int) := by
  rw [Int32.toInt_neg, nI_toInt h]
  exact Int.bmod_eq_of_le (by omega) (by omega)
theorem sb_nle {a b : Nat} (ha : a < 2 ^ 31) (hb : b < 2 ^ 31) : -nI a ≤ -nI b ↔ b ≤ a := by
  rw [Int32.le_iff_toInt_le, sb_negT ha, sb_negT hb]
  omega
theorem sb_nlt {a b : Nat} (ha : a < 2 ^ 31) (hb : b < 2 ^ 31) : -nI a < -nI b ↔ b < a := by
  rw [Int32.lt_iff_toInt_lt, sb_negT ha, sb_negT hb]
  omega
theorem sb_cmp {A B : Prop} {x : Int32} (v c : Nat) (f : c ≤ v → A) (g : v < c → B) (hv : v < 2 ^ 31) (hx : x = -nI c := by rfl) (hc : c < 2 ^ 31 := by omega) : (-nI v ≤ x → A) ∧ (¬ -nI v ≤ x → B) := by
  subst hx
  rw [sb_nle hv hc]
  exact ⟨f, fun z => g (by omega)⟩
theorem sb_ndiv {w : Nat} (hw : w < 2 ^ 31) : (-nI w) / 100 = -nI (w / 100) := by
  apply Int32.toInt_inj.mp
  have h100 : (100 : Int32).toInt = 100 := by decide
  rw [Int32.toInt_div, sb_negT hw, h100, sb_negT (by omega), Int.neg_tdiv, Int.tdiv_eq_ediv_of_nonneg (by omega), Int.bmod_eq_of_le (by omega) (by omega)]
  omega
theorem sb_nrem {w : Nat} (hw : w < 2 ^ 31) : (-nI (w / 100)) * 100 - (-nI w) = nI (w % 100) := by
  have h := pk_rem (a := w) (d := 100) hw (by decide) (by decide)
  rw [pk_div hw (by decide) (by decide)] at h
  rw [← h]
  show (-nI (w / 100)) * nI 100 - (-nI w) = nI w - nI (w / 100) * nI 100
  rw [Int32.neg_mul, Int32.sub_neg, Int32.add_comm, ← Int32.sub_eq_add_neg]
end
section
/-! rows on bits, shifts and unsigned numbers, to paste: each family out of a closed proof of our own, whole with what it rests on; each by itself clean at Lean in its own claim (generation 39, form 5). Take a family whole -/
/-! ===== Int32 by its bits: bt x i ===== -/
def bt (x : Int32) (i : Nat) : Bool := x.toBitVec.getLsbD i
theorem b_ext {x y : Int32} (h : ∀ i, i < 32 → bt x i = bt y i) : x = y := Int32.toBitVec_inj.mp (BitVec.eq_of_getLsbD_eq (fun i hi => h i hi))
theorem b_or (x y : Int32) (i : Nat) : bt (x ||| y) i = (bt x i || bt y i) := by unfold bt; rw [Int32.toBitVec_or, BitVec.getLsbD_or]
theorem b_and (x y : Int32) (i : Nat) : bt (x &&& y) i = (bt x i && bt y i) := by unfold bt; rw [Int32.toBitVec_and, BitVec.getLsbD_and]
theorem b_xor (x y : Int32) (i : Nat) : bt (x ^^^ y) i = (bt x i ^^ bt y i) := by unfold bt; rw [Int32.toBitVec_xor, BitVec.getLsbD_xor]
theorem b_big {x : Int32} {i : Nat} (h : 32 ≤ i) : bt x i = false := BitVec.getLsbD_of_ge _ _ h
theorem b_255 (i : Nat) : bt 255 i = decide (i < 8) := by
  rcases Nat.lt_or_ge i 32 with h | h
  · exact (by decide +kernel : ∀ i, i < 32 → bt 255 i = decide (i < 8)) i h
  · rw [b_big h, decide_eq_false (by omega)]
theorem b_65535 (i : Nat) : bt 65535 i = decide (i < 16) := by
  rcases Nat.lt_or_ge i 32 with h | h
  · exact (by decide +kernel : ∀ i, i < 32 → bt 65535 i = decide (i < 16)) i h
  · rw [b_big h, decide_eq_false (by omega)]
theorem b_m1 : ∀ i, i < 32 → bt (-1) i = true := by decide +kernel
theorem b_0 (i : Nat) : bt 0 i = false := BitVec.getLsbD_zero
theorem s_l : ∀ n, n < 32 → ((nI n &&& 31).toBitVec.smod 32).toNat = n := by decide +kernel
theorem s_u : ∀ n, n < 32 → (((nI n).toUInt32 &&& Int32.toUInt32 31).toBitVec % 32).toNat = n := by decide +kernel
theorem b_shl (n : Nat) (hn : n < 32) (x : Int32) {i : Nat} (hi : i < 32) : bt (x <<< (nI n &&& 31)) i = (decide (n ≤ i) && bt x (i - n)) := by
  unfold bt
  rw [Int32.toBitVec_shiftLeft]
  show (x.toBitVec <<< ((nI n &&& 31).toBitVec.smod 32).toNat).getLsbD i = _
  rw [s_l n hn, BitVec.getLsbD_shiftLeft]
  rcases Nat.lt_or_ge i n with h | h
  · simp [h, Nat.not_le.mpr h]
  · simp [hi, h, Nat.not_lt.mpr h]
theorem b_ushr (n : Nat) (hn : n < 32) (x : Int32) (i : Nat) : bt ((x.toUInt32 >>> ((nI n).toUInt32 &&& Int32.toUInt32 31)).toInt32) i = bt x (n + i) := by
  show (x.toUInt32 >>> ((nI n).toUInt32 &&& Int32.toUInt32 31)).toBitVec.getLsbD i = x.toUInt32.toBitVec.getLsbD (n + i)
  rw [UInt32.toBitVec_shiftRight]
  show (x.toUInt32.toBitVec >>> (((nI n).toUInt32 &&& Int32.toUInt32 31).toBitVec % 32).toNat).getLsbD i = _
  rw [s_u n hn, BitVec.getLsbD_ushiftRight]
theorem b_sshr (n : Nat) (hn : n < 32) (x : Int32) {i : Nat} (hi : i < 32) : bt (x >>> (nI n &&& 31)) i = if n + i < 32 then bt x (n + i) else bt x 31 := by
  unfold bt
  rw [Int32.toBitVec_shiftRight]
  show (x.toBitVec.sshiftRight ((nI n &&& 31).toBitVec.smod 32).toNat).getLsbD i = _
  rw [s_l n hn, BitVec.getLsbD_sshiftRight, BitVec.msb_eq_getLsbD_last]
  simp [hi]
theorem b_shl8 (x : Int32) {i : Nat} (hi : i < 32) : bt (x <<< ((8 : Int32) &&& 31)) i = (decide (8 ≤ i) && bt x (i - 8)) := b_shl 8 (by omega) x hi
theorem b_shl16 (x : Int32) {i : Nat} (hi : i < 32) : bt (x <<< ((16 : Int32) &&& 31)) i = (decide (16 ≤ i) && bt x (i - 16)) := b_shl 16 (by omega) x hi
theorem b_shl24 (x : Int32) {i : Nat} (hi : i < 32) : bt (x <<< ((24 : Int32) &&& 31)) i = (decide (24 ≤ i) && bt x (i - 24)) := b_shl 24 (by omega) x hi
theorem b_sshr8 (x : Int32) {i : Nat} (hi : i < 32) : bt (x >>> ((8 : Int32) &&& 31)) i = if 8 + i < 32 then bt x (8 + i) else bt x 31 := b_sshr 8 (by omega) x hi
/-! ===== nI under and, xor, >>>, one bit, 65535 ===== -/
theorem nx_and (a b : Nat) : nI a &&& nI b = nI (a &&& b) := by
  apply Int32.toBitVec_inj.1
  show BitVec.ofNat 32 a &&& BitVec.ofNat 32 b = BitVec.ofNat 32 (a &&& b)
  apply BitVec.eq_of_getLsbD_eq
  intro i hi
  simp [hi]
theorem nx_xor (a b : Nat) : nI a ^^^ nI b = nI (a ^^^ b) := by
  apply Int32.toBitVec_inj.1
  show BitVec.ofNat 32 a ^^^ BitVec.ofNat 32 b = BitVec.ofNat 32 (a ^^^ b)
  apply BitVec.eq_of_getLsbD_eq
  intro i hi
  simp [hi]
theorem nx_cnt : ∀ j : Fin 32, (UInt32.ofNat j.val &&& Int32.toUInt32 31).toNat % 32 = j.val := by decide +kernel
theorem nx_ush {k j : Nat} (hk : k < 65536) (hj : j < 32) : ((nI k).toUInt32 >>> ((nI j).toUInt32 &&& Int32.toUInt32 31)).toInt32 = nI (k >>> j) := by
  have hs : k >>> j ≤ k := by
    rw [Nat.shiftRight_eq_div_pow]
    exact Nat.div_le_self _ _
  have e2 : UInt32.ofNat k >>> (UInt32.ofNat j &&& Int32.toUInt32 31) = UInt32.ofNat (k >>> j) := by
    apply UInt32.toNat_inj.1
    have h1 : (UInt32.ofNat k).toNat = k := Nat.mod_eq_of_lt (by omega)
    have h2 : (UInt32.ofNat (k >>> j)).toNat = k >>> j := Nat.mod_eq_of_lt (by omega)
    rw [UInt32.toNat_shiftRight, nx_cnt ⟨j, hj⟩, h1, h2]
  show (UInt32.ofNat k >>> (UInt32.ofNat j &&& Int32.toUInt32 31)).toInt32 = _
  rw [e2]
  rfl
theorem nx_bit {k j : Nat} (hk : k < 65536) (hj : j < 16) : (((nI k).toUInt32 >>> ((nI j).toUInt32 &&& Int32.toUInt32 31)).toInt32 &&& 1) = 0 ↔ k.testBit j = false := by
  rw [nx_ush hk (by omega)]
  show nI (k >>> j) &&& nI 1 = 0 ↔ _
  rw [nx_and, Nat.and_one_is_mod, ← nI_0, nI_eq (by omega) (by omega), Nat.testBit_eq_decide_div_mod_eq, Nat.shiftRight_eq_div_pow, decide_eq_false_iff_not]
  generalize k / 2 ^ j = z
  omega
theorem nx_mod (k : Nat) : nI k &&& 65535 = nI (k % 65536) := by
  show nI k &&& nI 65535 = _
  rw [nx_and, show (65535 : Nat) = 2 ^ 16 - 1 from rfl, Nat.and_two_pow_sub_one_eq_mod]
theorem nx_m16 {k : Nat} (h : k < 65536) : nI k &&& 65535 = nI k := by rw [nx_mod, Nat.mod_eq_of_lt h]
theorem nx_mask (x : Int32) : ∃ k, k < 65536 ∧ x &&& 65535 = nI k := by
  have e : x = nI x.toBitVec.toNat := by
    apply Int32.toBitVec_inj.1
    show x.toBitVec = BitVec.ofNat 32 x.toBitVec.toNat
    simp
  refine ⟨x.toBitVec.toNat % 65536, Nat.mod_lt _ (by omega), ?_⟩
  rw [← nx_mod, ← e]
/-! ===== Int32 as a set of bits: test, set ===== -/
def nf_M (m : Int32) : Nat := 4294967296 - m.toBitVec.toNat
theorem nf_sh : ∀ l, l < 32 → ((1 : Int32) <<< (nI l &&& 31)).toBitVec = BitVec.twoPow 32 l := by decide +kernel
theorem nf_sl : ∀ l, l < 32 → (((nI l).toUInt32 &&& Int32.toUInt32 31).toBitVec % 32).toNat = l := by decide +kernel
theorem nf_tp : ∀ l, l < 32 → BitVec.twoPow 32 l ≠ 0#32 := by decide +kernel
theorem nf_bit (m : Int32) (l : Nat) (hl : l < 32) : ((m.toUInt32 >>> ((nI l).toUInt32 &&& Int32.toUInt32 31)).toInt32 &&& 1) = 0 ↔ (m &&& ((1 : Int32) <<< (nI l &&& 31))) = 0 := by
  have e : ((m.toUInt32 >>> ((nI l).toUInt32 &&& Int32.toUInt32 31)).toInt32).toBitVec = m.toBitVec >>> l := by
    show m.toBitVec >>> (((nI l).toUInt32 &&& Int32.toUInt32 31).toBitVec % 32) = m.toBitVec >>> l
    rw [BitVec.ushiftRight_eq', nf_sl l hl]
  rw [← Int32.toBitVec_inj, ← Int32.toBitVec_inj, Int32.toBitVec_and, Int32.toBitVec_and, nf_sh l hl, e, BitVec.and_twoPow]
  show (m.toBitVec >>> l &&& 1#32) = 0#32 ↔ _ = 0#32
  rw [BitVec.and_one_eq_setWidth_ofBool_getLsbD, BitVec.getLsbD_ushiftRight, Nat.add_zero]
  cases hb : m.toBitVec.getLsbD l
  · exact ⟨fun _ => by simp, fun _ => by decide⟩
  · exact ⟨fun z => absurd z (by decide), fun z => absurd ((if_pos rfl).symm.trans z) (nf_tp l hl)⟩
theorem nf_gr (m k : Int32) (h : m &&& k = 0) (hk : k ≠ 0) : nf_M (m ||| k) < nf_M m := by
  have hm := m.toBitVec.isLt
  have hm' := (m ||| k).toBitVec.isLt
  have h1 : m.toBitVec.toNat ≤ (m ||| k).toBitVec.toNat := by
    rw [Int32.toBitVec_or, BitVec.toNat_or]
    exact Nat.left_le_or
  have h2 : m.toBitVec.toNat ≠ (m ||| k).toBitVec.toNat := by
    intro e
    have e2 : m = m ||| k := Int32.toBitVec_inj.mp (BitVec.eq_of_toNat_eq e)
    apply hk
    apply Int32.toBitVec_inj.mp
    show k.toBitVec = 0#32
    apply BitVec.eq_of_getLsbD_eq
    intro i hi
    have a : m.toBitVec.getLsbD i = (m.toBitVec.getLsbD i || k.toBitVec.getLsbD i) := by rw [← BitVec.getLsbD_or, ← Int32.toBitVec_or, ← e2]
    have b : (m.toBitVec.getLsbD i && k.toBitVec.getLsbD i) = false := by
      rw [← BitVec.getLsbD_and, ← Int32.toBitVec_and, h]
      exact BitVec.getLsbD_zero
    rw [BitVec.getLsbD_zero]
    revert a b
    cases m.toBitVec.getLsbD i <;> cases k.toBitVec.getLsbD i <;> simp
  unfold nf_M
  omega
/-! ===== a byte read unsigned ===== -/
theorem bp_b (x : Int32) : x.toInt8.toInt32 &&& 255 = x &&& 255 := by
  apply Int32.toBitVec_inj.mp
  rw [Int32.toBitVec_and, Int32.toBitVec_and, Int8.toBitVec_toInt32, Int32.toBitVec_toInt8]
  apply BitVec.eq_of_getLsbD_eq
  intro i hi
  rw [BitVec.getLsbD_and, BitVec.getLsbD_and]
  have hm : ∀ i < 32, 8 ≤ i → (255 : Int32).toBitVec.getLsbD i = false := by decide
  rcases Nat.lt_or_ge i 8 with z | z
  · rw [BitVec.getLsbD_signExtend, BitVec.getLsbD_signExtend, if_pos z, if_pos hi]
    simp only [z, hi, decide_true, Bool.true_and]
  · rw [hm i hi z]; simp
/-! ===== the char cast and 65535 ===== -/
theorem em_w (v : Int32) : ∃ w : Nat, w < 65536 ∧ (v.toUInt32 % 65536).toInt32 = nI w ∧ v &&& 65535 = nI w := by
  have hr := lw_u16_r v
  have h0 : (0 : Int32).toInt = 0 := by decide
  obtain ⟨w, h1, h2⟩ := nI_of (x := lw_u16 v) (by rw [Int32.lt_iff_toInt_lt]; omega)
  have h3 : (v.toUInt32 % 65536).toInt32 = nI w := h2
  rw [h2, nI_toInt h1] at hr
  exact ⟨w, by omega, h3, by rw [← lg_i2c_mask, ← lg_i2c_nf, h3]⟩
/-! ===== Int64 as a set of bits: test, set, clear ===== -/
theorem ts_nf {x : Bool} (h : ¬ x = false) : x = true := by cases x <;> first | rfl | exact absurd rfl h
theorem ts_nt {x : Bool} (h : ¬ x = true) : x = false := by cases x <;> first | rfl | exact absurd rfl h
theorem ts_bit {w : Int64} {s : UInt64} {j : Nat} (hj : j < 64) (hs : s.toNat = j) : ((w.toUInt64 >>> s).toInt64 &&& 1) = 0 ↔ w.toBitVec.getLsbD j = false := by
  have e : (w.toUInt64 >>> s).toInt64.toBitVec = w.toBitVec >>> j := by
    apply BitVec.eq_of_toNat_eq
    show (w.toUInt64 >>> s).toNat = _
    rw [UInt64.toNat_shiftRight, hs, Nat.mod_eq_of_lt hj, BitVec.toNat_ushiftRight]
    rfl
  rw [← Int64.toBitVec_inj, Int64.toBitVec_and, e]
  show w.toBitVec >>> j &&& 1#64 = 0#64 ↔ _
  constructor
  · intro h
    have t := congrArg (fun x => x.getLsbD 0) h
    simpa using t
  · intro h
    apply BitVec.eq_of_getLsbD_eq
    intro i hi
    cases i with
    | zero => simp [h]
    | succ i => simp
theorem ts_or {w m : Int64} {j : Nat} (hj : j < 64) (hm : m.toBitVec = BitVec.twoPow 64 j) : (w ||| m) = w ↔ w.toBitVec.getLsbD j = true := by
  rw [← Int64.toBitVec_inj, Int64.toBitVec_or, hm]
  constructor
  · intro h
    have t := congrArg (fun x => x.getLsbD j) h
    simp only [BitVec.getLsbD_or, BitVec.getLsbD_twoPow] at t
    simpa [hj] using t.symm
  · intro h
    apply BitVec.eq_of_getLsbD_eq
    intro i hi
    rw [BitVec.getLsbD_or, BitVec.getLsbD_twoPow]
    by_cases e : j = i
    · subst e; rw [h, Bool.true_or]
    · simp [e]
theorem ts_and {w m : Int64} {j : Nat} (hj : j < 64) (hm : m.toBitVec = BitVec.twoPow 64 j) : (w &&& (m ^^^ (-1))) = w ↔ w.toBitVec.getLsbD j = false := by
  have ha : (-1 : Int64).toBitVec = BitVec.allOnes 64 := by decide
  rw [← Int64.toBitVec_inj, Int64.toBitVec_and, Int64.toBitVec_xor, hm, ha]
  constructor
  · intro h
    have t := congrArg (fun x => x.getLsbD j) h
    simp only [BitVec.getLsbD_and, BitVec.getLsbD_xor, BitVec.getLsbD_twoPow, BitVec.getLsbD_allOnes] at t
    simpa [hj] using t.symm
  · intro h
    apply BitVec.eq_of_getLsbD_eq
    intro i hi
    rw [BitVec.getLsbD_and, BitVec.getLsbD_xor, BitVec.getLsbD_twoPow, BitVec.getLsbD_allOnes]
    by_cases e : j = i
    · subst e; rw [h, Bool.false_and]
    · simp [e, hi]
/-! ===== lN n to 2^64: shifts, and, or, masks, one bit ===== -/
theorem wb_tb (n : Nat) : (lN n).toBitVec = BitVec.ofNat 64 n := rfl
theorem wb_inj {a b : Int64} (h : a.toBitVec = b.toBitVec) : a = b := Int64.toBitVec_inj.mp h
theorem wb_tn {n : Nat} (h : n < 2 ^ 64) : (lN n).toBitVec.toNat = n := by rw [wb_tb, BitVec.toNat_ofNat, Nat.mod_eq_of_lt h]
theorem wb_of (x : Int64) : ∃ n, n < 2 ^ 64 ∧ x = lN n := ⟨x.toBitVec.toNat, x.toBitVec.isLt, wb_inj (by rw [wb_tb]; simp)⟩
theorem wb_of32 (x : Int32) : ∃ n, n < 2 ^ 32 ∧ x = nI n := ⟨x.toBitVec.toNat, x.toBitVec.isLt, Int32.toBitVec_inj.mp (by show _ = BitVec.ofNat 32 _; simp)⟩
theorem wb_c : ∀ k, k < 64 → ((nI k).toInt64 &&& 63) = lN k := by decide +kernel
theorem wb_cu : ∀ k, k < 64 → ((nI k).toInt64.toUInt64 &&& Int64.toUInt64 63) = UInt64.ofNat k := by decide +kernel
theorem wb_sm : ∀ k, k < 64 → (BitVec.ofNat 64 k).smod 64 = BitVec.ofNat 64 k := by decide +kernel
theorem wb_pw {a b : Nat} (h : a ≤ b) : 2 ^ b = 2 ^ a * 2 ^ (b - a) := by rw [← Nat.pow_add]; congr 1; omega
theorem wb_lt2 {a b : Nat} (h : a < b) : 2 ^ a < 2 ^ b := Nat.pow_lt_pow_right (by decide) h
theorem wb_mod (n : Nat) : lN n = lN (n % 2 ^ 64) := wb_inj (by rw [wb_tb, wb_tb]; apply BitVec.eq_of_toNat_eq; rw [BitVec.toNat_ofNat, BitVec.toNat_ofNat, Nat.mod_mod])
theorem wb_shr {n k : Nat} (hn : n < 2 ^ 64) (hk : k < 64) : ((lN n).toUInt64 >>> ((nI k).toInt64.toUInt64 &&& Int64.toUInt64 63)).toInt64 = lN (n / 2 ^ k) := by
  rw [wb_cu k hk]
  apply wb_inj
  apply BitVec.eq_of_toNat_eq
  show ((lN n).toUInt64 >>> UInt64.ofNat k).toNat = (BitVec.ofNat 64 _).toNat
  have h1 : (UInt64.ofNat k).toNat = k := by
    show (BitVec.ofNat 64 k).toNat = k
    rw [BitVec.toNat_ofNat, Nat.mod_eq_of_lt (by omega)]
  have h2 : (lN n).toUInt64.toNat = n := wb_tn hn
  rw [UInt64.toNat_shiftRight, h1, h2, Nat.mod_eq_of_lt hk, Nat.shiftRight_eq_div_pow, BitVec.toNat_ofNat, Nat.mod_eq_of_lt (Nat.lt_of_le_of_lt (Nat.div_le_self _ _) hn)]
theorem wb_shl (n : Nat) {k : Nat} (hk : k < 64) : lN n <<< ((nI k).toInt64 &&& 63) = lN (n * 2 ^ k) := by
  rw [wb_c k hk]
  apply wb_inj
  rw [Int64.toBitVec_shiftLeft, wb_tb, wb_tb, wb_tb, wb_sm k hk]
  apply BitVec.eq_of_toNat_eq
  rw [BitVec.shiftLeft_eq', BitVec.toNat_shiftLeft, BitVec.toNat_ofNat, BitVec.toNat_ofNat, BitVec.toNat_ofNat, Nat.mod_eq_of_lt (show k < 2 ^ 64 by omega), Nat.shiftLeft_eq, Nat.mul_mod, Nat.mod_mod, ← Nat.mul_mod]
theorem wb_and {a b : Nat} (ha : a < 2 ^ 64) (hb : b < 2 ^ 64) : lN a &&& lN b = lN (a &&& b) := by
  apply wb_inj
  rw [Int64.toBitVec_and, wb_tb, wb_tb, wb_tb]
  apply BitVec.eq_of_toNat_eq
  rw [BitVec.toNat_and, BitVec.toNat_ofNat, BitVec.toNat_ofNat, BitVec.toNat_ofNat, Nat.mod_eq_of_lt ha, Nat.mod_eq_of_lt hb, Nat.mod_eq_of_lt (Nat.and_lt_two_pow _ hb)]
theorem wb_or {a b : Nat} (ha : a < 2 ^ 64) (hb : b < 2 ^ 64) : lN a ||| lN b = lN (a ||| b) := by
  apply wb_inj
  rw [Int64.toBitVec_or, wb_tb, wb_tb, wb_tb]
  apply BitVec.eq_of_toNat_eq
  rw [BitVec.toNat_or, BitVec.toNat_ofNat, BitVec.toNat_ofNat, BitVec.toNat_ofNat, Nat.mod_eq_of_lt ha, Nat.mod_eq_of_lt hb, Nat.mod_eq_of_lt (Nat.or_lt_two_pow ha hb)]
theorem wb_mask {n k : Nat} (hn : n < 2 ^ 64) (hk : k < 64) : lN n &&& lN (2 ^ k - 1) = lN (n % 2 ^ k) := by
  rw [wb_and hn (by have := wb_lt2 hk; omega), Nat.and_two_pow_sub_one_eq_mod]
theorem wb_a1 {n : Nat} (hn : n < 2 ^ 64) : lN n &&& 1 = lN (n % 2) := wb_mask (k := 1) hn (by decide)
theorem wb_bit {n k : Nat} (hn : n < 2 ^ 64) (hk : k < 64) : ((lN n).toUInt64 >>> ((nI k).toInt64.toUInt64 &&& Int64.toUInt64 63)).toInt64 &&& 1 = lN (n / 2 ^ k % 2) := by
  rw [wb_shr hn hk, wb_a1 (Nat.lt_of_le_of_lt (Nat.div_le_self _ _) hn)]
theorem wb_xor {q k : Nat} (hk : k < 63) (h : 2 ^ k ≤ q) (h2 : q < 2 ^ (k + 1)) : lN q ^^^ lN (2 ^ k) = lN (q - 2 ^ k) := by
  obtain ⟨r, rfl⟩ : ∃ r, q = 2 ^ k + r := ⟨q - 2 ^ k, by omega⟩
  have hr : r < 2 ^ k := by rw [Nat.pow_succ] at h2; omega
  have hx : (2 ^ k + r) ^^^ 2 ^ k = r := by
    apply Nat.eq_of_testBit_eq
    intro i
    rw [Nat.testBit_xor, Nat.testBit_two_pow]
    rcases Nat.lt_trichotomy i k with h | h | h
    · rw [Nat.testBit_two_pow_add_gt h]
      simp [show ¬ k = i by omega]
    · subst h
      rw [Nat.testBit_two_pow_add_eq]
      simp
    · have a1 : 2 ^ (k + 1) ≤ 2 ^ i := Nat.pow_le_pow_right (by decide) h
      rw [Nat.testBit_lt_two_pow (show 2 ^ k + r < 2 ^ i by omega), Nat.testBit_lt_two_pow (show r < 2 ^ i by omega)]
      simp [show ¬ k = i by omega]
  have b1 := wb_lt2 (show k + 1 < 64 by omega)
  have b2 := wb_lt2 (show k < 64 by omega)
  apply wb_inj
  rw [Int64.toBitVec_xor, wb_tb, wb_tb, wb_tb]
  apply BitVec.eq_of_toNat_eq
  rw [BitVec.toNat_xor, BitVec.toNat_ofNat, BitVec.toNat_ofNat, BitVec.toNat_ofNat, Nat.mod_eq_of_lt (by omega : 2 ^ k + r < 2 ^ 64), Nat.mod_eq_of_lt b2, hx, Nat.add_sub_cancel_left, Nat.mod_eq_of_lt (by omega)]
/-! ===== lN: masks, 'or' of parts that don't overlap is a sum ===== -/
theorem u_tn {n : Nat} (h : n < 2 ^ 64) : (UInt64.ofNat n).toNat = n := Nat.mod_eq_of_lt h
theorem g_and {a b c : Nat} (ha : a < 2 ^ 64) (hb : b < 2 ^ 64) (hc : a &&& b = c) : lN a &&& lN b = lN c := by
  subst hc
  have h : UInt64.ofNat a &&& UInt64.ofNat b = UInt64.ofNat (a &&& b) := UInt64.toNat_inj.mp (by rw [UInt64.toNat_and, u_tn ha, u_tn hb, u_tn (Nat.and_lt_two_pow a hb)])
  have h2 := congrArg UInt64.toInt64 h
  exact h2
theorem g_and1 {a : Nat} (ha : a < 2 ^ 64) : lN a &&& 1 = lN (a % 2) := g_and (b := 1) ha (by decide) (Nat.and_two_pow_sub_one_eq_mod a 1)
theorem g_mask {a s p : Nat} (hp : 2 ^ s = p) (hs : s < 64) (ha : a < 2 ^ 64) : lN a &&& lN (p - 1) = lN (a % p) := by
  subst hp
  have := Nat.pow_lt_pow_right (show 1 < 2 by decide) hs
  exact g_and ha (by omega) (Nat.and_two_pow_sub_one_eq_mod a s)
theorem g_or {k p a b : Nat} (hp : 2 ^ k = p) (ha : a < p) (h : b * p + a < 2 ^ 64) : lN (b * p) ||| lN a = lN (b * p + a) := by
  subst hp
  have h1 : b * 2 ^ k ||| a = b * 2 ^ k + a := by rw [← Nat.shiftLeft_eq, Nat.shiftLeft_add_eq_or_of_lt ha]
  have h3 : UInt64.ofNat (b * 2 ^ k) ||| UInt64.ofNat a = UInt64.ofNat (b * 2 ^ k + a) := UInt64.toNat_inj.mp (by rw [UInt64.toNat_or, u_tn (by omega), u_tn (by omega), u_tn h, h1])
  have h2 := congrArg UInt64.toInt64 h3
  exact h2
theorem g_or' {k p a b : Nat} (hp : 2 ^ k = p) (ha : a < p) (h : a + b * p < 2 ^ 64) : lN a ||| lN (b * p) = lN (a + b * p) := by
  rw [Int64.or_comm, g_or hp ha (by omega), Nat.add_comm]
theorem g_ushr {a k p : Nat} {y : UInt64} (hy : y = UInt64.ofNat k) (hk : k < 64) (hp : 2 ^ k = p) (ha : a < 2 ^ 64) : ((lN a).toUInt64 >>> y).toInt64 = lN (a / p) := by
  subst hy hp
  have h : UInt64.ofNat a >>> UInt64.ofNat k = UInt64.ofNat (a / 2 ^ k) := UInt64.toNat_inj.mp (by rw [UInt64.toNat_shiftRight, u_tn ha, u_tn (by omega), u_tn (Nat.lt_of_le_of_lt (Nat.div_le_self _ _) ha), Nat.mod_eq_of_lt hk, Nat.shiftRight_eq_div_pow])
  have h2 := congrArg UInt64.toInt64 h
  exact h2
theorem g_shl {a k p : Nat} {y : Int64} (hy : y.toBitVec.smod 64 = BitVec.ofNat 64 k) (hk : k < 64) (hp : 2 ^ k = p) (ha : a < 2 ^ 64) : lN a <<< y = lN (a * p) := by
  subst hp
  apply Int64.toBitVec_inj.mp
  rw [Int64.toBitVec_shiftLeft, hy]
  apply BitVec.eq_of_toNat_eq
  have hb : (lN a).toBitVec.toNat = a := Nat.mod_eq_of_lt ha
  have hk' : (BitVec.ofNat 64 k).toNat = k := Nat.mod_eq_of_lt (by omega)
  have h : ((lN a).toBitVec <<< BitVec.ofNat 64 k).toNat = (a * 2 ^ k) % 2 ^ 64 := by simp only [BitVec.shiftLeft_eq', BitVec.toNat_shiftLeft, hb, hk', Nat.shiftLeft_eq]
  exact h
/-! ===== lN to 2^62 under >> and >>> ===== -/
theorem pf_lI {a : Nat} (h : a < 2 ^ 63) : (lN a).toInt = (a : Int) := lg_ofNat_toInt h
theorem pf_shr {a d : Nat} {D : Int64} (hD : (D.toBitVec.smod 64).toNat = d) (h : a < 2 ^ 62) : lN a >>> D = lN (a / 2 ^ d) := by
  have hd : a / 2 ^ d ≤ a := Nat.div_le_self _ _
  apply Int64.toInt_inj.mp
  have e : (lN a >>> D).toInt = (lN a).toInt >>> d := by
    rw [← hD]
    exact BitVec.toInt_sshiftRight ..
  rw [e, Int.shiftRight_eq_div_pow, pf_lI (by omega), pf_lI (by omega)]
  rfl
theorem pf_ushr {a d : Nat} {D : UInt64} (hD : D.toNat % 64 = d) (h : a < 2 ^ 62) : ((lN a).toUInt64 >>> D).toInt64 = lN (a / 2 ^ d) := by
  have hd : a / 2 ^ d ≤ a := Nat.div_le_self _ _
  have e : (lN a).toUInt64 >>> D = UInt64.ofNat (a / 2 ^ d) := UInt64.toNat_inj.mp (by
    rw [UInt64.toNat_shiftRight, hD, Nat.shiftRight_eq_div_pow, UInt64.toNat_ofNat']
    show (UInt64.ofNat a).toNat / 2 ^ d = _
    rw [UInt64.toNat_ofNat', Nat.mod_eq_of_lt (by omega), Nat.mod_eq_of_lt (by omega)])
  rw [e]
  rfl
theorem pf_andw (x : Int64) : ∃ m, m < 2 ^ 32 ∧ x &&& 4294967295 = lN m := ⟨x.toBitVec.toNat % 2 ^ 32, Nat.mod_lt _ (by decide), Int64.toBitVec_inj.mp (BitVec.eq_of_toNat_eq (by
  show (x.toBitVec &&& 4294967295#64).toNat = (BitVec.ofNat 64 (x.toBitVec.toNat % 2 ^ 32)).toNat
  rw [BitVec.toNat_and, show (4294967295#64).toNat = 2 ^ 32 - 1 from by decide, Nat.and_two_pow_sub_one_eq_mod, BitVec.toNat_ofNat]
  omega))⟩
/-! ===== Int64 as an unsigned number: uN x ===== -/
def uN (x : Int64) : Nat := x.toUInt64.toNat
theorem uN_lt (x : Int64) : uN x < 18446744073709551616 := x.toUInt64.toNat_lt
theorem uN_inj {x y : Int64} (h : uN x = uN y) : x = y := congrArg UInt64.toInt64 (UInt64.toNat_inj.mp h)
theorem uN_add (x y : Int64) : uN (x + y) = (uN x + uN y) % 18446744073709551616 := by
  show (x.toUInt64 + y.toUInt64).toNat = _
  exact UInt64.toNat_add _ _
theorem uN_mul (x y : Int64) : uN (x * y) = (uN x * uN y) % 18446744073709551616 := by
  show (x.toUInt64 * y.toUInt64).toNat = _
  exact UInt64.toNat_mul _ _
theorem uN_shl (x : Int64) : uN (x <<< ((1 : Int32).toInt64 &&& 63)) = (2 * uN x) % 18446744073709551616 := by
  have h : (((1 : Int32).toInt64 &&& 63).toBitVec.smod 64).toNat = 1 := by decide
  show (x.toBitVec <<< (((1 : Int32).toInt64 &&& 63).toBitVec.smod 64).toNat).toNat = _
  rw [h, BitVec.toNat_shiftLeft, Nat.shiftLeft_eq, Nat.mul_comm]
  rfl
theorem uN_shr (x : Int64) (s : UInt64) : uN (x.toUInt64 >>> s).toInt64 = uN x / 2 ^ (s.toNat % 64) := by
  show (x.toUInt64 >>> s).toNat = _
  rw [UInt64.toNat_shiftRight, Nat.shiftRight_eq_div_pow]
  rfl
theorem uN_s32 (x : Int64) : uN (x.toUInt64 >>> ((32 : Int32).toInt64.toUInt64 &&& Int64.toUInt64 63)).toInt64 = uN x / 4294967296 := by
  have h : ((32 : Int32).toInt64.toUInt64 &&& Int64.toUInt64 63).toNat % 64 = 32 := by decide
  rw [uN_shr, h]
theorem uN_s63 (x : Int64) : uN (x.toUInt64 >>> ((63 : Int32).toInt64.toUInt64 &&& Int64.toUInt64 63)).toInt64 = uN x / 9223372036854775808 := by
  have h : ((63 : Int32).toInt64.toUInt64 &&& Int64.toUInt64 63).toNat % 64 = 63 := by decide
  rw [uN_shr, h]
theorem uN_lo (x : Int64) : uN (x &&& 4294967295) = uN x % 4294967296 := by
  show (x.toUInt64 &&& Int64.toUInt64 4294967295).toNat = _
  rw [UInt64.toNat_and]
  exact Nat.and_two_pow_sub_one_eq_mod _ 32
theorem uN_bit (x : Int64) : (x &&& 1) = 0 ↔ uN x % 2 = 0 := by
  have h : uN (x &&& 1) = uN x % 2 := by
    show (x.toUInt64 &&& Int64.toUInt64 1).toNat = _
    rw [UInt64.toNat_and]
    exact Nat.and_two_pow_sub_one_eq_mod _ 1
  rw [← h]
  exact ⟨fun z => by rw [z]; rfl, fun z => uN_inj (z.trans rfl)⟩
theorem uN_or {x y : Int64} (hy : uN y < 2) : uN ((x <<< ((1 : Int32).toInt64 &&& 63)) ||| y) = (2 * uN x) % 18446744073709551616 + uN y := by
  have h1 : uN ((x <<< ((1 : Int32).toInt64 &&& 63)) ||| y) = uN (x <<< ((1 : Int32).toInt64 &&& 63)) ||| uN y := UInt64.toNat_or _ _
  have h2 : (2 * uN x) % 18446744073709551616 = 2 ^ 1 * (uN x % 9223372036854775808) := by omega
  rw [h1, uN_shl, h2]
  exact (Nat.two_pow_add_eq_or_of_lt (i := 1) hy _).symm
theorem nat_xor {a : Nat} (h : a < 18446744073709551616) : a ^^^ 2 ^ 63 = (a + 9223372036854775808) % 18446744073709551616 := by
  have h1 : (a ^^^ 2 ^ 63) % 2 ^ 63 = a % 2 ^ 63 := by rw [Nat.xor_mod_two_pow, Nat.mod_self, Nat.xor_zero]
  have h2 : (a ^^^ 2 ^ 63) / 2 ^ 63 = (a / 2 ^ 63) ^^^ 1 := by rw [Nat.xor_div_two_pow, Nat.div_self (Nat.two_pow_pos 63)]
  have h3 : a / 2 ^ 63 = 0 ∨ a / 2 ^ 63 = 1 := by omega
  generalize a ^^^ 2 ^ 63 = t at h1 h2
  rcases h3 with h3 | h3
  · rw [h3] at h2
    have h2 : t / 2 ^ 63 = 1 := h2
    omega
  · rw [h3] at h2
    have h2 : t / 2 ^ 63 = 0 := h2
    omega
theorem uN_xor (x : Int64) : uN (x ^^^ (-9223372036854775808)) = (uN x + 9223372036854775808) % 18446744073709551616 := by
  rw [← nat_xor (uN_lt x)]
  exact UInt64.toNat_xor _ _
theorem uN_int (x : Int64) : x.toInt = if 2 * uN x < 18446744073709551616 then (uN x : Int) else (uN x : Int) - 18446744073709551616 := BitVec.toInt_eq_toNat_cond _
theorem uN_le (x y : Int64) : (x ^^^ (-9223372036854775808)) ≤ (y ^^^ (-9223372036854775808)) ↔ uN x ≤ uN y := by
  have hx := uN_lt x
  have hy := uN_lt y
  rw [Int64.le_iff_toInt_le, uN_int, uN_int, uN_xor, uN_xor]
  omega
theorem uN_sk (x : Int64) {k : Nat} (hk : k < 64) : uN (x.toUInt64 >>> ((nI k).toInt64.toUInt64 &&& Int64.toUInt64 63)).toInt64 = uN x / 2 ^ k := by
  have h : ((nI k).toInt64.toUInt64 &&& Int64.toUInt64 63).toNat % 64 = k := by
    rw [nI_l (by omega), UInt64.toNat_and]
    have e : (lN k).toUInt64.toNat = k % 2 ^ 64 := rfl
    have e2 : (Int64.toUInt64 63).toNat = 2 ^ 6 - 1 := by decide
    rw [e, e2, Nat.and_two_pow_sub_one_eq_mod]
    omega
  rw [uN_shr, h]
/-! ===== unsigned comparison by xor with the least ===== -/
theorem lN_bv (n : Nat) : (lN n).toBitVec = BitVec.ofNat 64 n := rfl
theorem lN_nat {n : Nat} (h : n < 2 ^ 64) : (lN n).toBitVec.toNat = n := by rw [lN_bv, BitVec.toNat_ofNat]; exact Nat.mod_eq_of_lt h
theorem lN_xor (a b : Nat) : lN a ^^^ lN b = lN (a ^^^ b) := by
  apply Int64.toBitVec_inj.mp; rw [Int64.toBitVec_xor, lN_bv, lN_bv, lN_bv]; apply BitVec.eq_of_getLsbD_eq; intro i hi; simp [BitVec.getLsbD_ofNat, Nat.testBit_xor, hi]
theorem lN_ti {m : Nat} (h : m < 2 ^ 64) : (lN m).toInt = if m < 2 ^ 63 then (m : Int) else (m : Int) - 2 ^ 64 := by
  have c := BitVec.toInt_eq_toNat_cond (lN m).toBitVec
  rw [lN_nat h] at c
  show (lN m).toBitVec.toInt = _
  rw [c]
  split <;> split <;> omega
theorem xor63 {x : Nat} (h : x < 2 ^ 63) : x ^^^ 2 ^ 63 = 2 ^ 63 + x := by
  apply Nat.eq_of_testBit_eq
  intro i
  rw [Nat.testBit_xor, Nat.testBit_two_pow]
  rcases Nat.lt_trichotomy i 63 with z | z | z
  · rw [Nat.testBit_two_pow_add_gt z, decide_eq_false (by omega)]; simp
  · subst z; rw [Nat.testBit_two_pow_add_eq]; simp
  · have hp : 2 ^ 64 ≤ 2 ^ i := Nat.pow_le_pow_right (by decide) z
    rw [Nat.testBit_lt_two_pow (show x < 2 ^ i by omega), Nat.testBit_lt_two_pow (show 2 ^ 63 + x < 2 ^ i by omega), decide_eq_false (by omega)]; rfl
theorem xorS {a : Nat} (h : a < 2 ^ 64) : (lN a ^^^ (-9223372036854775808)).toInt = (a : Int) - 2 ^ 63 := by
  rw [show (-9223372036854775808 : Int64) = lN (2 ^ 63) from by decide +kernel, lN_xor]
  rcases Nat.lt_or_ge a (2 ^ 63) with z | z
  · rw [xor63 z, lN_ti (by omega), if_neg (by omega)]; omega
  · obtain ⟨x, rfl⟩ : ∃ x, a = 2 ^ 63 + x := ⟨a - 2 ^ 63, by omega⟩
    rw [← xor63 (by omega), Nat.xor_assoc, Nat.xor_self, Nat.xor_zero, lN_ti (by omega), if_pos (by omega), xor63 (by omega)]; omega
theorem ultL {a b : Nat} (ha : a < 2 ^ 64) (hb : b < 2 ^ 64) : ((lN b ^^^ (-9223372036854775808)) ≤ (lN a ^^^ (-9223372036854775808))) ↔ b ≤ a := by
  rw [Int64.le_iff_toInt_le, xorS ha, xorS hb]; omega
/-! ===== Int64 masks of n low bits ===== -/
theorem cr_bits (W U M : BitVec 64) : ((W &&& U) &&& (U &&& (M ^^^ BitVec.allOnes 64))) = 0#64 ↔ (W &&& U) &&& M = W &&& U := by
  constructor
  · intro h
    apply BitVec.eq_of_getLsbD_eq
    intro i hi
    have e := congrArg (fun x => BitVec.getLsbD x i) h
    simp only [BitVec.getLsbD_and, BitVec.getLsbD_xor, BitVec.getLsbD_allOnes, BitVec.getLsbD_zero, hi, decide_true] at e ⊢
    revert e
    cases W.getLsbD i <;> cases U.getLsbD i <;> cases M.getLsbD i <;> decide
  · intro h
    apply BitVec.eq_of_getLsbD_eq
    intro i hi
    have e := congrArg (fun x => BitVec.getLsbD x i) h
    simp only [BitVec.getLsbD_and, BitVec.getLsbD_xor, BitVec.getLsbD_allOnes, BitVec.getLsbD_zero, hi, decide_true] at e ⊢
    revert e
    cases W.getLsbD i <;> cases U.getLsbD i <;> cases M.getLsbD i <;> decide
theorem cr_mask (w U m : Int64) (n : Nat) (hm : m.toBitVec.toNat = 2 ^ n - 1) : ((w &&& U) &&& (U &&& (m ^^^ (-1)))) = 0 ↔ (w &&& U).toBitVec.toNat < 2 ^ n := by
  have e0 : (-1 : Int64).toBitVec = BitVec.allOnes 64 := by decide
  have z0 : (0 : Int64).toBitVec = 0#64 := by decide
  rw [← Int64.toBitVec_inj, z0, Int64.toBitVec_and, Int64.toBitVec_and, Int64.toBitVec_and, Int64.toBitVec_xor, e0, cr_bits]
  generalize w.toBitVec &&& U.toBitVec = T
  rw [← BitVec.toNat_inj, BitVec.toNat_and, hm, Nat.and_two_pow_sub_one_eq_mod]
  constructor
  · intro h
    have t := Nat.mod_lt T.toNat (Nat.two_pow_pos n)
    rw [h] at t
    exact t
  · exact Nat.mod_eq_of_lt
theorem cr_shr (t : Int64) (x : UInt64) (n : Nat) (hx : x.toNat % 64 = n) : (t.toUInt64 >>> x).toInt64 = 0 ↔ t.toBitVec.toNat < 2 ^ n := by
  rw [← Int64.toBitVec_inj, ← BitVec.toNat_inj]
  show (t.toUInt64 >>> x).toNat = 0 ↔ t.toUInt64.toNat < 2 ^ n
  rw [UInt64.toNat_shiftRight, hx, Nat.shiftRight_eq_div_pow]
  constructor
  · intro h
    have d : t.toUInt64.toNat / 2 ^ n < 1 := by
      rw [h]
      decide
    have e := (Nat.div_lt_iff_lt_mul (Nat.two_pow_pos n)).mp d
    rw [Nat.one_mul] at e
    exact e
  · exact Nat.div_eq_of_lt
theorem cr_amt (s : Int64) : ∃ n, n < 64 ∧ s &&& 63 = lN n ∧ (s.toUInt64 &&& Int64.toUInt64 63).toNat % 64 = n := by
  have e : (s.toUInt64 &&& Int64.toUInt64 63).toNat = s.toUInt64.toNat % 2 ^ 6 := by
    rw [UInt64.toNat_and, show (Int64.toUInt64 63).toNat = 2 ^ 6 - 1 from by decide, Nat.and_two_pow_sub_one_eq_mod]
  refine ⟨s.toUInt64.toNat % 2 ^ 6, by omega, ?_, by omega⟩
  rw [← Int64.toBitVec_inj, ← BitVec.toNat_inj]
  show (s.toUInt64 &&& Int64.toUInt64 63).toNat = (BitVec.ofNat 64 (s.toUInt64.toNat % 2 ^ 6)).toNat
  rw [e, BitVec.toNat_ofNat]
  omega
end
section
/-! counting: how many of the numbers below n have P -/
noncomputable def kk_b (P : Prop) : Nat := @ite Nat P (Classical.propDecidable P) 1 0
theorem kk_b1 {P : Prop} (h : P) : kk_b P = 1 := if_pos h
theorem kk_b0 {P : Prop} (h : ¬ P) : kk_b P = 0 := if_neg h
noncomputable def kk_cnt (P : Nat → Prop) : Nat → Nat
  | 0 => 0
  | n + 1 => kk_cnt P n + kk_b (P n)
theorem kk_le (P : Nat → Prop) : ∀ n, kk_cnt P n ≤ n := by
  intro n
  induction n with
  | zero => exact Nat.le_refl 0
  | succ n ih =>
    show kk_cnt P n + kk_b (P n) ≤ n + 1
    by_cases h : P n
    · rw [kk_b1 h]; omega
    · rw [kk_b0 h]; omega
theorem kk_mono {P Q : Nat → Prop} : ∀ n, (∀ i, i < n → P i → Q i) → kk_cnt P n ≤ kk_cnt Q n := by
  intro n
  induction n with
  | zero => intro _; exact Nat.le_refl 0
  | succ n ih =>
    intro h
    have h1 := ih (fun i hi => h i (by omega))
    show kk_cnt P n + kk_b (P n) ≤ kk_cnt Q n + kk_b (Q n)
    by_cases hp : P n
    · rw [kk_b1 hp, kk_b1 (h n (by omega) hp)]; omega
    · rw [kk_b0 hp]; omega
theorem kk_lt {P Q : Nat → Prop} : ∀ n, (∀ i, i < n → P i → Q i) → (∃ i, i < n ∧ Q i ∧ ¬ P i) → kk_cnt P n < kk_cnt Q n := by
  intro n
  induction n with
  | zero => intro _ ⟨i, hi, _⟩; omega
  | succ n ih =>
    intro h ⟨i, hi, hq, hp⟩
    show kk_cnt P n + kk_b (P n) < kk_cnt Q n + kk_b (Q n)
    by_cases e : i = n
    · subst e
      have h1 := kk_mono (P := P) (Q := Q) i (fun j hj => h j (by omega))
      rw [kk_b0 hp, kk_b1 hq]; omega
    · have h1 := ih (fun j hj => h j (by omega)) ⟨i, by omega, hq, hp⟩
      by_cases hp2 : P n
      · rw [kk_b1 hp2, kk_b1 (h n (by omega) hp2)]; omega
      · rw [kk_b0 hp2]; omega
/-- a growing chain of subsets of N numbers that stays once it stays is still at stage N -/
theorem kk_stab (N : Nat) (S : Nat → Nat → Prop) (hm : ∀ k A, S k A → S (k + 1) A)
    (hs : ∀ k, (∀ A, A < N → S (k + 1) A → S k A) → ∀ A, A < N → S (k + 2) A → S (k + 1) A) :
    ∀ k A, A < N → S k A → S N A := by
  have hmm : ∀ d k A, S k A → S (k + d) A := by
    intro d
    induction d with
    | zero => intro k A h; exact h
    | succ d ih => intro k A h; exact hm _ _ (ih k A h)
  have hst : ∀ k, (∀ A, A < N → S (k + 1) A → S k A) → ∀ d A, A < N → S (k + d) A → S k A := by
    intro k hk
    have h2 : ∀ d, ∀ A, A < N → S (k + d + 1) A → S (k + d) A := by
      intro d
      induction d with
      | zero => exact hk
      | succ d ih => exact hs (k + d) ih
    intro d
    induction d with
    | zero => intro A _ h; exact h
    | succ d ih => intro A hA h; exact ih A hA (h2 d A hA h)
  by_cases hx : ∃ k, k ≤ N ∧ ∀ A, A < N → S (k + 1) A → S k A
  · obtain ⟨k0, hk0, hk⟩ := hx
    intro k A hA h
    have h1 : S (k0 + k) A := by rw [Nat.add_comm]; exact hmm k0 k A h
    have h2 := hst k0 hk k A hA h1
    have h3 := hmm (N - k0) k0 A h2
    rw [show k0 + (N - k0) = N by omega] at h3
    exact h3
  · exfalso
    have hg : ∀ k, k ≤ N + 1 → k ≤ kk_cnt (S k) N := by
      intro k
      induction k with
      | zero => intro _; omega
      | succ k ih =>
        intro hk
        have h1 := ih (by omega)
        have h2 : kk_cnt (S k) N < kk_cnt (S (k + 1)) N := by
          apply kk_lt N (fun i _ h => hm k i h)
          apply Classical.byContradiction
          intro hn
          apply hx
          refine ⟨k, by omega, ?_⟩
          intro A hA h
          apply Classical.byContradiction
          intro h3
          exact hn ⟨A, hA, h, h3⟩
        omega
    have h1 := hg (N + 1) (by omega)
    have h2 := kk_le (S (N + 1)) N
    omega
/-- finitely many stages have a common one -/
theorem kk_max {Q : Nat → Nat → Prop} (hm : ∀ k i, Q k i → Q (k + 1) i) : ∀ m, (∀ i, i < m → ∃ k, Q k i) → ∃ k, ∀ i, i < m → Q k i := by
  have hmm : ∀ d k A, Q k A → Q (k + d) A := by
    intro d
    induction d with
    | zero => intro k A h; exact h
    | succ d ih => intro k A h; exact hm _ _ (ih k A h)
  intro m
  induction m with
  | zero => intro _; exact ⟨0, fun i hi => absurd hi (by omega)⟩
  | succ m ih =>
    intro h
    obtain ⟨k1, h1⟩ := ih (fun i hi => h i (by omega))
    obtain ⟨k2, h2⟩ := h m (by omega)
    refine ⟨k1 + k2, fun i hi => ?_⟩
    by_cases e : i = m
    · subst e; rw [Nat.add_comm]; exact hmm k1 k2 i h2
    · exact hmm k2 k1 i (h1 i (by omega))

/-! the grammar: number of productions, rule, length, symbol by cell, role by cell, scope -/
abbrev gg_T : Type := Nat × (Nat → Nat) × (Nat → Nat) × (Nat → Nat) × (Nat → Int32) × (Nat → Nat)
def gg_np (G : gg_T) : Nat := G.1
def gg_ru (G : gg_T) (p : Nat) : Nat := G.2.1 p
def gg_ln (G : gg_T) (p : Nat) : Nat := G.2.2.1 p
def gg_sy (G : gg_T) (c : Nat) : Nat := G.2.2.2.1 c
def gg_ro (G : gg_T) (c : Nat) : Int32 := G.2.2.2.2.1 c
def gg_sc (G : gg_T) (p : Nat) : Nat := G.2.2.2.2.2 p
def gg_ok (G : gg_T) : Prop := gg_np G ≤ 14 ∧ (∀ p, gg_ru G p < 6) ∧ (∀ p, gg_ln G p ≤ 4) ∧ (∀ c, gg_sy G c < 16) ∧ (∀ p, gg_sc G p ≤ 1) ∧ (∀ c, gg_sy G c < 10 → ∃ r, r ≤ 3 ∧ gg_ro G c = nI r)
/-- the symbols of production p from number m on -/
def gg_sl (G : gg_T) (p m : Nat) : List Nat := (List.range' m (gg_ln G p - m)).map (fun i => gg_sy G (4 * p + i))
theorem gg_sl_c {G : gg_T} {p m : Nat} (h : m < gg_ln G p) : gg_sl G p m = gg_sy G (4 * p + m) :: gg_sl G p (m + 1) := by
  unfold gg_sl
  rw [show gg_ln G p - m = (gg_ln G p - (m + 1)) + 1 by omega, List.range'_succ, List.map_cons]
theorem gg_sl_n {G : gg_T} {p m : Nat} (h : gg_ln G p ≤ m) : gg_sl G p m = [] := by
  unfold gg_sl
  rw [show gg_ln G p - m = 0 by omega]; rfl
theorem gg_sl_ind {G : gg_T} {p : Nat} {P : Nat → Prop} (h0 : ∀ m, gg_ln G p ≤ m → P m) (hs : ∀ m, m < gg_ln G p → P (m + 1) → P m) : ∀ m, P m := by
  have : ∀ d m, gg_ln G p ≤ m + d → P m := by
    intro d
    induction d with
    | zero => intro m hm; exact h0 m hm
    | succ d ih =>
      intro m hm
      by_cases h : m < gg_ln G p
      · exact hs m h (ih (m + 1) (by omega))
      · exact h0 m (by omega)
  intro m
  exact this (gg_ln G p) m (by omega)

/-- all symbols of the list are rules with N -/
def gg_nl (N : Nat → Prop) : List Nat → Prop
  | [] => True
  | x :: l => (10 ≤ x ∧ N (x - 10)) ∧ gg_nl N l
/-- terminal t begins the list, F saying which rules begin with it, N which are nullable -/
def gg_fl (N F : Nat → Prop) (t : Nat) : List Nat → Prop
  | [] => False
  | x :: l => (t < 10 ∧ x = t) ∨ (10 ≤ x ∧ F (x - 10)) ∨ ((10 ≤ x ∧ N (x - 10)) ∧ gg_fl N F t l)
theorem gg_nl_mono {N M : Nat → Prop} (h : ∀ A, N A → M A) : ∀ l, gg_nl N l → gg_nl M l := by
  intro l
  induction l with
  | nil => intro _; trivial
  | cons x l ih => intro ⟨⟨h1, h2⟩, h3⟩; exact ⟨⟨h1, h _ h2⟩, ih h3⟩
theorem gg_fl_mono {N M F E : Nat → Prop} {t : Nat} (h : ∀ A, N A → M A) (hf : ∀ A, F A → E A) : ∀ l, gg_fl N F t l → gg_fl M E t l := by
  intro l
  induction l with
  | nil => intro h; exact h
  | cons x l ih =>
    intro h1
    rcases h1 with h1 | ⟨h1, h2⟩ | ⟨⟨h1, h2⟩, h3⟩
    · exact Or.inl h1
    · exact Or.inr (Or.inl ⟨h1, hf _ h2⟩)
    · exact Or.inr (Or.inr ⟨⟨h1, h _ h2⟩, ih h3⟩)
theorem gg_nl_app {N : Nat → Prop} : ∀ l1 l2, gg_nl N (l1 ++ l2) ↔ gg_nl N l1 ∧ gg_nl N l2 := by
  intro l1 l2
  induction l1 with
  | nil => exact ⟨fun h => ⟨trivial, h⟩, fun h => h.2⟩
  | cons x l ih => exact ⟨fun ⟨h1, h2⟩ => ⟨⟨h1, (ih.mp h2).1⟩, (ih.mp h2).2⟩, fun ⟨⟨h1, h2⟩, h3⟩ => ⟨h1, ih.mpr ⟨h2, h3⟩⟩⟩
theorem gg_fl_app {N F : Nat → Prop} {t : Nat} : ∀ l1 l2, gg_fl N F t (l1 ++ l2) ↔ gg_fl N F t l1 ∨ (gg_nl N l1 ∧ gg_fl N F t l2) := by
  intro l1 l2
  induction l1 with
  | nil => exact ⟨fun h => Or.inr ⟨trivial, h⟩, fun h => h.elim False.elim (fun h => h.2)⟩
  | cons x l ih =>
    constructor
    · intro h
      rcases h with h | h | ⟨h1, h2⟩
      · exact Or.inl (Or.inl h)
      · exact Or.inl (Or.inr (Or.inl h))
      · rcases ih.mp h2 with h2 | ⟨h2, h3⟩
        · exact Or.inl (Or.inr (Or.inr ⟨h1, h2⟩))
        · exact Or.inr ⟨⟨h1, h2⟩, h3⟩
    · intro h
      rcases h with (h | h | ⟨h1, h2⟩) | ⟨⟨h1, h2⟩, h3⟩
      · exact Or.inl h
      · exact Or.inr (Or.inl h)
      · exact Or.inr (Or.inr ⟨h1, ih.mpr (Or.inl h2)⟩)
      · exact Or.inr (Or.inr ⟨h1, ih.mpr (Or.inr ⟨h2, h3⟩)⟩)

/-! the sets, by stages -/
def gg_sN (G : gg_T) : Nat → Nat → Prop
  | 0, _ => False
  | k + 1, A => ∃ p, p < gg_np G ∧ gg_ru G p = A ∧ gg_nl (gg_sN G k) (gg_sl G p 0)
def gg_Nu (G : gg_T) (A : Nat) : Prop := ∃ k, gg_sN G k A
def gg_sF (G : gg_T) (t : Nat) : Nat → Nat → Prop
  | 0, _ => False
  | k + 1, A => ∃ p, p < gg_np G ∧ gg_ru G p = A ∧ gg_fl (gg_Nu G) (gg_sF G t k) t (gg_sl G p 0)
def gg_Fi (G : gg_T) (t A : Nat) : Prop := ∃ k, gg_sF G t k A
def gg_NL (G : gg_T) : List Nat → Prop := gg_nl (gg_Nu G)
def gg_FL (G : gg_T) (t : Nat) : List Nat → Prop := gg_fl (gg_Nu G) (gg_Fi G t) t
def gg_sW (G : gg_T) (t : Nat) : Nat → Nat → Prop
  | 0, _ => False
  | k + 1, A => (A = 0 ∧ t = 10) ∨ ∃ p m, p < gg_np G ∧ m < gg_ln G p ∧ gg_sy G (4 * p + m) = A + 10 ∧ (gg_FL G t (gg_sl G p (m + 1)) ∨ (gg_NL G (gg_sl G p (m + 1)) ∧ gg_sW G t k (gg_ru G p)))
def gg_Fo (G : gg_T) (t A : Nat) : Prop := ∃ k, gg_sW G t k A
/-- all rules of the list have P (terminals are free) -/
def gg_pl (P : Nat → Prop) : List Nat → Prop
  | [] => True
  | x :: l => (10 ≤ x → P (x - 10)) ∧ gg_pl P l
theorem gg_pl_mono {N M : Nat → Prop} (h : ∀ A, N A → M A) : ∀ l, gg_pl N l → gg_pl M l := by
  intro l
  induction l with
  | nil => intro _; trivial
  | cons x l ih => intro ⟨h1, h3⟩; exact ⟨fun hx => h _ (h1 hx), ih h3⟩
def gg_sP (G : gg_T) : Nat → Nat → Prop
  | 0, _ => False
  | k + 1, A => ∃ p, p < gg_np G ∧ gg_ru G p = A ∧ gg_pl (gg_sP G k) (gg_sl G p 0)
def gg_Pr (G : gg_T) (A : Nat) : Prop := ∃ k, gg_sP G k A
def gg_Pd (G : gg_T) (t p : Nat) : Prop := gg_FL G t (gg_sl G p 0) ∨ (gg_NL G (gg_sl G p 0) ∧ gg_Fo G t (gg_ru G p))
def gg_Ch (G : gg_T) (t A p : Nat) : Prop := p < gg_np G ∧ gg_ru G p = A ∧ gg_Pd G t p
def gg_LL (G : gg_T) : Prop := ∀ t A p q, t ≤ 10 → gg_Ch G t A p → gg_Ch G t A q → p = q

theorem gg_sN_s {G : gg_T} : ∀ k A, gg_sN G k A → gg_sN G (k + 1) A := by
  intro k
  induction k with
  | zero => intro A h; exact h.elim
  | succ k ih => intro A ⟨p, h1, h2, h3⟩; exact ⟨p, h1, h2, gg_nl_mono ih _ h3⟩
theorem gg_sF_s {G : gg_T} {t : Nat} : ∀ k A, gg_sF G t k A → gg_sF G t (k + 1) A := by
  intro k
  induction k with
  | zero => intro A h; exact h.elim
  | succ k ih => intro A ⟨p, h1, h2, h3⟩; exact ⟨p, h1, h2, gg_fl_mono (fun _ h => h) ih _ h3⟩
theorem gg_sP_s {G : gg_T} : ∀ k A, gg_sP G k A → gg_sP G (k + 1) A := by
  intro k
  induction k with
  | zero => intro A h; exact h.elim
  | succ k ih => intro A ⟨p, h1, h2, h3⟩; exact ⟨p, h1, h2, gg_pl_mono ih _ h3⟩
theorem gg_sW_s {G : gg_T} {t : Nat} : ∀ k A, gg_sW G t k A → gg_sW G t (k + 1) A := by
  intro k
  induction k with
  | zero => intro A h; exact h.elim
  | succ k ih =>
    intro A h
    rcases h with h | ⟨p, m, h1, h2, h3, h4⟩
    · exact Or.inl h
    · refine Or.inr ⟨p, m, h1, h2, h3, ?_⟩
      rcases h4 with h4 | ⟨h4, h5⟩
      · exact Or.inl h4
      · exact Or.inr ⟨h4, ih _ h5⟩
theorem gg_up {S : Nat → Nat → Prop} (hm : ∀ k A, S k A → S (k + 1) A) : ∀ d k A, S k A → S (k + d) A := by
  intro d
  induction d with
  | zero => intro k A h; exact h
  | succ d ih => intro k A h; exact hm _ _ (ih k A h)
/-- a list whose rules have the set by some stage has it by one stage -/
theorem gg_nl_ex {S : Nat → Nat → Prop} (hm : ∀ k A, S k A → S (k + 1) A) : ∀ l, gg_nl (fun A => ∃ k, S k A) l → ∃ k, gg_nl (S k) l := by
  intro l
  induction l with
  | nil => intro _; exact ⟨0, trivial⟩
  | cons x l ih =>
    intro ⟨⟨h1, k1, h2⟩, h3⟩
    obtain ⟨k2, h4⟩ := ih h3
    refine ⟨k1 + k2, ⟨h1, gg_up hm k2 k1 _ h2⟩, ?_⟩
    refine gg_nl_mono (fun A h => ?_) l h4
    rw [Nat.add_comm]; exact gg_up hm k1 k2 A h
theorem gg_pl_ex {S : Nat → Nat → Prop} (hm : ∀ k A, S k A → S (k + 1) A) : ∀ l, gg_pl (fun A => ∃ k, S k A) l → ∃ k, gg_pl (S k) l := by
  intro l
  induction l with
  | nil => intro _; exact ⟨0, trivial⟩
  | cons x l ih =>
    intro ⟨h1, h3⟩
    obtain ⟨k2, h4⟩ := ih h3
    by_cases hx : 10 ≤ x
    · obtain ⟨k1, h2⟩ := h1 hx
      refine ⟨k1 + k2, fun _ => gg_up hm k2 k1 _ h2, ?_⟩
      refine gg_pl_mono (fun A h => ?_) l h4
      rw [Nat.add_comm]; exact gg_up hm k1 k2 A h
    · exact ⟨k2, fun h => absurd h hx, h4⟩
theorem gg_fl_ex {N : Nat → Prop} {S : Nat → Nat → Prop} {t : Nat} : ∀ l, gg_fl N (fun A => ∃ k, S k A) t l → ∃ k, gg_fl N (S k) t l := by
  intro l
  induction l with
  | nil => intro h; exact h.elim
  | cons x l ih =>
    intro h
    rcases h with h | ⟨h1, k, h2⟩ | ⟨h1, h2⟩
    · exact ⟨0, Or.inl h⟩
    · exact ⟨k, Or.inr (Or.inl ⟨h1, h2⟩)⟩
    · obtain ⟨k, h3⟩ := ih h2
      exact ⟨k, Or.inr (Or.inr ⟨h1, h3⟩)⟩
theorem gg_Nu_i {G : gg_T} {p : Nat} (h : p < gg_np G) (hn : gg_NL G (gg_sl G p 0)) : gg_Nu G (gg_ru G p) := by
  obtain ⟨k, hk⟩ := gg_nl_ex (gg_sN_s (G := G)) _ hn
  exact ⟨k + 1, p, h, rfl, hk⟩
theorem gg_Nu_e {G : gg_T} {A : Nat} (h : gg_Nu G A) : ∃ p, p < gg_np G ∧ gg_ru G p = A ∧ gg_NL G (gg_sl G p 0) := by
  obtain ⟨k, hk⟩ := h
  cases k with
  | zero => exact hk.elim
  | succ k => obtain ⟨p, h1, h2, h3⟩ := hk; exact ⟨p, h1, h2, gg_nl_mono (fun A h => ⟨k, h⟩) _ h3⟩
theorem gg_Fi_i {G : gg_T} {t p : Nat} (h : p < gg_np G) (hn : gg_FL G t (gg_sl G p 0)) : gg_Fi G t (gg_ru G p) := by
  obtain ⟨k, hk⟩ := gg_fl_ex _ hn
  exact ⟨k + 1, p, h, rfl, hk⟩
theorem gg_Pr_i {G : gg_T} {p : Nat} (h : p < gg_np G) (hn : gg_pl (gg_Pr G) (gg_sl G p 0)) : gg_Pr G (gg_ru G p) := by
  obtain ⟨k, hk⟩ := gg_pl_ex (gg_sP_s (G := G)) _ hn
  exact ⟨k + 1, p, h, rfl, hk⟩
theorem gg_Fo_0 {G : gg_T} : gg_Fo G 10 0 := ⟨1, Or.inl ⟨rfl, rfl⟩⟩
theorem gg_Fo_f {G : gg_T} {t p m A : Nat} (h1 : p < gg_np G) (h2 : m < gg_ln G p) (h3 : gg_sy G (4 * p + m) = A + 10) (h : gg_FL G t (gg_sl G p (m + 1))) : gg_Fo G t A :=
  ⟨1, Or.inr ⟨p, m, h1, h2, h3, Or.inl h⟩⟩
theorem gg_Fo_n {G : gg_T} {t p m A : Nat} (h1 : p < gg_np G) (h2 : m < gg_ln G p) (h3 : gg_sy G (4 * p + m) = A + 10) (h : gg_NL G (gg_sl G p (m + 1))) (hf : gg_Fo G t (gg_ru G p)) : gg_Fo G t A := by
  obtain ⟨k, hk⟩ := hf
  exact ⟨k + 1, Or.inr ⟨p, m, h1, h2, h3, Or.inr ⟨h, hk⟩⟩⟩

/-! no rule is nullable, begins with t and is followed by t -/
theorem gg_L1a {G : gg_T} {t k p : Nat} (hp : p < gg_np G) (hF : gg_Fo G t (gg_ru G p)) : ∀ m, gg_fl (gg_Nu G) (gg_sF G t k) t (gg_sl G p m) → gg_NL G (gg_sl G p m) → ∃ B, gg_Nu G B ∧ gg_sF G t k B ∧ gg_Fo G t B := by
  refine gg_sl_ind (G := G) (p := p) ?_ ?_
  · intro m hm h _
    rw [gg_sl_n hm] at h
    exact h.elim
  · intro m hm ih h hn
    rw [gg_sl_c hm] at h hn
    obtain ⟨⟨n1, n2⟩, n3⟩ := hn
    rcases h with ⟨h1, h2⟩ | ⟨h1, h2⟩ | ⟨_, h2⟩
    · omega
    · exact ⟨_, n2, h2, gg_Fo_n hp hm (by omega) n3 hF⟩
    · exact ih h2 n3
theorem gg_L1b {G : gg_T} (L : gg_LL G) {t : Nat} (ht : t ≤ 10) : ∀ k A, gg_sF G t k A → gg_Nu G A → ¬ gg_Fo G t A := by
  intro k
  induction k with
  | zero => intro A h; exact h.elim
  | succ k ih =>
    intro A h hN hF
    obtain ⟨p, h1, h2, h3⟩ := h
    obtain ⟨q, q1, q2, q3⟩ := gg_Nu_e hN
    have e : p = q := L t A p q ht ⟨h1, h2, Or.inl (gg_fl_mono (fun _ h => h) (fun A h => ⟨k, h⟩) _ h3)⟩ ⟨q1, q2, Or.inr ⟨q3, by rw [q2]; exact hF⟩⟩
    subst e
    obtain ⟨B, b1, b2, b3⟩ := gg_L1a h1 (by rw [h2]; exact hF) 0 h3 q3
    exact ih B b2 b1 b3
theorem gg_L1 {G : gg_T} (L : gg_LL G) {t A : Nat} (ht : t ≤ 10) (hF : gg_Fi G t A) (hN : gg_Nu G A) : ¬ gg_Fo G t A := by
  obtain ⟨k, hk⟩ := hF
  exact gg_L1b L ht k A hk hN

/-! the rules met at one place under lookahead t: well-founded, of height at most 6 -/
/-- Q holds of each rule of the list that stands behind nullable ones alone -/
def gg_hd (N Q : Nat → Prop) : List Nat → Prop
  | [] => True
  | x :: l => (10 ≤ x → Q (x - 10)) ∧ ((10 ≤ x ∧ N (x - 10)) → gg_hd N Q l)
theorem gg_hd_mono {N Q R : Nat → Prop} (h : ∀ A, Q A → R A) : ∀ l, gg_hd N Q l → gg_hd N R l := by
  intro l
  induction l with
  | nil => intro _; trivial
  | cons x l ih => intro ⟨h1, h2⟩; exact ⟨fun hx => h _ (h1 hx), fun hn => ih (h2 hn)⟩
theorem gg_hd_ex {N : Nat → Prop} {S : Nat → Nat → Prop} (hm : ∀ k A, S k A → S (k + 1) A) : ∀ l, gg_hd N (fun A => ∃ k, S k A) l → ∃ k, gg_hd N (S k) l := by
  intro l
  induction l with
  | nil => intro _; exact ⟨0, trivial⟩
  | cons x l ih =>
    intro ⟨h1, h2⟩
    by_cases hx : 10 ≤ x
    · obtain ⟨k1, h3⟩ := h1 hx
      by_cases hn : N (x - 10)
      · obtain ⟨k2, h4⟩ := ih (h2 ⟨hx, hn⟩)
        refine ⟨k1 + k2, fun _ => gg_up hm k2 k1 _ h3, fun _ => ?_⟩
        refine gg_hd_mono (fun A h => ?_) l h4
        rw [Nat.add_comm]; exact gg_up hm k1 k2 A h
      · exact ⟨k1, fun _ => h3, fun h => absurd h.2 hn⟩
    · exact ⟨0, fun h => absurd h hx, fun h => absurd h.1 hx⟩
def gg_ac (G : gg_T) (t : Nat) : Nat → Nat → Prop
  | 0, _ => False
  | k + 1, A => ∀ p, gg_Ch G t A p → gg_hd (gg_Nu G) (gg_ac G t k) (gg_sl G p 0)
theorem gg_ac_s {G : gg_T} {t : Nat} : ∀ k A, gg_ac G t k A → gg_ac G t (k + 1) A := by
  intro k
  induction k with
  | zero => intro A h; exact h.elim
  | succ k ih => intro A h p hp; exact gg_hd_mono ih _ (h p hp)
theorem gg_acN_l {G : gg_T} {t k p : Nat} (hp : p < gg_np G) (hF : gg_Fo G t (gg_ru G p)) (ih : ∀ A, gg_sN G k A → gg_Fo G t A → gg_ac G t k A) :
    ∀ m, gg_nl (gg_sN G k) (gg_sl G p m) → gg_hd (gg_Nu G) (gg_ac G t k) (gg_sl G p m) := by
  refine gg_sl_ind (G := G) (p := p) ?_ ?_
  · intro m hm _
    rw [gg_sl_n hm]; trivial
  · intro m hm ih2 h
    rw [gg_sl_c hm] at h ⊢
    obtain ⟨⟨n1, n2⟩, n3⟩ := h
    refine ⟨fun _ => ih _ n2 (gg_Fo_n hp hm (by omega) (gg_nl_mono (fun A h => ⟨k, h⟩) _ n3) hF), fun _ => ih2 n3⟩
theorem gg_acN {G : gg_T} (L : gg_LL G) {t : Nat} (ht : t ≤ 10) : ∀ k A, gg_sN G k A → gg_Fo G t A → gg_ac G t k A := by
  intro k
  induction k with
  | zero => intro A h; exact h.elim
  | succ k ih =>
    intro A ⟨q, h1, h2, h3⟩ hF p hp
    have e : p = q := L t A p q ht hp ⟨h1, h2, Or.inr ⟨gg_nl_mono (fun A h => ⟨k, h⟩) _ h3, by rw [h2]; exact hF⟩⟩
    subst e
    exact gg_acN_l h1 (by rw [h2]; exact hF) ih 0 h3
/-- a rule that doesn't begin with t -/
theorem gg_ac_nf {G : gg_T} (L : gg_LL G) {t B : Nat} (ht : t ≤ 10) (hB : ¬ gg_Fi G t B) : ∃ k, gg_ac G t k B := by
  by_cases h : ∃ p, gg_Ch G t B p
  · obtain ⟨p, hp, e, hd⟩ := h
    rcases hd with hd | ⟨h1, h2⟩
    · exact absurd (by rw [← e]; exact gg_Fi_i hp hd) hB
    · have hN := gg_Nu_i hp h1
      rw [e] at hN h2
      obtain ⟨k, hk⟩ := hN
      exact ⟨k, gg_acN L ht k B hk h2⟩
  · exact ⟨1, fun p hp => absurd ⟨p, hp⟩ h⟩
/-- the symbols behind one that is nullable and begins with t: none begins with t -/
theorem gg_acF_r {G : gg_T} (L : gg_LL G) {t p : Nat} (ht : t ≤ 10) : ∀ m, ¬ gg_FL G t (gg_sl G p m) → gg_hd (gg_Nu G) (fun A => ∃ k, gg_ac G t k A) (gg_sl G p m) := by
  refine gg_sl_ind (G := G) (p := p) ?_ ?_
  · intro m hm _
    rw [gg_sl_n hm]; trivial
  · intro m hm ih h
    rw [gg_sl_c hm] at h ⊢
    refine ⟨fun hx => gg_ac_nf L ht (fun hf => h (Or.inr (Or.inl ⟨hx, hf⟩))), fun hn => ih (fun hf => h (Or.inr (Or.inr ⟨hn, hf⟩)))⟩
theorem gg_acF_l {G : gg_T} (L : gg_LL G) {t k p : Nat} (ht : t ≤ 10) (hp : p < gg_np G) (ih : ∀ A, gg_sF G t k A → ∃ j, gg_ac G t j A) :
    ∀ m, gg_fl (gg_Nu G) (gg_sF G t k) t (gg_sl G p m) → gg_hd (gg_Nu G) (fun A => ∃ k, gg_ac G t k A) (gg_sl G p m) := by
  refine gg_sl_ind (G := G) (p := p) ?_ ?_
  · intro m hm h
    rw [gg_sl_n hm] at h
    exact h.elim
  · intro m hm ih2 h
    rw [gg_sl_c hm] at h ⊢
    rcases h with ⟨h1, h2⟩ | ⟨h1, h2⟩ | ⟨⟨h1, h2⟩, h3⟩
    · exact ⟨fun hx => absurd hx (by omega), fun hx => absurd hx.1 (by omega)⟩
    · refine ⟨fun _ => ih _ h2, fun hn => gg_acF_r L ht (m + 1) (fun hf => ?_)⟩
      exact gg_L1 L ht ⟨k, h2⟩ hn.2 (gg_Fo_f hp hm (by omega) hf)
    · refine ⟨fun _ => ?_, fun _ => ih2 h3⟩
      have hFo : gg_Fo G t (gg_sy G (4 * p + m) - 10) := gg_Fo_f hp hm (by omega) (gg_fl_mono (fun _ h => h) (fun A h => ⟨k, h⟩) _ h3)
      obtain ⟨j, hj⟩ := h2
      exact ⟨j, gg_acN L ht j _ hj hFo⟩
theorem gg_acF {G : gg_T} (L : gg_LL G) {t : Nat} (ht : t ≤ 10) : ∀ k A, gg_sF G t k A → ∃ j, gg_ac G t j A := by
  intro k
  induction k with
  | zero => intro A h; exact h.elim
  | succ k ih =>
    intro A ⟨q, h1, h2, h3⟩
    obtain ⟨j, hj⟩ := gg_hd_ex (gg_ac_s (G := G) (t := t)) _ (gg_acF_l L ht h1 ih 0 h3)
    refine ⟨j + 1, fun p hp => ?_⟩
    have e : p = q := L t A p q ht hp ⟨h1, h2, Or.inl (gg_fl_mono (fun _ h => h) (fun A h => ⟨k, h⟩) _ h3)⟩
    subst e
    exact hj
theorem gg_ac_all {G : gg_T} (L : gg_LL G) {t : Nat} (ht : t ≤ 10) (A : Nat) : ∃ k, gg_ac G t k A := by
  by_cases h : gg_Fi G t A
  · obtain ⟨k, hk⟩ := h
    exact gg_acF L ht k A hk
  · exact gg_ac_nf L ht h
theorem gg_sl_lt {G : gg_T} (hG : gg_ok G) {p m x : Nat} (h : x ∈ gg_sl G p m) : x < 16 := by
  unfold gg_sl at h
  obtain ⟨i, _, rfl⟩ := List.mem_map.mp h
  exact hG.2.2.2.1 _
theorem gg_hd_lt {N Q R : Nat → Prop} : ∀ l : List Nat, (∀ x, x ∈ l → x < 16) → (∀ A, A < 6 → Q A → R A) → gg_hd N Q l → gg_hd N R l := by
  intro l
  induction l with
  | nil => intro _ _ _; trivial
  | cons x l ih =>
    intro hl h ⟨h1, h2⟩
    have := hl x (List.mem_cons_self ..)
    exact ⟨fun hx => h _ (by omega) (h1 hx), fun hn => ih (fun y hy => hl y (List.mem_cons_of_mem _ hy)) h (h2 hn)⟩
theorem gg_ac6 {G : gg_T} (hG : gg_ok G) (L : gg_LL G) {t : Nat} (ht : t ≤ 10) {A : Nat} (hA : A < 6) : gg_ac G t 6 A := by
  obtain ⟨k, hk⟩ := gg_ac_all L ht A
  refine kk_stab 6 (gg_ac G t) gg_ac_s ?_ k A hA hk
  intro k h A hA h2 p hp
  exact gg_hd_lt _ (fun x hx => gg_sl_lt hG hx) h (h2 p hp)
/-! the stages of the sets end at 6 -/
theorem gg_nl_lt {Q R : Nat → Prop} : ∀ l : List Nat, (∀ x, x ∈ l → x < 16) → (∀ A, A < 6 → Q A → R A) → gg_nl Q l → gg_nl R l := by
  intro l
  induction l with
  | nil => intro _ _ _; trivial
  | cons x l ih =>
    intro hl h ⟨⟨h0, h1⟩, h2⟩
    have := hl x (List.mem_cons_self ..)
    exact ⟨⟨h0, h _ (by omega) h1⟩, ih (fun y hy => hl y (List.mem_cons_of_mem _ hy)) h h2⟩
theorem gg_pl_lt {Q R : Nat → Prop} : ∀ l : List Nat, (∀ x, x ∈ l → x < 16) → (∀ A, A < 6 → Q A → R A) → gg_pl Q l → gg_pl R l := by
  intro l
  induction l with
  | nil => intro _ _ _; trivial
  | cons x l ih =>
    intro hl h ⟨h1, h2⟩
    have := hl x (List.mem_cons_self ..)
    exact ⟨fun hx => h _ (by omega) (h1 hx), ih (fun y hy => hl y (List.mem_cons_of_mem _ hy)) h h2⟩
theorem gg_fl_lt {N Q R : Nat → Prop} {t : Nat} : ∀ l : List Nat, (∀ x, x ∈ l → x < 16) → (∀ A, A < 6 → Q A → R A) → gg_fl N Q t l → gg_fl N R t l := by
  intro l
  induction l with
  | nil => intro _ _ h; exact h
  | cons x l ih =>
    intro hl h h1
    have := hl x (List.mem_cons_self ..)
    rcases h1 with h1 | ⟨h1, h2⟩ | ⟨h1, h2⟩
    · exact Or.inl h1
    · exact Or.inr (Or.inl ⟨h1, h _ (by omega) h2⟩)
    · exact Or.inr (Or.inr ⟨h1, ih (fun y hy => hl y (List.mem_cons_of_mem _ hy)) h h2⟩)
theorem gg_Nu6 {G : gg_T} (hG : gg_ok G) {A : Nat} (hA : A < 6) (h : gg_Nu G A) : gg_sN G 6 A := by
  obtain ⟨k, hk⟩ := h
  refine kk_stab 6 (gg_sN G) gg_sN_s ?_ k A hA hk
  intro k h A hA ⟨p, h1, h2, h3⟩
  exact ⟨p, h1, h2, gg_nl_lt _ (fun x hx => gg_sl_lt hG hx) h h3⟩
theorem gg_Pr6 {G : gg_T} (hG : gg_ok G) {A : Nat} (hA : A < 6) (h : gg_Pr G A) : gg_sP G 6 A := by
  obtain ⟨k, hk⟩ := h
  refine kk_stab 6 (gg_sP G) gg_sP_s ?_ k A hA hk
  intro k h A hA ⟨p, h1, h2, h3⟩
  exact ⟨p, h1, h2, gg_pl_lt _ (fun x hx => gg_sl_lt hG hx) h h3⟩
theorem gg_Fi6 {G : gg_T} (hG : gg_ok G) {t A : Nat} (hA : A < 6) (h : gg_Fi G t A) : gg_sF G t 6 A := by
  obtain ⟨k, hk⟩ := h
  refine kk_stab 6 (gg_sF G t) gg_sF_s ?_ k A hA hk
  intro k h A hA ⟨p, h1, h2, h3⟩
  exact ⟨p, h1, h2, gg_fl_lt _ (fun x hx => gg_sl_lt hG hx) h h3⟩
theorem gg_Fo6 {G : gg_T} (hG : gg_ok G) {t A : Nat} (hA : A < 6) (h : gg_Fo G t A) : gg_sW G t 6 A := by
  obtain ⟨k, hk⟩ := h
  refine kk_stab 6 (gg_sW G t) gg_sW_s ?_ k A hA hk
  intro k h A hA h2
  rcases h2 with h2 | ⟨p, m, h1, h2, h3, h4⟩
  · exact Or.inl h2
  · refine Or.inr ⟨p, m, h1, h2, h3, ?_⟩
    rcases h4 with h4 | ⟨h4, h5⟩
    · exact Or.inl h4
    · exact Or.inr ⟨h4, h _ (hG.2.1 p) h5⟩
end
section
/-! derivations of a list of symbols over a text given by its lookahead: tok a is the token at a, 10 behind the end -/
def dd_D (G : gg_T) (tok : Nat → Nat) : Nat → List Nat → Nat → Nat → Prop
  | 0, l, a, b => l = [] ∧ a = b
  | n + 1, l, a, b => (l = [] ∧ a = b) ∨ ∃ x l', l = x :: l' ∧ ((x < 10 ∧ tok a = x ∧ dd_D G tok n l' (a + 1) b) ∨ (10 ≤ x ∧ ∃ p, p < gg_np G ∧ gg_ru G p = x - 10 ∧ dd_D G tok n (gg_sl G p 0 ++ l') a b))
def dd_E (G : gg_T) (tok : Nat → Nat) (l : List Nat) (a b : Nat) : Prop := ∃ n, dd_D G tok n l a b
section DD
variable {G : gg_T} {tok : Nat → Nat}
theorem dd_s : ∀ n l a b, dd_D G tok n l a b → dd_D G tok (n + 1) l a b := by
  intro n
  induction n with
  | zero => intro l a b h; exact Or.inl h
  | succ n ih =>
    intro l a b h
    rcases h with h | ⟨x, l', e, h⟩
    · exact Or.inl h
    · refine Or.inr ⟨x, l', e, ?_⟩
      rcases h with ⟨h1, h2, h3⟩ | ⟨h1, p, h2, h3, h4⟩
      · exact Or.inl ⟨h1, h2, ih _ _ _ h3⟩
      · exact Or.inr ⟨h1, p, h2, h3, ih _ _ _ h4⟩
theorem dd_up {l : List Nat} {a b : Nat} : ∀ d n, dd_D G tok n l a b → dd_D G tok (n + d) l a b := by
  intro d
  induction d with
  | zero => intro n h; exact h
  | succ d ih => intro n h; exact dd_s _ _ _ _ (ih n h)
theorem dd_nil {n a b : Nat} (h : dd_D G tok n [] a b) : a = b := by
  cases n with
  | zero => exact h.2
  | succ n =>
    rcases h with h | ⟨x, l', e, _⟩
    · exact h.2
    · exact absurd e (by intro h; cases h)
theorem dd_nil' {n a : Nat} : dd_D G tok n [] a a := by
  cases n with
  | zero => exact ⟨rfl, rfl⟩
  | succ n => exact Or.inl ⟨rfl, rfl⟩
theorem dd_cons {n x a b : Nat} {l : List Nat} (h : dd_D G tok n (x :: l) a b) : ∃ m, n = m + 1 ∧ ((x < 10 ∧ tok a = x ∧ dd_D G tok m l (a + 1) b) ∨ (10 ≤ x ∧ ∃ p, p < gg_np G ∧ gg_ru G p = x - 10 ∧ dd_D G tok m (gg_sl G p 0 ++ l) a b)) := by
  cases n with
  | zero => exact absurd h.1 (by intro h; cases h)
  | succ n =>
    rcases h with h | ⟨y, l', e, h⟩
    · exact absurd h.1 (by intro h; cases h)
    · injection e with e1 e2
      subst e1 e2
      exact ⟨n, rfl, h⟩
theorem dd_le : ∀ n l a b, dd_D G tok n l a b → a ≤ b := by
  intro n
  induction n with
  | zero => intro l a b h; exact Nat.le_of_eq h.2
  | succ n ih =>
    intro l a b h
    rcases h with h | ⟨x, l', e, h⟩
    · exact Nat.le_of_eq h.2
    · rcases h with ⟨h1, h2, h3⟩ | ⟨h1, p, h2, h3, h4⟩
      · have := ih _ _ _ h3; omega
      · exact ih _ _ _ h4
theorem dd_split : ∀ n l1 l2 a c, dd_D G tok n (l1 ++ l2) a c → ∃ b, dd_D G tok n l1 a b ∧ dd_D G tok n l2 b c := by
  intro n
  induction n with
  | zero =>
    intro l1 l2 a c h
    obtain ⟨h1, h2⟩ := h
    obtain ⟨e1, e2⟩ := List.append_eq_nil_iff.mp h1
    subst e1 e2
    exact ⟨a, dd_nil', h2 ▸ dd_nil'⟩
  | succ n ih =>
    intro l1 l2 a c h
    cases l1 with
    | nil => exact ⟨a, dd_nil', h⟩
    | cons x l1 =>
      obtain ⟨m, e, h⟩ := dd_cons h
      have e : n = m := by omega
      subst e
      rcases h with ⟨h1, h2, h3⟩ | ⟨h1, p, h2, h3, h4⟩
      · obtain ⟨b, b1, b2⟩ := ih _ _ _ _ h3
        exact ⟨b, Or.inr ⟨x, l1, rfl, Or.inl ⟨h1, h2, b1⟩⟩, dd_s _ _ _ _ b2⟩
      · have h4 : dd_D G tok n ((gg_sl G p 0 ++ l1) ++ l2) a c := by rw [List.append_assoc]; exact h4
        obtain ⟨b, b1, b2⟩ := ih _ _ _ _ h4
        exact ⟨b, Or.inr ⟨x, l1, rfl, Or.inr ⟨h1, p, h2, h3, b1⟩⟩, dd_s _ _ _ _ b2⟩
theorem dd_join {l2 : List Nat} {b c m : Nat} (h2 : dd_D G tok m l2 b c) : ∀ n l1 a, dd_D G tok n l1 a b → dd_D G tok (m + n) (l1 ++ l2) a c := by
  intro n
  induction n with
  | zero =>
    intro l1 a h
    obtain ⟨e1, e2⟩ := h
    subst e1 e2
    exact h2
  | succ n ih =>
    intro l1 a h
    rcases h with ⟨e1, e2⟩ | ⟨x, l', e, h⟩
    · subst e1 e2
      exact dd_up (n + 1) m h2
    · subst e
      refine Or.inr ⟨x, l' ++ l2, rfl, ?_⟩
      rcases h with ⟨h1, h2, h3⟩ | ⟨h1, p, h2, h3, h4⟩
      · exact Or.inl ⟨h1, h2, ih _ _ h3⟩
      · refine Or.inr ⟨h1, p, h2, h3, ?_⟩
        have := ih _ _ h4
        rwa [List.append_assoc] at this
theorem de_nil {a b : Nat} : dd_E G tok [] a b ↔ a = b := ⟨fun ⟨_, h⟩ => dd_nil h, fun h => ⟨0, rfl, h⟩⟩
theorem de_le {l : List Nat} {a b : Nat} (h : dd_E G tok l a b) : a ≤ b := h.elim (fun n h => dd_le n _ _ _ h)
theorem de_app {l1 l2 : List Nat} {a c : Nat} : dd_E G tok (l1 ++ l2) a c ↔ ∃ b, dd_E G tok l1 a b ∧ dd_E G tok l2 b c :=
  ⟨fun ⟨n, h⟩ => (dd_split n _ _ _ _ h).elim (fun b hb => ⟨b, ⟨n, hb.1⟩, ⟨n, hb.2⟩⟩), fun ⟨_, ⟨_, h1⟩, ⟨_, h2⟩⟩ => ⟨_, dd_join h2 _ _ _ h1⟩⟩
theorem de_t {x a b : Nat} {l : List Nat} (hx : x < 10) : dd_E G tok (x :: l) a b ↔ tok a = x ∧ dd_E G tok l (a + 1) b := by
  constructor
  · intro ⟨n, h⟩
    obtain ⟨m, _, h⟩ := dd_cons h
    rcases h with ⟨_, h2, h3⟩ | ⟨h1, _⟩
    · exact ⟨h2, m, h3⟩
    · omega
  · intro ⟨h1, n, h2⟩
    exact ⟨n + 1, Or.inr ⟨x, l, rfl, Or.inl ⟨hx, h1, h2⟩⟩⟩
theorem de_n {x a b : Nat} {l : List Nat} (hx : 10 ≤ x) : dd_E G tok (x :: l) a b ↔ ∃ p, p < gg_np G ∧ gg_ru G p = x - 10 ∧ dd_E G tok (gg_sl G p 0 ++ l) a b := by
  constructor
  · intro ⟨n, h⟩
    obtain ⟨m, _, h⟩ := dd_cons h
    rcases h with ⟨h1, _⟩ | ⟨h1, p, h2, h3, h4⟩
    · omega
    · exact ⟨p, h2, h3, m, h4⟩
  · intro ⟨p, h2, h3, n, h4⟩
    exact ⟨n + 1, Or.inr ⟨x, l, rfl, Or.inr ⟨hx, p, h2, h3, h4⟩⟩⟩
theorem dd_null : ∀ n l a, dd_D G tok n l a a → gg_NL G l := by
  intro n
  induction n with
  | zero => intro l a h; rw [h.1]; trivial
  | succ n ih =>
    intro l a h
    rcases h with h | ⟨x, l', e, h⟩
    · rw [h.1]; trivial
    · subst e
      rcases h with ⟨h1, h2, h3⟩ | ⟨h1, p, h2, h3, h4⟩
      · have := dd_le _ _ _ _ h3; omega
      · have h5 := (gg_nl_app _ _).mp (ih _ _ h4)
        refine ⟨⟨h1, ?_⟩, h5.2⟩
        rw [← h3]
        exact gg_Nu_i h2 h5.1
theorem de_null {l : List Nat} {a : Nat} (h : dd_E G tok l a a) : gg_NL G l := h.elim (fun n h => dd_null n _ _ h)
theorem dd_first : ∀ n l a b, dd_D G tok n l a b → a < b → gg_FL G (tok a) l := by
  intro n
  induction n with
  | zero => intro l a b h hab; have := h.2; omega
  | succ n ih =>
    intro l a b h hab
    rcases h with h | ⟨x, l', e, h⟩
    · have := h.2; omega
    · subst e
      rcases h with ⟨h1, h2, h3⟩ | ⟨h1, p, h2, h3, h4⟩
      · exact Or.inl ⟨by omega, h2.symm⟩
      · rcases (gg_fl_app _ _).mp (ih _ _ _ h4 hab) with h5 | ⟨h5, h6⟩
        · exact Or.inr (Or.inl ⟨h1, by rw [← h3]; exact gg_Fi_i h2 h5⟩)
        · exact Or.inr (Or.inr ⟨⟨h1, by rw [← h3]; exact gg_Nu_i h2 h5⟩, h6⟩)
theorem de_first {l : List Nat} {a b : Nat} (h : dd_E G tok l a b) (hab : a < b) : gg_FL G (tok a) l := h.elim (fun n h => dd_first n _ _ _ h hab)
end DD
/-! going on as far as place k -/
def dd_P (G : gg_T) (tok : Nat → Nat) (k : Nat) : Nat → List Nat → Nat → Prop
  | 0, _, a => a = k
  | n + 1, l, a => a = k ∨ ∃ x l', l = x :: l' ∧ ((x < 10 ∧ tok a = x ∧ dd_P G tok k n l' (a + 1)) ∨ (10 ≤ x ∧ ∃ p, p < gg_np G ∧ gg_ru G p = x - 10 ∧ dd_P G tok k n (gg_sl G p 0 ++ l') a))
def dd_V (G : gg_T) (tok : Nat → Nat) (k : Nat) (l : List Nat) (a : Nat) : Prop := ∃ n, dd_P G tok k n l a
section DP
variable {G : gg_T} {tok : Nat → Nat} {k : Nat}
theorem dp_s : ∀ n l a, dd_P G tok k n l a → dd_P G tok k (n + 1) l a := by
  intro n
  induction n with
  | zero => intro l a h; exact Or.inl h
  | succ n ih =>
    intro l a h
    rcases h with h | ⟨x, l', e, h⟩
    · exact Or.inl h
    · refine Or.inr ⟨x, l', e, ?_⟩
      rcases h with ⟨h1, h2, h3⟩ | ⟨h1, p, h2, h3, h4⟩
      · exact Or.inl ⟨h1, h2, ih _ _ h3⟩
      · exact Or.inr ⟨h1, p, h2, h3, ih _ _ h4⟩
theorem dp_k {n : Nat} {l : List Nat} : dd_P G tok k n l k := by
  cases n with
  | zero => exact rfl
  | succ n => exact Or.inl rfl
theorem dv_k {l : List Nat} : dd_V G tok k l k := ⟨0, rfl⟩
theorem dp_le : ∀ n l a, dd_P G tok k n l a → a ≤ k := by
  intro n
  induction n with
  | zero => intro l a h; exact Nat.le_of_eq h
  | succ n ih =>
    intro l a h
    rcases h with h | ⟨x, l', e, h⟩
    · exact Nat.le_of_eq h
    · rcases h with ⟨h1, h2, h3⟩ | ⟨h1, p, h2, h3, h4⟩
      · have := ih _ _ h3; omega
      · exact ih _ _ h4
theorem dp_split : ∀ n l1 l2 a, dd_P G tok k n (l1 ++ l2) a → dd_P G tok k n l1 a ∨ ∃ b, dd_D G tok n l1 a b ∧ dd_P G tok k n l2 b := by
  intro n
  induction n with
  | zero => intro l1 l2 a h; exact Or.inl h
  | succ n ih =>
    intro l1 l2 a h
    cases l1 with
    | nil => exact Or.inr ⟨a, dd_nil', h⟩
    | cons x l1 =>
      rcases h with h | ⟨y, l', e, h⟩
      · exact Or.inl (Or.inl h)
      · injection e with e1 e2
        subst e1 e2
        rcases h with ⟨h1, h2, h3⟩ | ⟨h1, p, h2, h3, h4⟩
        · rcases ih _ _ _ h3 with h5 | ⟨b, b1, b2⟩
          · exact Or.inl (Or.inr ⟨x, l1, rfl, Or.inl ⟨h1, h2, h5⟩⟩)
          · exact Or.inr ⟨b, Or.inr ⟨x, l1, rfl, Or.inl ⟨h1, h2, b1⟩⟩, dp_s _ _ _ b2⟩
        · have h4 : dd_P G tok k n ((gg_sl G p 0 ++ l1) ++ l2) a := by rw [List.append_assoc]; exact h4
          rcases ih _ _ _ h4 with h5 | ⟨b, b1, b2⟩
          · exact Or.inl (Or.inr ⟨x, l1, rfl, Or.inr ⟨h1, p, h2, h3, h5⟩⟩)
          · exact Or.inr ⟨b, Or.inr ⟨x, l1, rfl, Or.inr ⟨h1, p, h2, h3, b1⟩⟩, dp_s _ _ _ b2⟩
theorem dp_ext {l2 : List Nat} : ∀ n l1 a, dd_P G tok k n l1 a → dd_P G tok k n (l1 ++ l2) a := by
  intro n
  induction n with
  | zero => intro l1 a h; exact h
  | succ n ih =>
    intro l1 a h
    rcases h with h | ⟨x, l', e, h⟩
    · exact Or.inl h
    · subst e
      refine Or.inr ⟨x, l' ++ l2, rfl, ?_⟩
      rcases h with ⟨h1, h2, h3⟩ | ⟨h1, p, h2, h3, h4⟩
      · exact Or.inl ⟨h1, h2, ih _ _ h3⟩
      · refine Or.inr ⟨h1, p, h2, h3, ?_⟩
        have := ih _ _ h4
        rwa [List.append_assoc] at this
theorem dp_up {l : List Nat} {a : Nat} : ∀ d n, dd_P G tok k n l a → dd_P G tok k (n + d) l a := by
  intro d
  induction d with
  | zero => intro n h; exact h
  | succ d ih => intro n h; exact dp_s _ _ _ (ih n h)
theorem dp_join {l2 : List Nat} {b m : Nat} (h2 : dd_P G tok k m l2 b) : ∀ n l1 a, dd_D G tok n l1 a b → dd_P G tok k (m + n) (l1 ++ l2) a := by
  intro n
  induction n with
  | zero =>
    intro l1 a h
    obtain ⟨e1, e2⟩ := h
    subst e1 e2
    exact h2
  | succ n ih =>
    intro l1 a h
    rcases h with ⟨e1, e2⟩ | ⟨x, l', e, h⟩
    · subst e1 e2
      exact dp_up (n + 1) m h2
    · subst e
      refine Or.inr ⟨x, l' ++ l2, rfl, ?_⟩
      rcases h with ⟨h1, h2, h3⟩ | ⟨h1, p, h2, h3, h4⟩
      · exact Or.inl ⟨h1, h2, ih _ _ h3⟩
      · refine Or.inr ⟨h1, p, h2, h3, ?_⟩
        have := ih _ _ h4
        rwa [List.append_assoc] at this
theorem dv_app {l1 l2 : List Nat} {a : Nat} : dd_V G tok k (l1 ++ l2) a ↔ dd_V G tok k l1 a ∨ ∃ b, dd_E G tok l1 a b ∧ dd_V G tok k l2 b := by
  constructor
  · intro ⟨n, h⟩
    rcases dp_split n _ _ _ h with h | ⟨b, h1, h2⟩
    · exact Or.inl ⟨n, h⟩
    · exact Or.inr ⟨b, ⟨n, h1⟩, ⟨n, h2⟩⟩
  · intro h
    rcases h with ⟨n, h⟩ | ⟨b, ⟨n, h1⟩, ⟨m, h2⟩⟩
    · exact ⟨n, dp_ext n _ _ h⟩
    · exact ⟨_, dp_join h2 _ _ _ h1⟩
theorem dv_t {x a : Nat} {l : List Nat} (hx : x < 10) (ha : a ≠ k) : dd_V G tok k (x :: l) a ↔ tok a = x ∧ dd_V G tok k l (a + 1) := by
  constructor
  · intro ⟨n, h⟩
    cases n with
    | zero => exact absurd h ha
    | succ n =>
      rcases h with h | ⟨y, l', e, h⟩
      · exact absurd h ha
      · injection e with e1 e2
        subst e1 e2
        rcases h with ⟨_, h2, h3⟩ | ⟨h1, _⟩
        · exact ⟨h2, n, h3⟩
        · omega
  · intro ⟨h1, n, h2⟩
    exact ⟨n + 1, Or.inr ⟨x, l, rfl, Or.inl ⟨hx, h1, h2⟩⟩⟩
theorem dv_n {x a : Nat} {l : List Nat} (hx : 10 ≤ x) (ha : a ≠ k) : dd_V G tok k (x :: l) a ↔ ∃ p, p < gg_np G ∧ gg_ru G p = x - 10 ∧ dd_V G tok k (gg_sl G p 0 ++ l) a := by
  constructor
  · intro ⟨n, h⟩
    cases n with
    | zero => exact absurd h ha
    | succ n =>
      rcases h with h | ⟨y, l', e, h⟩
      · exact absurd h ha
      · injection e with e1 e2
        subst e1 e2
        rcases h with ⟨h1, _⟩ | ⟨_, p, h2, h3, h4⟩
        · omega
        · exact ⟨p, h2, h3, n, h4⟩
  · intro ⟨p, h2, h3, n, h4⟩
    exact ⟨n + 1, Or.inr ⟨x, l, rfl, Or.inr ⟨hx, p, h2, h3, h4⟩⟩⟩
theorem dv_nil {a : Nat} : dd_V G tok k [] a ↔ a = k := by
  constructor
  · intro ⟨n, h⟩
    cases n with
    | zero => exact h
    | succ n =>
      rcases h with h | ⟨y, l', e, _⟩
      · exact h
      · cases e
  · intro h; exact ⟨0, h⟩
theorem dp_first : ∀ n l a, dd_P G tok k n l a → a ≠ k → gg_FL G (tok a) l := by
  intro n
  induction n with
  | zero => intro l a h ha; exact absurd h ha
  | succ n ih =>
    intro l a h ha
    rcases h with h | ⟨x, l', e, h⟩
    · exact absurd h ha
    · subst e
      rcases h with ⟨h1, h2, h3⟩ | ⟨h1, p, h2, h3, h4⟩
      · exact Or.inl ⟨by omega, h2.symm⟩
      · rcases (gg_fl_app _ _).mp (ih _ _ h4 ha) with h5 | ⟨h5, h6⟩
        · exact Or.inr (Or.inl ⟨h1, by rw [← h3]; exact gg_Fi_i h2 h5⟩)
        · exact Or.inr (Or.inr ⟨⟨h1, by rw [← h3]; exact gg_Nu_i h2 h5⟩, h6⟩)
theorem dv_first {l : List Nat} {a : Nat} (h : dd_V G tok k l a) (ha : a ≠ k) : gg_FL G (tok a) l := h.elim (fun n h => dp_first n _ _ h ha)
theorem dv_of {l : List Nat} {a : Nat} (h : dd_E G tok l a k) : dd_V G tok k l a := by
  have := dv_app (G := G) (tok := tok) (k := k) (l1 := l) (l2 := []) (a := a)
  rw [List.append_nil] at this
  exact this.mpr (Or.inr ⟨k, h, dv_k⟩)
end DP
end
section
/-! the predictive machine: a stack of cells (56: the start; 57 + i: the end of a scope begun at place i), a place -/
noncomputable def mm_ch (G : gg_T) (A t : Nat) : Nat := @dite Nat (∃ p, gg_Ch G t A p) (Classical.propDecidable _) (fun h => Classical.choose h + 1) (fun _ => 0)
theorem mm_ch_s {G : gg_T} {A t p : Nat} (h : mm_ch G A t = p + 1) : gg_Ch G t A p := by
  unfold mm_ch at h
  by_cases hx : ∃ p, gg_Ch G t A p
  · rw [dif_pos hx] at h
    have e : Classical.choose hx = p := by omega
    rw [← e]; exact Classical.choose_spec hx
  · rw [dif_neg hx] at h; omega
theorem mm_ch_0 {G : gg_T} {A t : Nat} (h : mm_ch G A t = 0) (p : Nat) : ¬ gg_Ch G t A p := by
  unfold mm_ch at h
  intro hp
  rw [dif_pos ⟨p, hp⟩] at h
  omega
theorem mm_ch_i {G : gg_T} (L : gg_LL G) {A t p : Nat} (ht : t ≤ 10) (h : gg_Ch G t A p) : mm_ch G A t = p + 1 := by
  cases e : mm_ch G A t with
  | zero => exact absurd h (mm_ch_0 e p)
  | succ q => rw [L t A p q ht h (mm_ch_s e)]
def mm_ce (G : gg_T) (p m : Nat) : List Nat := (List.range' m (gg_ln G p - m)).map (fun i => 4 * p + i)
def mm_sym (G : gg_T) (e : Nat) : Nat := if e = 56 then 10 else gg_sy G e
def mm_sl (G : gg_T) : List Nat → List Nat
  | [] => []
  | e :: σ => if 57 ≤ e then mm_sl G σ else mm_sym G e :: mm_sl G σ
def mm_mk (G : gg_T) (nt : Bool) (p a : Nat) : List Nat := if nt = true ∧ gg_sc G p = 1 then [57 + a] else []
noncomputable def mm_st (G : gg_T) (tok : Nat → Nat) (nt : Bool) : List Nat → Nat → Option (List Nat × Nat)
  | [], _ => none
  | e :: σ, a => if 57 ≤ e then some (σ, a) else if mm_sym G e < 10 then (if mm_sym G e = tok a then some (σ, a + 1) else none) else
      if mm_ch G (mm_sym G e - 10) (tok a) = 0 then none else
        some (mm_ce G (mm_ch G (mm_sym G e - 10) (tok a) - 1) 0 ++ (mm_mk G nt (mm_ch G (mm_sym G e - 10) (tok a) - 1) a ++ σ), a)
noncomputable def mm_it (G : gg_T) (tok : Nat → Nat) (nt : Bool) : Nat → List Nat → Nat → Option (List Nat × Nat)
  | 0, σ, a => some (σ, a)
  | k + 1, σ, a => match mm_st G tok nt σ a with
    | none => none
    | some s => mm_it G tok nt k s.1 s.2
/-- the run: the state after k steps -/
noncomputable def mm_R (G : gg_T) (tok : Nat → Nat) (nt : Bool) (k : Nat) : Option (List Nat × Nat) := mm_it G tok nt k [56] 0
section MM
variable {G : gg_T} {tok : Nat → Nat} {nt : Bool}
theorem mm_ce_c {p m : Nat} (h : m < gg_ln G p) : mm_ce G p m = (4 * p + m) :: mm_ce G p (m + 1) := by
  unfold mm_ce
  rw [show gg_ln G p - m = (gg_ln G p - (m + 1)) + 1 by omega, List.range'_succ, List.map_cons]
theorem mm_ce_n {p m : Nat} (h : gg_ln G p ≤ m) : mm_ce G p m = [] := by
  unfold mm_ce
  rw [show gg_ln G p - m = 0 by omega]; rfl
theorem mm_ce_len {p m : Nat} : (mm_ce G p m).length = gg_ln G p - m := by
  unfold mm_ce
  rw [List.length_map, List.length_range']
theorem mm_ce_lt (hG : gg_ok G) {p m c : Nat} (hp : p < gg_np G) (h : c ∈ mm_ce G p m) : c < 56 := by
  unfold mm_ce at h
  obtain ⟨i, hi, rfl⟩ := List.mem_map.mp h
  have h1 := List.mem_range'_1.mp hi
  have h2 := hG.1
  have h3 := hG.2.2.1 p
  omega
theorem mm_sl_app : ∀ s1 s2, mm_sl G (s1 ++ s2) = mm_sl G s1 ++ mm_sl G s2 := by
  intro s1 s2
  induction s1 with
  | nil => rfl
  | cons e s ih =>
    show (if 57 ≤ e then mm_sl G (s ++ s2) else mm_sym G e :: mm_sl G (s ++ s2)) = (if 57 ≤ e then mm_sl G s else mm_sym G e :: mm_sl G s) ++ mm_sl G s2
    by_cases h : 57 ≤ e
    · rw [if_pos h, if_pos h, ih]
    · rw [if_neg h, if_neg h, ih]; rfl
theorem mm_sl_k {e : Nat} {s : List Nat} (h : 57 ≤ e) : mm_sl G (e :: s) = mm_sl G s := if_pos h
theorem mm_sl_e {e : Nat} {s : List Nat} (h : e < 57) : mm_sl G (e :: s) = mm_sym G e :: mm_sl G s := if_neg (by omega)
theorem mm_sl_mk {p a : Nat} : mm_sl G (mm_mk G nt p a) = [] := by
  unfold mm_mk
  by_cases h : nt = true ∧ gg_sc G p = 1
  · rw [if_pos h, mm_sl_k (by omega)]; rfl
  · rw [if_neg h]; rfl
theorem mm_sym_lt {e : Nat} (h : e < 56) : mm_sym G e = gg_sy G e := if_neg (by omega)
theorem mm_sym_16 (hG : gg_ok G) (e : Nat) : mm_sym G e < 16 := by
  unfold mm_sym
  by_cases h : e = 56
  · rw [if_pos h]; omega
  · rw [if_neg h]; exact hG.2.2.2.1 e
theorem mm_sl_ce (hG : gg_ok G) {p : Nat} (hp : p < gg_np G) : ∀ m, mm_sl G (mm_ce G p m) = gg_sl G p m := by
  refine gg_sl_ind (G := G) (p := p) ?_ ?_
  · intro m hm; rw [mm_ce_n hm, gg_sl_n hm]; rfl
  · intro m hm ih
    have h2 := hG.1
    have h3 := hG.2.2.1 p
    rw [mm_ce_c hm, gg_sl_c hm, mm_sl_e (by omega), ih, mm_sym_lt (by omega)]
/-! the step, by cases -/
theorem mm_st_k {e a : Nat} {s : List Nat} (h : 57 ≤ e) : mm_st G tok nt (e :: s) a = some (s, a) := if_pos h
theorem mm_st_t {e a : Nat} {s : List Nat} (h : e < 57) (ht : mm_sym G e < 10) (hm : mm_sym G e = tok a) : mm_st G tok nt (e :: s) a = some (s, a + 1) :=
  (if_neg (by omega)).trans ((if_pos ht).trans (if_pos hm))
theorem mm_st_f {e a : Nat} {s : List Nat} (h : e < 57) (ht : mm_sym G e < 10) (hm : mm_sym G e ≠ tok a) : mm_st G tok nt (e :: s) a = none :=
  (if_neg (by omega)).trans ((if_pos ht).trans (if_neg hm))
theorem mm_st_0 {e a : Nat} {s : List Nat} (h : e < 57) (ht : 10 ≤ mm_sym G e) (hm : mm_ch G (mm_sym G e - 10) (tok a) = 0) : mm_st G tok nt (e :: s) a = none :=
  (if_neg (by omega)).trans ((if_neg (by omega)).trans (if_pos hm))
theorem mm_st_n {e a p : Nat} {s : List Nat} (h : e < 57) (ht : 10 ≤ mm_sym G e) (hm : mm_ch G (mm_sym G e - 10) (tok a) = p + 1) : mm_st G tok nt (e :: s) a = some (mm_ce G p 0 ++ (mm_mk G nt p a ++ s), a) := by
  show (if 57 ≤ e then _ else if mm_sym G e < 10 then _ else if mm_ch G (mm_sym G e - 10) (tok a) = 0 then _ else _) = _
  rw [if_neg (by omega), if_neg (by omega), if_neg (by omega), hm]
  rfl
/-- what a step can be -/
theorem mm_st_c {e a a' : Nat} {s s' : List Nat} (h : mm_st G tok nt (e :: s) a = some (s', a')) :
    (57 ≤ e ∧ s' = s ∧ a' = a) ∨ (e < 57 ∧ mm_sym G e < 10 ∧ mm_sym G e = tok a ∧ s' = s ∧ a' = a + 1) ∨
    (e < 57 ∧ 10 ≤ mm_sym G e ∧ ∃ p, gg_Ch G (tok a) (mm_sym G e - 10) p ∧ mm_ch G (mm_sym G e - 10) (tok a) = p + 1 ∧ s' = mm_ce G p 0 ++ (mm_mk G nt p a ++ s) ∧ a' = a) := by
  by_cases h1 : 57 ≤ e
  · rw [mm_st_k h1] at h
    injection h with h; injection h with h2 h3
    exact Or.inl ⟨h1, h2.symm, h3.symm⟩
  · by_cases h2 : mm_sym G e < 10
    · by_cases h3 : mm_sym G e = tok a
      · rw [mm_st_t (by omega) h2 h3] at h
        injection h with h; injection h with h4 h5
        exact Or.inr (Or.inl ⟨by omega, h2, h3, h4.symm, h5.symm⟩)
      · rw [mm_st_f (by omega) h2 h3] at h
        cases h
    · cases hc : mm_ch G (mm_sym G e - 10) (tok a) with
      | zero => rw [mm_st_0 (by omega) (by omega) hc] at h; cases h
      | succ p =>
        rw [mm_st_n (by omega) (by omega) hc] at h
        injection h with h; injection h with h4 h5
        exact Or.inr (Or.inr ⟨by omega, by omega, p, mm_ch_s hc, rfl, h4.symm, h5.symm⟩)
theorem mm_it_s : ∀ k σ a, mm_it G tok nt (k + 1) σ a = match mm_it G tok nt k σ a with | none => none | some s => mm_st G tok nt s.1 s.2 := by
  intro k
  induction k with
  | zero =>
    intro σ a
    show (match mm_st G tok nt σ a with | none => none | some s => some (s.1, s.2)) = mm_st G tok nt σ a
    cases mm_st G tok nt σ a <;> rfl
  | succ k ih =>
    intro σ a
    show (match mm_st G tok nt σ a with | none => none | some s => mm_it G tok nt (k + 1) s.1 s.2) = match (match mm_st G tok nt σ a with | none => none | some s => mm_it G tok nt k s.1 s.2) with | none => none | some s => mm_st G tok nt s.1 s.2
    cases h : mm_st G tok nt σ a with
    | none => rfl
    | some s => exact ih s.1 s.2
theorem mm_R_0 : mm_R G tok nt 0 = some ([56], 0) := rfl
theorem mm_R_s {k a : Nat} {σ : List Nat} (h : mm_R G tok nt k = some (σ, a)) : mm_R G tok nt (k + 1) = mm_st G tok nt σ a := by
  unfold mm_R at h ⊢
  rw [mm_it_s, h]
theorem mm_R_n {k : Nat} (h : mm_R G tok nt k = none) : mm_R G tok nt (k + 1) = none := by
  unfold mm_R at h ⊢
  rw [mm_it_s, h]
theorem mm_R_nn {k : Nat} (h : mm_R G tok nt k = none) : ∀ d, mm_R G tok nt (k + d) = none := by
  intro d
  induction d with
  | zero => exact h
  | succ d ih => exact mm_R_n ih
/-- what lies before a state of the run -/
theorem mm_R_p {k a : Nat} {σ : List Nat} (h : mm_R G tok nt (k + 1) = some (σ, a)) : ∃ σ0 a0, mm_R G tok nt k = some (σ0, a0) ∧ mm_st G tok nt σ0 a0 = some (σ, a) := by
  cases h0 : mm_R G tok nt k with
  | none => rw [mm_R_n h0] at h; cases h
  | some s =>
    obtain ⟨σ0, a0⟩ := s
    rw [mm_R_s h0] at h
    exact ⟨σ0, a0, rfl, h⟩
/-- an invariant of the run -/
theorem mm_R_inv {P : List Nat → Nat → Prop} (h0 : P [56] 0) (hs : ∀ σ a σ' a', P σ a → mm_st G tok nt σ a = some (σ', a') → P σ' a') : ∀ k σ a, mm_R G tok nt k = some (σ, a) → P σ a := by
  intro k
  induction k with
  | zero => intro σ a h; rw [mm_R_0] at h; injection h with h; injection h with h1 h2; subst h1 h2; exact h0
  | succ k ih =>
    intro σ a h
    obtain ⟨σ0, a0, h1, h2⟩ := mm_R_p h
    exact hs _ _ _ _ (ih _ _ h1) h2
/-! it halts -/
def mm_H (G : gg_T) (tok : Nat → Nat) (nt : Bool) (σ : List Nat) (a : Nat) : Prop := ∃ k, mm_it G tok nt k σ a = none
theorem mm_H_n {σ : List Nat} {a : Nat} (h : mm_st G tok nt σ a = none) : mm_H G tok nt σ a := by
  refine ⟨1, ?_⟩
  show (match mm_st G tok nt σ a with | none => none | some s => mm_it G tok nt 0 s.1 s.2) = none
  rw [h]
theorem mm_H_s {σ σ' : List Nat} {a a' : Nat} (h : mm_st G tok nt σ a = some (σ', a')) (hh : mm_H G tok nt σ' a') : mm_H G tok nt σ a := by
  obtain ⟨k, hk⟩ := hh
  refine ⟨k + 1, ?_⟩
  show (match mm_st G tok nt σ a with | none => none | some s => mm_it G tok nt k s.1 s.2) = none
  rw [h]; exact hk
theorem mm_H_mk {p a j : Nat} {σ : List Nat} (h : mm_H G tok nt σ a) : mm_H G tok nt (mm_mk G nt p j ++ σ) a := by
  unfold mm_mk
  by_cases hx : nt = true ∧ gg_sc G p = 1
  · rw [if_pos hx]
    exact mm_H_s (mm_st_k (by omega)) h
  · rw [if_neg hx]; exact h
theorem mm_H_t {e a : Nat} {s : List Nat} (h : e < 57) (ht : mm_sym G e < 10) (hC : tok a < 10 → ∀ σ, mm_H G tok nt σ (a + 1)) : mm_H G tok nt (e :: s) a := by
  by_cases hm : mm_sym G e = tok a
  · exact mm_H_s (mm_st_t h ht hm) (hC (by omega) s)
  · exact mm_H_n (mm_st_f h ht hm)
theorem mm_H_l {a k : Nat} {ρ : List Nat} (hC : tok a < 10 → ∀ σ, mm_H G tok nt σ (a + 1))
    (ih : ∀ A, gg_ac G (tok a) k A → ∀ e s, e < 57 → mm_sym G e = A + 10 → (gg_Nu G A → mm_H G tok nt s a) → mm_H G tok nt (e :: s) a) :
    ∀ cs : List Nat, (∀ c, c ∈ cs → c < 56) → gg_hd (gg_Nu G) (gg_ac G (tok a) k) (mm_sl G cs) → (gg_NL G (mm_sl G cs) → mm_H G tok nt ρ a) → mm_H G tok nt (cs ++ ρ) a := by
  intro cs
  induction cs with
  | nil => intro _ _ h; exact h trivial
  | cons c cs ih2 =>
    intro hc hd h
    have hc0 := hc c (List.mem_cons_self ..)
    rw [mm_sl_e (by omega)] at hd h
    by_cases ht : mm_sym G c < 10
    · exact mm_H_t (by omega) ht hC
    · refine ih _ (hd.1 (by omega)) c (cs ++ ρ) (by omega) (by omega) (fun hn => ?_)
      exact ih2 (fun x hx => hc x (List.mem_cons_of_mem _ hx)) (hd.2 ⟨by omega, hn⟩) (fun hl => h ⟨⟨by omega, hn⟩, hl⟩)
theorem mm_H_A (hG : gg_ok G) {a : Nat} (hC : tok a < 10 → ∀ σ, mm_H G tok nt σ (a + 1)) :
    ∀ k A, gg_ac G (tok a) k A → ∀ e s, e < 57 → mm_sym G e = A + 10 → (gg_Nu G A → mm_H G tok nt s a) → mm_H G tok nt (e :: s) a := by
  intro k
  induction k with
  | zero => intro A h; exact h.elim
  | succ k ih =>
    intro A hA e s he hs h
    have hs' : mm_sym G e - 10 = A := by omega
    cases hc : mm_ch G (mm_sym G e - 10) (tok a) with
    | zero => exact mm_H_n (mm_st_0 he (by omega) hc)
    | succ p =>
      refine mm_H_s (mm_st_n he (by omega) hc) ?_
      have hp := mm_ch_s hc
      rw [hs'] at hp
      have hd := hA p hp
      rw [← mm_sl_ce hG hp.1] at hd
      refine mm_H_l hC ih _ (fun c hc => mm_ce_lt hG hp.1 hc) hd (fun hl => mm_H_mk (h ?_))
      rw [mm_sl_ce hG hp.1] at hl
      rw [← hp.2.1]
      exact gg_Nu_i hp.1 hl
theorem mm_H_all (hG : gg_ok G) (L : gg_LL G) (h10 : ∀ a, tok a ≤ 10) {n : Nat} (hn : ∀ a, n ≤ a → tok a = 10) : ∀ d a, n ≤ a + d → ∀ σ, mm_H G tok nt σ a := by
  have hstep : ∀ a, (tok a < 10 → ∀ σ, mm_H G tok nt σ (a + 1)) → ∀ σ, mm_H G tok nt σ a := by
    intro a hC σ
    induction σ with
    | nil => exact mm_H_n rfl
    | cons e s ih =>
      by_cases h1 : 57 ≤ e
      · exact mm_H_s (mm_st_k h1) ih
      · by_cases h2 : mm_sym G e < 10
        · exact mm_H_t (by omega) h2 hC
        · have h16 := mm_sym_16 hG e
          exact mm_H_A hG hC 6 (mm_sym G e - 10) (gg_ac6 hG L (h10 a) (by omega)) e s (by omega) (by omega) (fun _ => ih)
  intro d
  induction d with
  | zero => intro a ha; exact hstep a (fun h => absurd h (by have := hn a ha; omega))
  | succ d ih => intro a ha; exact hstep a (fun _ => ih (a + 1) (by omega))
theorem mm_halt (hG : gg_ok G) (L : gg_LL G) (h10 : ∀ a, tok a ≤ 10) {n : Nat} (hn : ∀ a, n ≤ a → tok a = 10) : ∃ K, mm_R G tok nt K = none := mm_H_all hG L h10 hn n 0 (by omega) [56]
/-! how high the stack can be -/
def mm_cM : List Nat → Nat
  | [] => 0
  | e :: s => (if 57 ≤ e then 1 else 0) + mm_cM s
def mm_cN : List Nat → Nat
  | [] => 0
  | e :: s => (if 57 ≤ e then 0 else 1) + mm_cN s
def mm_cS (a : Nat) : List Nat → Nat
  | [] => 0
  | e :: s => (if e = 57 + a then 1 else 0) + mm_cS a s
theorem mm_c_len : ∀ s : List Nat, s.length = mm_cM s + mm_cN s := by
  intro s
  induction s with
  | nil => rfl
  | cons e s ih =>
    show s.length + 1 = (if 57 ≤ e then 1 else 0) + mm_cM s + ((if 57 ≤ e then 0 else 1) + mm_cN s)
    by_cases h : 57 ≤ e
    · rw [if_pos h, if_pos h]; omega
    · rw [if_neg h, if_neg h]; omega
def mm_nu (G : gg_T) (e : Nat) : Prop := 57 ≤ e ∨ (10 ≤ mm_sym G e ∧ gg_Nu G (mm_sym G e - 10))
def mm_lv (G : gg_T) (tok : Nat → Nat) (a : Nat) : Prop → List Nat → Prop
  | _, [] => True
  | nb, e :: r => (∃ l, l ≤ 6 * a + 6 ∧ mm_cN r ≤ 3 * l ∧ mm_cM (e :: r) ≤ l ∧ mm_cS a (e :: r) ≤ l - 6 * a ∧
      (nb → 6 * a < l → e < 57 → 10 ≤ mm_sym G e → gg_ac G (tok a) (6 * a + 6 - l) (mm_sym G e - 10))) ∧ e ≤ 57 + a ∧ mm_lv G tok a (nb ∧ mm_nu G e) r
theorem mm_lv_mono {a : Nat} : ∀ (r : List Nat) (nb nb' : Prop), (nb' → nb) → mm_lv G tok a nb r → mm_lv G tok a nb' r := by
  intro r
  induction r with
  | nil => intro _ _ _ _; trivial
  | cons e r ih =>
    intro nb nb' hn ⟨⟨l, h1, h2, h3, h4, h5⟩, h6, h7⟩
    exact ⟨⟨l, h1, h2, h3, h4, fun hb => h5 (hn hb)⟩, h6, ih _ _ (fun ⟨x, y⟩ => ⟨hn x, y⟩) h7⟩
theorem mm_lv_S {a : Nat} : ∀ (r : List Nat) (nb : Prop), mm_lv G tok a nb r → mm_cS (a + 1) r = 0 := by
  intro r
  induction r with
  | nil => intro _ _; rfl
  | cons e r ih =>
    intro nb ⟨_, h6, h7⟩
    show (if e = 57 + (a + 1) then 1 else 0) + mm_cS (a + 1) r = 0
    rw [if_neg (by omega), ih _ h7]
theorem mm_lv_a {a : Nat} : ∀ (r : List Nat) (nb nb' : Prop), mm_lv G tok a nb r → mm_lv G tok (a + 1) nb' r := by
  intro r
  induction r with
  | nil => intro _ _ _; trivial
  | cons e r ih =>
    intro nb nb' h
    have hS := mm_lv_S _ _ h
    obtain ⟨⟨l, h1, h2, h3, h4, h5⟩, h6, h7⟩ := h
    refine ⟨⟨l, by omega, h2, h3, by rw [hS]; omega, fun _ hl => absurd hl (by omega)⟩, by omega, ih _ _ h7⟩
theorem mm_cN_cs {X : List Nat} : ∀ cs : List Nat, (∀ c, c ∈ cs → c < 56) → mm_cN (cs ++ X) = cs.length + mm_cN X := by
  intro cs
  induction cs with
  | nil => intro _; exact (Nat.zero_add _).symm
  | cons c cs ih =>
    intro h
    have hc := h c (List.mem_cons_self ..)
    show (if 57 ≤ c then 0 else 1) + mm_cN (cs ++ X) = cs.length + 1 + mm_cN X
    rw [if_neg (by omega), ih (fun x hx => h x (List.mem_cons_of_mem _ hx))]; omega
theorem mm_cM_cs {X : List Nat} : ∀ cs : List Nat, (∀ c, c ∈ cs → c < 56) → mm_cM (cs ++ X) = mm_cM X := by
  intro cs
  induction cs with
  | nil => intro _; rfl
  | cons c cs ih =>
    intro h
    have hc := h c (List.mem_cons_self ..)
    show (if 57 ≤ c then 1 else 0) + mm_cM (cs ++ X) = mm_cM X
    rw [if_neg (by omega), ih (fun x hx => h x (List.mem_cons_of_mem _ hx)), Nat.zero_add]
theorem mm_cS_cs {a : Nat} {X : List Nat} : ∀ cs : List Nat, (∀ c, c ∈ cs → c < 56) → mm_cS a (cs ++ X) = mm_cS a X := by
  intro cs
  induction cs with
  | nil => intro _; rfl
  | cons c cs ih =>
    intro h
    have hc := h c (List.mem_cons_self ..)
    show (if c = 57 + a then 1 else 0) + mm_cS a (cs ++ X) = mm_cS a X
    rw [if_neg (by omega), ih (fun x hx => h x (List.mem_cons_of_mem _ hx)), Nat.zero_add]
theorem mm_lv_cs {a k l : Nat} {X : List Nat} (hl : l ≤ 6 * a + 6) (hk : 6 * a + 6 - l = k) (hN : mm_cN X + 3 ≤ 3 * l) (hM : mm_cM X ≤ l) (hS : mm_cS a X ≤ l - 6 * a) :
    ∀ (cs : List Nat) (nb : Prop), cs.length ≤ 4 → (∀ c, c ∈ cs → c < 56) → (nb → gg_hd (gg_Nu G) (gg_ac G (tok a) k) (mm_sl G cs)) → mm_lv G tok a (nb ∧ gg_NL G (mm_sl G cs)) X → mm_lv G tok a nb (cs ++ X) := by
  intro cs
  induction cs with
  | nil => intro nb _ _ _ h; exact mm_lv_mono _ _ _ (fun h => ⟨h, trivial⟩) h
  | cons c cs ih =>
    intro nb hlen hc hd h
    have hc0 := hc c (List.mem_cons_self ..)
    have hc1 : ∀ x, x ∈ cs → x < 56 := fun x hx => hc x (List.mem_cons_of_mem _ hx)
    have hlen' : cs.length + 1 ≤ 4 := hlen
    have eN := mm_cN_cs (X := X) cs hc1
    have eM := mm_cM_cs (X := X) (c :: cs) hc
    have eS := mm_cS_cs (a := a) (X := X) (c :: cs) hc
    refine ⟨⟨l, hl, (by show mm_cN (cs ++ X) ≤ 3 * l; omega), ?_, ?_, ?_⟩, by omega, ?_⟩
    · show mm_cM ((c :: cs) ++ X) ≤ l
      omega
    · show mm_cS a ((c :: cs) ++ X) ≤ l - 6 * a
      omega
    · intro hb _ _ h10
      have := hd hb
      rw [mm_sl_e (by omega)] at this
      rw [hk]
      exact this.1 h10
    · refine ih _ (by omega) hc1 ?_ ?_
      · intro ⟨hb, hn⟩
        have := hd hb
        rw [mm_sl_e (by omega)] at this
        rcases hn with hn | hn
        · omega
        · exact this.2 hn
      · refine mm_lv_mono _ _ _ ?_ h
        intro ⟨⟨hb, hn⟩, hl⟩
        refine ⟨hb, ?_⟩
        rw [mm_sl_e (by omega)]
        rcases hn with hn | hn
        · omega
        · exact ⟨hn, hl⟩
theorem mm_lv_st (hG : gg_ok G) (L : gg_LL G) (h10 : ∀ a, tok a ≤ 10) {σ σ' : List Nat} {a a' : Nat} (h : mm_lv G tok a True σ) (hs : mm_st G tok nt σ a = some (σ', a')) : mm_lv G tok a' True σ' := by
  cases σ with
  | nil => cases hs
  | cons e s =>
    obtain ⟨⟨l, h1, h2, h3, h4, h5⟩, h6, h7⟩ := h
    rcases mm_st_c hs with ⟨c1, c2, c3⟩ | ⟨c1, c2, c3, c4, c5⟩ | ⟨c1, c2, p, c3, c4, c5, c6⟩
    · subst c2 c3
      exact mm_lv_mono _ _ _ (fun _ => ⟨trivial, Or.inl c1⟩) h7
    · subst c4 c5
      exact mm_lv_a _ _ _ h7
    · subst c5 c6
      have h16 := mm_sym_16 hG e
      have hcs : ∀ c, c ∈ mm_ce G p 0 → c < 56 := fun c hc => mm_ce_lt hG c3.1 hc
      have hlen : (mm_ce G p 0).length ≤ 4 := by
        rw [mm_ce_len]
        have := hG.2.2.1 p
        omega
      have hMs : mm_cM s ≤ l := by
        have : mm_cM (e :: s) = (if 57 ≤ e then 1 else 0) + mm_cM s := rfl
        omega
      have hSs : mm_cS a' s ≤ l - 6 * a' := by
        have : mm_cS a' (e :: s) = (if e = 57 + a' then 1 else 0) + mm_cS a' s := rfl
        omega
      have hk : ∃ k l', l' ≤ 6 * a' + 6 ∧ 6 * a' + 6 - l' = k ∧ l + 1 ≤ l' ∧ 6 * a' + 1 ≤ l' ∧ gg_ac G (tok a') (k + 1) (mm_sym G e - 10) := by
        by_cases hl : 6 * a' < l
        · have h8 := h5 trivial hl c1 c2
          have h9 : 6 * a' + 6 - l ≠ 0 := by
            intro h0
            rw [h0] at h8
            exact h8.elim
          obtain ⟨k, hk⟩ : ∃ k, 6 * a' + 6 - l = k + 1 := ⟨6 * a' + 6 - l - 1, by omega⟩
          rw [hk] at h8
          exact ⟨k, l + 1, by omega, by omega, by omega, by omega, h8⟩
        · exact ⟨5, 6 * a' + 1, by omega, by omega, by omega, by omega, gg_ac6 hG L (h10 a') (by omega)⟩
      obtain ⟨k, l', k1, k2, k3, k4, k5⟩ := hk
      have hd := k5 p c3
      rw [← mm_sl_ce hG c3.1] at hd
      have hNu : gg_NL G (mm_sl G (mm_ce G p 0)) → mm_nu G e := by
        intro hl
        rw [mm_sl_ce hG c3.1] at hl
        refine Or.inr ⟨c2, ?_⟩
        rw [← c3.2.1]
        exact gg_Nu_i c3.1 hl
      by_cases hx : nt = true ∧ gg_sc G p = 1
      · have em : mm_mk G nt p a' = [57 + a'] := if_pos hx
        rw [em]
        have eM : mm_cM ([57 + a'] ++ s) = 1 + mm_cM s := by
          show (if 57 ≤ 57 + a' then 1 else 0) + mm_cM s = _
          rw [if_pos (by omega)]
        have eN : mm_cN ([57 + a'] ++ s) = mm_cN s := by
          show (if 57 ≤ 57 + a' then 0 else 1) + mm_cN s = _
          rw [if_pos (by omega), Nat.zero_add]
        have eS : mm_cS a' ([57 + a'] ++ s) = 1 + mm_cS a' s := by
          show (if 57 + a' = 57 + a' then 1 else 0) + mm_cS a' s = _
          rw [if_pos rfl]
        refine mm_lv_cs k1 k2 (by omega) (by omega) (by omega) _ _ hlen hcs (fun _ => hd) ?_
        refine ⟨⟨l', k1, (by show mm_cN s ≤ 3 * l'; omega), ?_, ?_, fun _ _ hc => absurd hc (by omega)⟩, by omega, ?_⟩
        · show mm_cM ([57 + a'] ++ s) ≤ l'
          omega
        · show mm_cS a' ([57 + a'] ++ s) ≤ l' - 6 * a'
          omega
        · exact mm_lv_mono _ _ _ (fun ⟨⟨_, hl⟩, _⟩ => ⟨trivial, hNu hl⟩) h7
      · have em : mm_mk G nt p a' = [] := if_neg hx
        rw [em]
        refine mm_lv_cs k1 k2 ?_ ?_ ?_ _ _ hlen hcs (fun _ => hd) ?_
        · show mm_cN s + 3 ≤ 3 * l'
          omega
        · show mm_cM s ≤ l'
          omega
        · show mm_cS a' s ≤ l' - 6 * a'
          omega
        · exact mm_lv_mono _ _ _ (fun ⟨_, hl⟩ => ⟨trivial, hNu hl⟩) h7
theorem mm_lv_R (hG : gg_ok G) (L : gg_LL G) (h10 : ∀ a, tok a ≤ 10) : ∀ k σ a, mm_R G tok nt k = some (σ, a) → mm_lv G tok a True σ := by
  refine mm_R_inv ?_ ?_
  · exact ⟨⟨0, by omega, Nat.le_refl _, Nat.le_refl _, Nat.le_refl _, fun _ h => absurd h (by omega)⟩, by omega, trivial⟩
  · intro σ a σ' a' h hs
    exact mm_lv_st hG L h10 h hs
theorem mm_bd (hG : gg_ok G) (L : gg_LL G) (h10 : ∀ a, tok a ≤ 10) {k a : Nat} {σ : List Nat} (h : mm_R G tok nt k = some (σ, a)) (ha : a ≤ 20) :
    σ.length ≤ 505 ∧ mm_cM σ ≤ 126 ∧ mm_cN σ ≤ 379 ∧ mm_cS a σ ≤ 6 := by
  have hl := mm_lv_R hG L h10 k σ a h
  rw [mm_c_len]
  cases σ with
  | nil => exact ⟨by decide, by decide, by decide, Nat.zero_le _⟩
  | cons e s =>
    obtain ⟨⟨l, h1, h2, h3, h4, _⟩, _, _⟩ := hl
    have : mm_cN (e :: s) ≤ 1 + mm_cN s := by
      show (if 57 ≤ e then 0 else 1) + mm_cN s ≤ _
      by_cases h : 57 ≤ e
      · rw [if_pos h]; omega
      · rw [if_neg h]; omega
    omega
/-- each entry is at most 57 + the place -/
theorem mm_lv_le {a : Nat} : ∀ (σ : List Nat) (nb : Prop), mm_lv G tok a nb σ → ∀ e, e ∈ σ → e ≤ 57 + a := by
  intro σ
  induction σ with
  | nil => intro _ _ e he; cases he
  | cons x s ih =>
    intro nb ⟨_, h6, h7⟩ e he
    rcases List.mem_cons.mp he with rfl | he
    · exact h6
    · exact ih _ h7 e he
/-- the place stays within the text -/
theorem mm_pl {n : Nat} (hn : ∀ a, n ≤ a → tok a = 10) : ∀ k σ a, mm_R G tok nt k = some (σ, a) → a ≤ n := by
  refine mm_R_inv ?_ ?_
  · omega
  · intro σ a σ' a' h hs
    cases σ with
    | nil => cases hs
    | cons e s =>
      rcases mm_st_c hs with ⟨c1, c2, c3⟩ | ⟨c1, c2, c3, c4, c5⟩ | ⟨c1, c2, p, c3, c4, c5, c6⟩
      · omega
      · have : ¬ n ≤ a := fun h => by have := hn a h; omega
        omega
      · omega
end MM
end
section
/-! the run against the derivations -/
def mm_VA (G : gg_T) (A : Nat) (l : List Nat) : Prop := (∀ t, gg_FL G t l → gg_Fo G t A) ∧ (gg_NL G l → gg_Fo G 10 A)
def mm_vd (G : gg_T) : List Nat → Prop
  | [] => True
  | e :: s => (e < 57 → 10 ≤ mm_sym G e → mm_VA G (mm_sym G e - 10) (mm_sl G s)) ∧ mm_vd G s
section RR
variable {G : gg_T} {tok : Nat → Nat} {nt : Bool}
theorem mm_vd_mk {p a : Nat} {s : List Nat} (h : mm_vd G s) : mm_vd G (mm_mk G nt p a ++ s) := by
  unfold mm_mk
  by_cases hx : nt = true ∧ gg_sc G p = 1
  · rw [if_pos hx]
    exact ⟨fun h => absurd h (by omega), h⟩
  · rw [if_neg hx]; exact h
theorem mm_vd_ce (hG : gg_ok G) {p a : Nat} {s : List Nat} (hp : p < gg_np G) (hs : mm_vd G s) (hV : mm_VA G (gg_ru G p) (mm_sl G s)) : ∀ m, mm_vd G (mm_ce G p m ++ (mm_mk G nt p a ++ s)) := by
  refine gg_sl_ind (G := G) (p := p) ?_ ?_
  · intro m hm
    rw [mm_ce_n hm]
    exact mm_vd_mk hs
  · intro m hm ih
    have h2 := hG.1
    have h3 := hG.2.2.1 p
    rw [mm_ce_c hm]
    refine ⟨fun _ h10 => ?_, ih⟩
    rw [mm_sym_lt (by omega)] at h10 ⊢
    show mm_VA G _ (mm_sl G (mm_ce G p (m + 1) ++ (mm_mk G nt p a ++ s)))
    rw [mm_sl_app, mm_sl_app, mm_sl_mk, mm_sl_ce hG hp]
    constructor
    · intro t ht
      rcases (gg_fl_app _ _).mp ht with ht | ⟨hn, ht⟩
      · exact gg_Fo_f hp hm (by omega) ht
      · exact gg_Fo_n hp hm (by omega) hn (hV.1 t ht)
    · intro hn
      have := (gg_nl_app _ _).mp hn
      exact gg_Fo_n hp hm (by omega) this.1 (hV.2 this.2)
theorem mm_vd_R (hG : gg_ok G) : ∀ k σ a, mm_R G tok nt k = some (σ, a) → mm_vd G σ := by
  refine mm_R_inv ?_ ?_
  · refine ⟨fun _ _ => ?_, trivial⟩
    exact ⟨fun t h => h.elim, fun _ => gg_Fo_0⟩
  · intro σ a σ' a' h hs
    cases σ with
    | nil => cases hs
    | cons e s =>
      rcases mm_st_c hs with ⟨c1, c2, c3⟩ | ⟨c1, c2, c3, c4, c5⟩ | ⟨c1, c2, p, c3, c4, c5, c6⟩
      · subst c2; exact h.2
      · subst c4; exact h.2
      · subst c5
        refine mm_vd_ce hG c3.1 h.2 ?_ 0
        rw [c3.2.1]
        exact h.1 c1 c2
/-- the expansion that a derivation takes is the machine's -/
theorem mm_pd {n a b x p : Nat} {l : List Nat} (hn : tok n = 10) (hV : mm_VA G (x - 10) l) (hr : gg_ru G p = x - 10) (h1 : dd_E G tok (gg_sl G p 0) a b) (h2 : dd_E G tok l b n) : gg_Pd G (tok a) p := by
  have hab := de_le h1
  by_cases h : a < b
  · exact Or.inl (de_first h1 h)
  · have e : a = b := by omega
    subst e
    refine Or.inr ⟨de_null h1, ?_⟩
    rw [hr]
    have han := de_le h2
    by_cases h : a < n
    · exact hV.1 _ (de_first h2 h)
    · have e : a = n := by omega
      subst e
      rw [hn]
      exact hV.2 (de_null h2)
theorem mm_prog (hG : gg_ok G) (L : gg_LL G) (h10 : ∀ a, tok a ≤ 10) {n a j e : Nat} {u r : List Nat} (hn : tok n = 10) (hv : mm_vd G (e :: (u ++ r))) (h1 : dd_E G tok (mm_sl G (e :: u)) a j) (h2 : dd_E G tok (mm_sl G r) j n) :
    ∃ u' a', mm_st G tok nt (e :: (u ++ r)) a = some (u' ++ r, a') ∧ dd_E G tok (mm_sl G u') a' j := by
  by_cases he : 57 ≤ e
  · rw [mm_sl_k he] at h1
    exact ⟨u, a, mm_st_k he, h1⟩
  · rw [mm_sl_e (by omega)] at h1
    by_cases ht : mm_sym G e < 10
    · have := (de_t ht).mp h1
      exact ⟨u, a + 1, mm_st_t (by omega) ht this.1.symm, this.2⟩
    · obtain ⟨p, p1, p2, p3⟩ := (de_n (by omega)).mp h1
      obtain ⟨b, b1, b2⟩ := de_app.mp p3
      have hV := hv.1 (by omega) (by omega)
      rw [mm_sl_app] at hV
      have hp := mm_pd hn hV p2 b1 (de_app.mpr ⟨j, b2, h2⟩)
      have hc := mm_ch_i L (h10 a) ⟨p1, p2, hp⟩
      refine ⟨mm_ce G p 0 ++ (mm_mk G nt p a ++ u), a, ?_, ?_⟩
      · rw [mm_st_n (by omega) (by omega) hc, List.append_assoc, List.append_assoc]
      · rw [mm_sl_app, mm_sl_app, mm_sl_mk, mm_sl_ce hG p1]
        exact p3
theorem mm_progV (hG : gg_ok G) (L : gg_LL G) (h10 : ∀ a, tok a ≤ 10) {k a : Nat} {σ : List Nat} (hv : mm_vd G σ) (h1 : dd_V G tok k (mm_sl G σ) a) (hk : a ≠ k) :
    ∃ s' a', mm_st G tok nt σ a = some (s', a') ∧ dd_V G tok k (mm_sl G s') a' := by
  cases σ with
  | nil => exact absurd (dv_nil.mp h1) hk
  | cons e s =>
    by_cases he : 57 ≤ e
    · rw [mm_sl_k he] at h1
      exact ⟨s, a, mm_st_k he, h1⟩
    · rw [mm_sl_e (by omega)] at h1
      by_cases ht : mm_sym G e < 10
      · have := (dv_t ht hk).mp h1
        exact ⟨s, a + 1, mm_st_t (by omega) ht this.1.symm, this.2⟩
      · obtain ⟨p, p1, p2, p3⟩ := (dv_n (by omega) hk).mp h1
        have hV := hv.1 (by omega) (by omega)
        have hp : gg_Pd G (tok a) p := by
          rcases (gg_fl_app _ _).mp (dv_first p3 hk) with h | ⟨h, h'⟩
          · exact Or.inl h
          · exact Or.inr ⟨h, by rw [p2]; exact hV.1 _ h'⟩
        have hc := mm_ch_i L (h10 a) ⟨p1, p2, hp⟩
        refine ⟨_, a, mm_st_n (by omega) (by omega) hc, ?_⟩
        rw [mm_sl_app, mm_sl_app, mm_sl_mk, mm_sl_ce hG p1]
        exact p3
/-- the run comes back to r, at the place that the derivation says -/
theorem mm_ret (hG : gg_ok G) (L : gg_LL G) (h10 : ∀ a, tok a ≤ 10) {n j : Nat} {r : List Nat} (hn : tok n = 10) (h2 : dd_E G tok (mm_sl G r) j n) :
    ∀ d k u a, mm_R G tok nt (k + d) = none → mm_R G tok nt k = some (u ++ r, a) → dd_E G tok (mm_sl G u) a j → ∃ k', k ≤ k' ∧ mm_R G tok nt k' = some (r, j) := by
  intro d
  induction d with
  | zero => intro k u a h1 h3; rw [Nat.add_zero] at h1; rw [h1] at h3; cases h3
  | succ d ih =>
    intro k u a h1 h3 h4
    cases u with
    | nil =>
      have e := de_nil.mp h4
      subst e
      exact ⟨k, Nat.le_refl k, h3⟩
    | cons e u =>
      obtain ⟨u', a', p1, p2⟩ := mm_prog (nt := nt) hG L h10 hn (mm_vd_R hG k _ _ h3) h4 h2
      obtain ⟨k', k1, k2⟩ := ih (k + 1) u' a' (by rw [← h1]; congr 1; omega) (by rw [mm_R_s h3]; exact p1) p2
      exact ⟨k', by omega, k2⟩
/-- a split of the stack has one place -/
theorem mm_uni (hG : gg_ok G) (L : gg_LL G) (h10 : ∀ a, tok a ≤ 10) {n j j' : Nat} {r : List Nat} (hn : tok n = 10) (h2 : dd_E G tok (mm_sl G r) j n) (h2' : dd_E G tok (mm_sl G r) j' n) :
    ∀ d k u a, mm_R G tok nt (k + d) = none → mm_R G tok nt k = some (u ++ r, a) → dd_E G tok (mm_sl G u) a j → dd_E G tok (mm_sl G u) a j' → j = j' := by
  intro d
  induction d with
  | zero => intro k u a h1 h3; rw [Nat.add_zero] at h1; rw [h1] at h3; cases h3
  | succ d ih =>
    intro k u a h1 h3 h4 h4'
    cases u with
    | nil => exact (de_nil.mp h4).symm.trans (de_nil.mp h4')
    | cons e u =>
      obtain ⟨u', a', p1, p2⟩ := mm_prog (nt := nt) hG L h10 hn (mm_vd_R hG k _ _ h3) h4 h2
      obtain ⟨v', b', q1, q2⟩ := mm_prog (nt := nt) hG L h10 hn (mm_vd_R hG k _ _ h3) h4' h2'
      rw [p1] at q1
      injection q1 with q1
      injection q1 with q3 q4
      have q5 := List.append_cancel_right q3
      subst q4 q5
      exact ih (k + 1) u' a' (by rw [← h1]; congr 1; omega) (by rw [mm_R_s h3]; exact p1) p2 q2
/-- backwards: what the stack derives, the start derives -/
theorem mm_back (hG : gg_ok G) : ∀ k σ a, mm_R G tok nt k = some (σ, a) → (∀ b, dd_E G tok (mm_sl G σ) a b → dd_E G tok [10] 0 b) ∧ (∀ q, dd_V G tok q (mm_sl G σ) a → dd_V G tok q [10] 0) := by
  refine mm_R_inv ?_ ?_
  · exact ⟨fun b h => h, fun q h => h⟩
  · intro σ a σ' a' h hs
    cases σ with
    | nil => cases hs
    | cons e s =>
      rcases mm_st_c hs with ⟨c1, c2, c3⟩ | ⟨c1, c2, c3, c4, c5⟩ | ⟨c1, c2, p, c3, c4, c5, c6⟩
      · subst c2 c3
        rw [mm_sl_k c1] at h
        exact h
      · subst c4 c5
        rw [mm_sl_e c1] at h
        refine ⟨fun b hb => h.1 b ((de_t c2).mpr ⟨c3.symm, hb⟩), fun q hq => h.2 q ?_⟩
        by_cases ha : a = q
        · subst ha; exact dv_k
        · exact (dv_t c2 ha).mpr ⟨c3.symm, hq⟩
      · subst c5 c6
        rw [mm_sl_e c1] at h
        rw [mm_sl_app, mm_sl_app, mm_sl_mk, mm_sl_ce hG c3.1]
        refine ⟨fun b hb => h.1 b ((de_n c2).mpr ⟨p, c3.1, c3.2.1, hb⟩), fun q hq => h.2 q ?_⟩
        by_cases ha : a' = q
        · subst ha; exact dv_k
        · exact (dv_n c2 ha).mpr ⟨p, c3.1, c3.2.1, hq⟩
theorem mm_backV (hG : gg_ok G) {k a : Nat} {σ : List Nat} (h : mm_R G tok nt k = some (σ, a)) : dd_V G tok a [10] 0 := (mm_back hG k σ a h).2 a dv_k
theorem mm_backE (hG : gg_ok G) {k a : Nat} (h : mm_R G tok nt k = some ([], a)) : dd_E G tok [10] 0 a := (mm_back hG k [] a h).1 a (de_nil.mpr rfl)
/-- forwards: a place that can be reached is reached -/
theorem mm_fwdV (hG : gg_ok G) (L : gg_LL G) (h10 : ∀ a, tok a ≤ 10) {q : Nat} :
    ∀ d k σ a, mm_R G tok nt (k + d) = none → mm_R G tok nt k = some (σ, a) → dd_V G tok q (mm_sl G σ) a → ∃ k' σ', k ≤ k' ∧ mm_R G tok nt k' = some (σ', q) := by
  intro d
  induction d with
  | zero => intro k σ a h1 h3; rw [Nat.add_zero] at h1; rw [h1] at h3; cases h3
  | succ d ih =>
    intro k σ a h1 h3 h4
    by_cases ha : a = q
    · subst ha; exact ⟨k, σ, Nat.le_refl k, h3⟩
    · obtain ⟨s', a', p1, p2⟩ := mm_progV (nt := nt) hG L h10 (mm_vd_R hG k _ _ h3) h4 ha
      obtain ⟨k', σ', k1, k2⟩ := ih (k + 1) s' a' (by rw [← h1]; congr 1; omega) (by rw [mm_R_s h3]; exact p1) p2
      exact ⟨k', σ', by omega, k2⟩
theorem mm_sl_56 : mm_sl G [56] = [10] := rfl
theorem mm_fwd (hG : gg_ok G) (L : gg_LL G) (h10 : ∀ a, tok a ≤ 10) {n q : Nat} (hn : ∀ a, n ≤ a → tok a = 10) (h : dd_V G tok q [10] 0) : ∃ k σ, mm_R G tok nt k = some (σ, q) := by
  obtain ⟨K, hK⟩ := mm_halt (nt := nt) hG L h10 hn
  obtain ⟨k, σ, _, h⟩ := mm_fwdV (nt := nt) hG L h10 K 0 [56] 0 (by rw [Nat.zero_add]; exact hK) mm_R_0 h
  exact ⟨k, σ, h⟩
theorem mm_whole (hG : gg_ok G) (L : gg_LL G) (h10 : ∀ a, tok a ≤ 10) {n : Nat} (hn : ∀ a, n ≤ a → tok a = 10) (h : dd_E G tok [10] 0 n) : ∃ k, mm_R G tok nt k = some ([], n) := by
  obtain ⟨K, hK⟩ := mm_halt (nt := nt) hG L h10 hn
  obtain ⟨k, _, h⟩ := mm_ret (nt := nt) (r := []) hG L h10 (hn n (Nat.le_refl n)) (de_nil.mpr rfl) K 0 [56] 0 (by rw [Nat.zero_add]; exact hK) mm_R_0 h
  exact ⟨k, h⟩
/-- places only grow -/
theorem mm_mono {k a : Nat} {σ : List Nat} (h : mm_R G tok nt k = some (σ, a)) : ∀ d σ' a', mm_R G tok nt (k + d) = some (σ', a') → a ≤ a' := by
  intro d
  induction d with
  | zero => intro σ' a' h'; rw [Nat.add_zero, h] at h'; injection h' with h'; injection h' with _ h'; omega
  | succ d ih =>
    intro σ' a' h'
    obtain ⟨σ0, a0, h1, h2⟩ := mm_R_p (k := k + d) h'
    have := ih σ0 a0 h1
    cases σ0 with
    | nil => cases h2
    | cons e s =>
      rcases mm_st_c h2 with ⟨c1, c2, c3⟩ | ⟨c1, c2, c3, c4, c5⟩ | ⟨c1, c2, p, c3, c4, c5, c6⟩ <;> omega
/-- the last state -/
theorem mm_last : ∀ K, mm_R G tok nt K = none → ∃ k σ a, mm_R G tok nt k = some (σ, a) ∧ mm_st G tok nt σ a = none := by
  intro K
  induction K with
  | zero => intro h; rw [mm_R_0] at h; cases h
  | succ K ih =>
    intro h
    cases hK : mm_R G tok nt K with
    | none => exact ih hK
    | some s =>
      obtain ⟨σ, a⟩ := s
      exact ⟨K, σ, a, hK, by rw [← mm_R_s hK]; exact h⟩
/-- once it has stopped, no later state -/
theorem mm_stop {k a k' a' : Nat} {σ σ' : List Nat} (h : mm_R G tok nt k = some (σ, a)) (hs : mm_st G tok nt σ a = none) (h' : mm_R G tok nt k' = some (σ', a')) : k' ≤ k := by
  apply Classical.byContradiction
  intro hk
  have h1 : mm_R G tok nt (k + 1) = none := by rw [mm_R_s h]; exact hs
  have h2 := mm_R_nn h1 (k' - (k + 1))
  rw [show k + 1 + (k' - (k + 1)) = k' by omega, h'] at h2
  cases h2
theorem mm_le {k a k' a' : Nat} {σ σ' : List Nat} (h : mm_R G tok nt k = some (σ, a)) (h' : mm_R G tok nt k' = some (σ', a')) (hk : k ≤ k') : a ≤ a' := by
  refine mm_mono h (k' - k) σ' a' ?_
  rw [show k + (k' - k) = k' by omega]; exact h'
/-- the text is no sentence: the run ends at the greatest place that can be reached -/
theorem mm_fault (hG : gg_ok G) (L : gg_LL G) (h10 : ∀ a, tok a ≤ 10) {n k a : Nat} {σ : List Nat} (hn : ∀ a, n ≤ a → tok a = 10) (h : mm_R G tok nt k = some (σ, a)) (hs : mm_st G tok nt σ a = none) :
    (dd_E G tok [10] 0 n ↔ σ = [] ∧ a = n) ∧ (∀ q, dd_V G tok q [10] 0 ↔ ∃ k' σ', mm_R G tok nt k' = some (σ', q)) ∧ (∀ q, dd_V G tok q [10] 0 → q ≤ a) := by
  refine ⟨⟨fun hE => ?_, fun ⟨h1, h2⟩ => ?_⟩, fun q => ⟨fun hV => mm_fwd hG L h10 hn hV, fun ⟨k', σ', h'⟩ => mm_backV hG h'⟩, fun q hV => ?_⟩
  · obtain ⟨k', h'⟩ := mm_whole (nt := nt) hG L h10 hn hE
    have e1 := mm_stop h hs h'
    have e2 := mm_stop h' rfl h
    have e : k = k' := by omega
    subst e
    rw [h] at h'
    injection h' with h'
    injection h' with h1 h2
    exact ⟨h1, h2⟩
  · subst h1 h2
    exact mm_backE hG h
  · obtain ⟨k', σ', h'⟩ := mm_fwd (nt := nt) hG L h10 hn hV
    exact mm_le h' h (mm_stop h hs h')
/-- in a sentence every state derives the rest -/
theorem mm_sent (hG : gg_ok G) (L : gg_LL G) (h10 : ∀ a, tok a ≤ 10) {n : Nat} (hn : tok n = 10) (hE : dd_E G tok [10] 0 n) : ∀ k σ a, mm_R G tok nt k = some (σ, a) → mm_vd G σ ∧ dd_E G tok (mm_sl G σ) a n := by
  refine mm_R_inv ?_ ?_
  · exact ⟨mm_vd_R (tok := tok) (nt := nt) hG 0 _ _ mm_R_0, hE⟩
  · intro σ a σ' a' h hs
    cases σ with
    | nil => cases hs
    | cons e s =>
      have h1 := h.2
      obtain ⟨u', b, p1, p2⟩ := mm_prog (nt := nt) (u := s) (r := []) hG L h10 hn (by rw [List.append_nil]; exact h.1) h1 (de_nil.mpr rfl)
      rw [List.append_nil, List.append_nil, hs] at p1
      injection p1 with p1
      injection p1 with p3 p4
      subst p3 p4
      refine ⟨?_, p2⟩
      rcases mm_st_c hs with ⟨c1, c2, c3⟩ | ⟨c1, c2, c3, c4, c5⟩ | ⟨c1, c2, p, c3, c4, c5, c6⟩
      · subst c2; exact h.1.2
      · subst c4; exact h.1.2
      · subst c5
        refine mm_vd_ce hG c3.1 h.1.2 ?_ 0
        rw [c3.2.1]
        exact h.1.1 c1 c2
end RR
end
section
/-! what a state of the run has planned: scopes (57 + i to be taken at place j) and leaves (cell c to be taken at place j) -/
def gg_sr (G : gg_T) (p m : Nat) : List Nat := (List.range m).map (fun i => gg_sy G (4 * p + i))
def mm_cr (p m : Nat) : List Nat := (List.range m).map (fun i => 4 * p + i)
theorem gg_sr_s {G : gg_T} {p m : Nat} : gg_sr G p (m + 1) = gg_sr G p m ++ [gg_sy G (4 * p + m)] := by
  unfold gg_sr; rw [List.range_succ, List.map_append]; rfl
theorem mm_cr_s {p m : Nat} : mm_cr p (m + 1) = mm_cr p m ++ [4 * p + m] := by
  unfold mm_cr; rw [List.range_succ, List.map_append]; rfl
theorem gg_sr_sl {G : gg_T} {p : Nat} : ∀ m, m ≤ gg_ln G p → gg_sr G p m ++ gg_sl G p m = gg_sl G p 0 := by
  intro m
  induction m with
  | zero => intro _; rfl
  | succ m ih => intro h; rw [gg_sr_s, List.append_assoc, List.singleton_append, ← gg_sl_c (by omega)]; exact ih (by omega)
theorem mm_cr_ce {G : gg_T} {p : Nat} : ∀ m, m ≤ gg_ln G p → mm_cr p m ++ mm_ce G p m = mm_ce G p 0 := by
  intro m
  induction m with
  | zero => intro _; rfl
  | succ m ih => intro h; rw [mm_cr_s, List.append_assoc, List.singleton_append, ← mm_ce_c (by omega)]; exact ih (by omega)
theorem mm_sl_cr {G : gg_T} {p : Nat} (hp : p < 14) : ∀ m, m ≤ 4 → mm_sl G (mm_cr p m) = gg_sr G p m := by
  intro m
  induction m with
  | zero => intro _; rfl
  | succ m ih =>
    intro h
    rw [mm_cr_s, gg_sr_s, mm_sl_app, ih (by omega), mm_sl_e (by omega), mm_sym_lt (by omega)]; rfl
theorem pl_cut {x : Nat} {X r : List Nat} : ∀ (cs u : List Nat), x ∉ cs → cs ++ X = u ++ x :: r → ∃ u', u = cs ++ u' ∧ X = u' ++ x :: r := by
  intro cs
  induction cs with
  | nil => intro u _ h; exact ⟨u, rfl, h⟩
  | cons c cs ih =>
    intro u hx h
    cases u with
    | nil => injection h with h1 _; exact absurd (by rw [h1]; exact List.mem_cons_self ..) hx
    | cons y u =>
      injection h with h1 h2
      obtain ⟨u', e1, e2⟩ := ih u (fun hm => hx (List.mem_cons_of_mem _ hm)) h2
      exact ⟨u', by rw [e1, h1]; rfl, e2⟩
theorem pl_cutc {G : gg_T} {p c : Nat} {X r : List Nat} : ∀ m u, m ≤ gg_ln G p → mm_ce G p m ++ X = u ++ c :: r →
    (∃ m', m' < gg_ln G p ∧ c = 4 * p + m' ∧ mm_cr p m ++ u = mm_cr p m' ∧ r = mm_ce G p (m' + 1) ++ X) ∨ (∃ u', u = mm_ce G p m ++ u' ∧ X = u' ++ c :: r) := by
  refine gg_sl_ind (G := G) (p := p) (P := fun m => ∀ u, m ≤ gg_ln G p → mm_ce G p m ++ X = u ++ c :: r → (∃ m', m' < gg_ln G p ∧ c = 4 * p + m' ∧ mm_cr p m ++ u = mm_cr p m' ∧ r = mm_ce G p (m' + 1) ++ X) ∨ (∃ u', u = mm_ce G p m ++ u' ∧ X = u' ++ c :: r)) ?_ ?_
  · intro m hm u _ h
    rw [mm_ce_n hm] at h ⊢
    exact Or.inr ⟨u, rfl, h⟩
  · intro m hm ih u _ h
    rw [mm_ce_c hm] at h ⊢
    cases u with
    | nil =>
      injection h with h1 h2
      exact Or.inl ⟨m, hm, h1.symm, List.append_nil _, h2.symm⟩
    | cons y u =>
      injection h with h1 h2
      rcases ih u (by omega) h2 with ⟨m', a1, a2, a3, a4⟩ | ⟨u', e1, e2⟩
      · refine Or.inl ⟨m', a1, a2, ?_, a4⟩
        rw [← a3, mm_cr_s, ← h1, List.append_assoc]; rfl
      · exact Or.inr ⟨u', by rw [e1, h1]; rfl, e2⟩
def pl_M (G : gg_T) (tok : Nat → Nat) (n k i j : Nat) : Prop := ∃ u r a, mm_R G tok true k = some (u ++ (57 + i) :: r, a) ∧ dd_E G tok (mm_sl G u) a j ∧ dd_E G tok (mm_sl G r) j n
def pl_L (G : gg_T) (tok : Nat → Nat) (n k j c : Nat) : Prop := ∃ u r a, mm_R G tok true k = some (u ++ c :: r, a) ∧ c < 56 ∧ gg_sy G c < 10 ∧ dd_E G tok (mm_sl G u) a j ∧ dd_E G tok (mm_sl G (c :: r)) j n
def pl_SM (G : gg_T) (tok : Nat → Nat) (n k i j : Nat) : Prop := ∃ k', k' ≤ k ∧ pl_M G tok n k' i j
def pl_SL (G : gg_T) (tok : Nat → Nat) (n k j c : Nat) : Prop := ∃ k', k' ≤ k ∧ pl_L G tok n k' j c
/-- the scopes and the leaves of the run -/
def pl_SI (G : gg_T) (tok : Nat → Nat) (i j : Nat) : Prop := i < j ∧ ∃ k r, mm_R G tok true k = some ((57 + i) :: r, j)
def pl_Lf (G : gg_T) (tok : Nat → Nat) (a c : Nat) : Prop := ∃ k r, mm_R G tok true k = some (c :: r, a) ∧ c < 56 ∧ gg_sy G c < 10 ∧ gg_sy G c = tok a
section PL
variable {G : gg_T} {tok : Nat → Nat} {n : Nat}
theorem pl_S_s {k i j : Nat} (h : pl_SM G tok n k i j) : pl_SM G tok n (k + 1) i j := h.elim (fun k' h => ⟨k', by omega, h.2⟩)
theorem pl_L_s {k i j : Nat} (h : pl_SL G tok n k i j) : pl_SL G tok n (k + 1) i j := h.elim (fun k' h => ⟨k', by omega, h.2⟩)
theorem pl_S_c {k i j : Nat} (h : pl_SM G tok n (k + 1) i j) : pl_SM G tok n k i j ∨ pl_M G tok n (k + 1) i j := by
  obtain ⟨k', h1, h2⟩ := h
  by_cases e : k' = k + 1
  · subst e; exact Or.inr h2
  · exact Or.inl ⟨k', by omega, h2⟩
theorem pl_L_c {k i j : Nat} (h : pl_SL G tok n (k + 1) i j) : pl_SL G tok n k i j ∨ pl_L G tok n (k + 1) i j := by
  obtain ⟨k', h1, h2⟩ := h
  by_cases e : k' = k + 1
  · subst e; exact Or.inr h2
  · exact Or.inl ⟨k', by omega, h2⟩
/-- a step that takes a mark or a token plans nothing new -/
theorem pl_M_o {k a a' e i j : Nat} {s : List Nat} (h : mm_R G tok true k = some (e :: s, a)) (hs : mm_R G tok true (k + 1) = some (s, a')) (hb : ∀ u j, dd_E G tok (mm_sl G u) a' j → dd_E G tok (mm_sl G (e :: u)) a j) :
    pl_SM G tok n (k + 1) i j ↔ pl_SM G tok n k i j := by
  refine ⟨fun h2 => ?_, pl_S_s⟩
  rcases pl_S_c h2 with h2 | ⟨u, r, b, b1, b2, b3⟩
  · exact h2
  · rw [hs] at b1
    injection b1 with b1
    injection b1 with b4 b5
    subst b5
    exact ⟨k, Nat.le_refl k, e :: u, r, a, by rw [h, b4]; rfl, hb u j b2, b3⟩
theorem pl_L_o {k a a' e i j : Nat} {s : List Nat} (h : mm_R G tok true k = some (e :: s, a)) (hs : mm_R G tok true (k + 1) = some (s, a')) (hb : ∀ u j, dd_E G tok (mm_sl G u) a' j → dd_E G tok (mm_sl G (e :: u)) a j) :
    pl_SL G tok n (k + 1) i j ↔ pl_SL G tok n k i j := by
  refine ⟨fun h2 => ?_, pl_L_s⟩
  rcases pl_L_c h2 with h2 | ⟨u, r, b, b1, b0, b0', b2, b3⟩
  · exact h2
  · rw [hs] at b1
    injection b1 with b1
    injection b1 with b4 b5
    subst b5
    exact ⟨k, Nat.le_refl k, e :: u, r, a, by rw [h, b4]; rfl, b0, b0', hb u i b2, b3⟩
theorem pl_hb_k {e a : Nat} (he : 57 ≤ e) : ∀ u j, dd_E G tok (mm_sl G u) a j → dd_E G tok (mm_sl G (e :: u)) a j := by
  intro u j h; rw [mm_sl_k he]; exact h
theorem pl_hb_t {e a : Nat} (he : e < 57) (ht : mm_sym G e < 10) (hm : mm_sym G e = tok a) : ∀ u j, dd_E G tok (mm_sl G u) (a + 1) j → dd_E G tok (mm_sl G (e :: u)) a j := by
  intro u j h; rw [mm_sl_e he]; exact (de_t ht).mpr ⟨hm.symm, h⟩
/-- an expansion plans its own scope and leaves -/
theorem pl_M_x (hG : gg_ok G) (L : gg_LL G) (h10 : ∀ a, tok a ≤ 10) (hn : ∀ a, n ≤ a → tok a = 10) {k a b e p i j : Nat} {s : List Nat} (h : mm_R G tok true k = some (e :: s, a)) (he : e < 57) (ht : 10 ≤ mm_sym G e)
    (hc : mm_ch G (mm_sym G e - 10) (tok a) = p + 1) (hb : dd_E G tok (gg_sl G p 0) a b) (hs : dd_E G tok (mm_sl G s) b n) :
    pl_SM G tok n (k + 1) i j ↔ pl_SM G tok n k i j ∨ (gg_sc G p = 1 ∧ i = a ∧ j = b) := by
  have hp := mm_ch_s hc
  have hR : mm_R G tok true (k + 1) = some (mm_ce G p 0 ++ (mm_mk G true p a ++ s), a) := by rw [mm_R_s h]; exact mm_st_n he ht hc
  obtain ⟨K, hK⟩ := mm_halt (nt := true) hG L h10 hn
  have hK : mm_R G tok true (k + K) = none := by rw [Nat.add_comm]; exact mm_R_nn hK k
  have hE : ∀ u j, dd_E G tok (gg_sl G p 0 ++ mm_sl G u) a j → dd_E G tok (mm_sl G (e :: u)) a j := fun u j h => by
    rw [mm_sl_e he]; exact (de_n ht).mpr ⟨p, hp.1, hp.2.1, h⟩
  constructor
  · intro h2
    rcases pl_S_c h2 with h2 | ⟨u, r, b', b1, b2, b3⟩
    · exact Or.inl h2
    · rw [hR] at b1
      injection b1 with b1
      injection b1 with b4 b5
      subst b5
      obtain ⟨u', e1, e2⟩ := pl_cut _ _ (fun hm => by have := mm_ce_lt hG hp.1 hm; omega) b4
      by_cases hx : (true = true ∧ gg_sc G p = 1)
      · have em : mm_mk G true p a = [57 + a] := if_pos hx
        rw [em] at e2
        cases u' with
        | nil =>
          injection e2 with e2 e3
          rw [e1, List.append_nil, mm_sl_ce hG hp.1] at b2
          rw [← e3] at b3
          refine Or.inr ⟨hx.2, by omega, ?_⟩
          have h0 := hE [] j (by rw [show mm_sl G [] = [] from rfl, List.append_nil]; exact b2)
          have h1 := hE [] b (by rw [show mm_sl G [] = [] from rfl, List.append_nil]; exact hb)
          exact mm_uni (nt := true) hG L h10 (hn n (Nat.le_refl n)) b3 hs K k [e] a hK h h0 h1
        | cons y u' =>
          injection e2 with e2 e3
          refine Or.inl ⟨k, Nat.le_refl k, e :: u', r, a, by rw [h, show s = u' ++ (57 + i) :: r from e3]; rfl, ?_, b3⟩
          apply hE
          rw [e1, mm_sl_app, mm_sl_ce hG hp.1, mm_sl_k (by omega)] at b2
          exact b2
      · have em : mm_mk G true p a = [] := if_neg hx
        rw [em] at e2
        refine Or.inl ⟨k, Nat.le_refl k, e :: u', r, a, by rw [h, show s = u' ++ (57 + i) :: r from e2]; rfl, ?_, b3⟩
        apply hE
        rw [e1, mm_sl_app, mm_sl_ce hG hp.1] at b2
        exact b2
  · intro h2
    rcases h2 with h2 | ⟨h2, h3, h4⟩
    · exact pl_S_s h2
    · subst h3 h4
      have em : mm_mk G true p i = [57 + i] := if_pos ⟨rfl, h2⟩
      rw [em] at hR
      exact ⟨k + 1, Nat.le_refl _, mm_ce G p 0, s, i, hR, by rw [mm_sl_ce hG hp.1]; exact hb, hs⟩
theorem pl_L_x (hG : gg_ok G) {k a e p i c : Nat} {s : List Nat} (h : mm_R G tok true k = some (e :: s, a)) (he : e < 57) (ht : 10 ≤ mm_sym G e)
    (hc : mm_ch G (mm_sym G e - 10) (tok a) = p + 1) :
    pl_SL G tok n (k + 1) i c ↔ pl_SL G tok n k i c ∨ ∃ m, m < gg_ln G p ∧ c = 4 * p + m ∧ gg_sy G c < 10 ∧ dd_E G tok (gg_sr G p m) a i ∧ dd_E G tok (gg_sl G p m ++ mm_sl G s) i n := by
  have hp := mm_ch_s hc
  have h14 := hG.1
  have h4 := hG.2.2.1 p
  have hp14 : p < 14 := by have := hp.1; omega
  have hR : mm_R G tok true (k + 1) = some (mm_ce G p 0 ++ (mm_mk G true p a ++ s), a) := by rw [mm_R_s h]; exact mm_st_n he ht hc
  have hE : ∀ u j, dd_E G tok (gg_sl G p 0 ++ mm_sl G u) a j → dd_E G tok (mm_sl G (e :: u)) a j := fun u j h => by
    rw [mm_sl_e he]; exact (de_n ht).mpr ⟨p, hp.1, hp.2.1, h⟩
  constructor
  · intro h2
    rcases pl_L_c h2 with h2 | ⟨u, r, b', b1, b0, b0', b2, b3⟩
    · exact Or.inl h2
    · rw [hR] at b1
      injection b1 with b1
      injection b1 with b4 b5
      subst b5
      rcases pl_cutc 0 u (by omega) b4 with ⟨m', a1, a2, a3, a4⟩ | ⟨u', e1, e2⟩
      · have a3 : u = mm_cr p m' := a3
        refine Or.inr ⟨m', a1, a2, b0', ?_, ?_⟩
        · rw [a3, mm_sl_cr hp14 m' (by omega)] at b2; exact b2
        · rw [a4, mm_sl_e (by omega), mm_sym_lt b0, mm_sl_app, mm_sl_app, mm_sl_mk, mm_sl_ce hG hp.1] at b3
          rw [gg_sl_c a1, ← a2]
          exact b3
      · have : ∃ u2, mm_sl G u' = mm_sl G u2 ∧ s = u2 ++ c :: r := by
          by_cases hx : (true = true ∧ gg_sc G p = 1)
          · have em : mm_mk G true p a = [57 + a] := if_pos hx
            rw [em] at e2
            cases u' with
            | nil => injection e2 with e2 e3; omega
            | cons y u' =>
              injection e2 with e2 e3
              exact ⟨u', mm_sl_k (by omega), e3⟩
          · have em : mm_mk G true p a = [] := if_neg hx
            rw [em] at e2
            exact ⟨u', rfl, e2⟩
        obtain ⟨u2, f1, f2⟩ := this
        refine Or.inl ⟨k, Nat.le_refl k, e :: u2, r, a, by rw [h, f2]; rfl, b0, b0', ?_, b3⟩
        apply hE
        rw [e1, mm_sl_app, mm_sl_ce hG hp.1, f1] at b2
        exact b2
  · intro h2
    rcases h2 with h2 | ⟨m, m1, m2, m3, m4, m5⟩
    · exact pl_L_s h2
    · refine ⟨k + 1, Nat.le_refl _, mm_cr p m, mm_ce G p (m + 1) ++ (mm_mk G true p a ++ s), a, ?_, by omega, m3, ?_, ?_⟩
      · rw [hR, ← mm_cr_ce m (by omega), mm_ce_c m1, m2]
        simp
      · rw [mm_sl_cr hp14 m (by omega)]; exact m4
      · rw [mm_sl_e (by omega), mm_sym_lt (by omega), mm_sl_app, mm_sl_app, mm_sl_mk, mm_sl_ce hG hp.1]
        rw [gg_sl_c m1, ← m2] at m5
        exact m5
/-- at the end all that was planned has been taken -/
theorem pl_M_e (hG : gg_ok G) (L : gg_LL G) (h10 : ∀ a, tok a ≤ 10) (hn : ∀ a, n ≤ a → tok a = 10) (hE : dd_E G tok [10] 0 n) {k i j : Nat} (h : mm_R G tok true k = some ([], n)) :
    (i < j ∧ pl_SM G tok n k i j) ↔ pl_SI G tok i j := by
  obtain ⟨K, hK⟩ := mm_halt (nt := true) hG L h10 hn
  constructor
  · intro ⟨h0, k', k1, u, r, a, a1, a2, a3⟩
    have hK : mm_R G tok true (k' + K) = none := by rw [Nat.add_comm]; exact mm_R_nn hK k'
    obtain ⟨k2, _, h2⟩ := mm_ret (nt := true) (r := (57 + i) :: r) hG L h10 (hn n (Nat.le_refl n)) (by rw [mm_sl_k (by omega)]; exact a3) K k' u a hK a1 a2
    exact ⟨h0, k2, r, h2⟩
  · intro ⟨h0, k', r, h1⟩
    refine ⟨h0, k', mm_stop h rfl h1, [], r, j, h1, de_nil.mpr rfl, ?_⟩
    have := (mm_sent (nt := true) hG L h10 (hn n (Nat.le_refl n)) hE k' _ _ h1).2
    rw [mm_sl_k (by omega)] at this
    exact this
theorem pl_L_e (hG : gg_ok G) (L : gg_LL G) (h10 : ∀ a, tok a ≤ 10) (hn : ∀ a, n ≤ a → tok a = 10) (hE : dd_E G tok [10] 0 n) {k j c : Nat} (h : mm_R G tok true k = some ([], n)) :
    pl_SL G tok n k j c ↔ pl_Lf G tok j c := by
  obtain ⟨K, hK⟩ := mm_halt (nt := true) hG L h10 hn
  constructor
  · intro ⟨k', k1, u, r, a, a1, a0, a0', a2, a3⟩
    have hK : mm_R G tok true (k' + K) = none := by rw [Nat.add_comm]; exact mm_R_nn hK k'
    obtain ⟨k2, _, h2⟩ := mm_ret (nt := true) (r := c :: r) hG L h10 (hn n (Nat.le_refl n)) a3 K k' u a hK a1 a2
    rw [mm_sl_e (by omega), mm_sym_lt a0] at a3
    exact ⟨k2, r, h2, a0, a0', ((de_t a0').mp a3).1.symm⟩
  · intro ⟨k', r, h1, h2, h3, h4⟩
    exact ⟨k', mm_stop h rfl h1, [], r, j, h1, h2, h3, de_nil.mpr rfl, (mm_sent (nt := true) hG L h10 (hn n (Nat.le_refl n)) hE k' _ _ h1).2⟩
/-- a place has one leaf -/
theorem pl_Lf_u {a c c' : Nat} (h : pl_Lf G tok a c) (h' : pl_Lf G tok a c') : c = c' := by
  obtain ⟨k, r, h1, h2, h3, h4⟩ := h
  obtain ⟨k', r', h1', h2', h3', h4'⟩ := h'
  have s1 : mm_R G tok true (k + 1) = some (r, a + 1) := by rw [mm_R_s h1]; exact mm_st_t (by omega) (by rw [mm_sym_lt h2]; exact h3) (by rw [mm_sym_lt h2]; exact h4)
  have s2 : mm_R G tok true (k' + 1) = some (r', a + 1) := by rw [mm_R_s h1']; exact mm_st_t (by omega) (by rw [mm_sym_lt h2']; exact h3') (by rw [mm_sym_lt h2']; exact h4')
  have e : k = k' := by
    rcases Nat.lt_trichotomy k k' with h | h | h
    · have := mm_le s1 h1' h; omega
    · exact h
    · have := mm_le s2 h1 h; omega
  subst e
  rw [h1] at h1'
  injection h1' with h1'
  injection h1' with h5 _
  injection h5
/-- each place that has been passed has a leaf -/
theorem pl_Lf_x (hG : gg_ok G) : ∀ k σ a, mm_R G tok true k = some (σ, a) → ∀ q, q < a → ∃ c, pl_Lf G tok q c := by
  intro k
  induction k with
  | zero => intro σ a h q hq; rw [mm_R_0] at h; injection h with h; injection h with _ h; omega
  | succ k ih =>
    intro σ a h q hq
    obtain ⟨σ0, a0, h1, h2⟩ := mm_R_p h
    cases σ0 with
    | nil => cases h2
    | cons e s =>
      rcases mm_st_c h2 with ⟨c1, c2, c3⟩ | ⟨c1, c2, c3, c4, c5⟩ | ⟨c1, c2, p, c3, c4, c5, c6⟩
      · exact ih _ _ h1 q (by omega)
      · by_cases hx : q < a0
        · exact ih _ _ h1 q hx
        · have e0 : q = a0 := by omega
          subst e0
          have e56 : e ≠ 56 := by
            intro h0
            rw [h0] at c2
            exact absurd c2 (by rw [show mm_sym G 56 = 10 from rfl]; omega)
          exact ⟨e, k, s, h1, by omega, by rw [← mm_sym_lt (G := G) (e := e) (by omega)]; exact c2, by rw [← mm_sym_lt (G := G) (e := e) (by omega)]; exact c3⟩
      · exact ih _ _ h1 q (by omega)
end PL
noncomputable def pl_rl (G : gg_T) (tok : Nat → Nat) (a : Nat) : Int32 := @dite Int32 (∃ c, pl_Lf G tok a c) (Classical.propDecidable _) (fun h => gg_ro G (Classical.choose h)) (fun _ => 0)
theorem pl_rl_e {G : gg_T} {tok : Nat → Nat} {a c : Nat} (h : pl_Lf G tok a c) : pl_rl G tok a = gg_ro G c := by
  have hx : ∃ c, pl_Lf G tok a c := ⟨c, h⟩
  unfold pl_rl
  rw [dif_pos hx, pl_Lf_u (Classical.choose_spec hx) h]
noncomputable def pl_si (G : gg_T) (tok : Nat → Nat) (i j : Nat) : Bool := @decide (pl_SI G tok i j) (Classical.propDecidable _)
theorem pl_si_e {G : gg_T} {tok : Nat → Nat} {i j : Nat} : pl_si G tok i j = true ↔ pl_SI G tok i j := by
  unfold pl_si
  exact @decide_eq_true_iff _ (Classical.propDecidable _)
end
section
/-! the scopes of a text as the class keeps them: numbers 1 .. ns - 1, each with the one around it, its first and last place; op: the open ones (0: not yet numbered) -/
def un (f : Nat → Nat) (k x : Nat) : Nat → Nat := fun j => if j = k then x else f j
theorem un_s {f : Nat → Nat} {k x : Nat} : un f k x k = x := if_pos rfl
theorem un_n {f : Nat → Nat} {k x j : Nat} (h : j ≠ k) : un f k x j = f j := if_neg h
def mm_ms : List Nat → List Nat
  | [] => []
  | e :: s => if 57 ≤ e then mm_ms s ++ [e - 57] else mm_ms s
theorem mm_ms_k {e : Nat} {s : List Nat} (h : 57 ≤ e) : mm_ms (e :: s) = mm_ms s ++ [e - 57] := if_pos h
theorem mm_ms_e {e : Nat} {s : List Nat} (h : e < 57) : mm_ms (e :: s) = mm_ms s := if_neg (by omega)
theorem mm_ms_len : ∀ s : List Nat, (mm_ms s).length = mm_cM s := by
  intro s
  induction s with
  | nil => rfl
  | cons e s ih =>
    show _ = (if 57 ≤ e then 1 else 0) + mm_cM s
    by_cases h : 57 ≤ e
    · rw [mm_ms_k h, List.length_append, ih, if_pos h]; exact Nat.add_comm _ _
    · rw [mm_ms_e (by omega), if_neg h, ih, Nat.zero_add]
theorem mm_ms_cs {X : List Nat} : ∀ cs : List Nat, (∀ c, c ∈ cs → c < 56) → mm_ms (cs ++ X) = mm_ms X := by
  intro cs
  induction cs with
  | nil => intro _; rfl
  | cons c cs ih =>
    intro h
    have hc := h c (List.mem_cons_self ..)
    show mm_ms (c :: (cs ++ X)) = _
    rw [mm_ms_e (by omega)]
    exact ih (fun x hx => h x (List.mem_cons_of_mem _ hx))
theorem gd_l {l m : List Nat} {i : Nat} (h : i < l.length) : (l ++ m).getD i 0 = l.getD i 0 := by
  rw [List.getD_eq_getElem?_getD, List.getD_eq_getElem?_getD, List.getElem?_append_left h]
theorem gd_r {l : List Nat} {x i : Nat} (h : i = l.length) : (l ++ [x]).getD i 0 = x := by
  rw [List.getD_eq_getElem?_getD, List.getElem?_append_right (by omega), h, Nat.sub_self]; rfl
def sp_o (op : Nat → Nat) (dp s : Nat) : Prop := ∃ i, i < dp ∧ op i = s
def sp_in (op : Nat → Nat) (dp a : Nat) (bg en : Nat → Nat) (q s : Nat) : Prop := bg s ≤ q ∧ ((sp_o op dp s ∧ q < a) ∨ (¬ sp_o op dp s ∧ q ≤ en s))
def sp_ms (ms : List Nat) (a dp : Nat) (op : Nat → Nat) (ns : Nat) (bg : Nat → Nat) : Prop :=
  dp = ms.length ∧ ∀ i, i < dp → (op i = 0 → ms.getD i 0 = a) ∧ (op i ≠ 0 → op i < ns ∧ bg (op i) = ms.getD i 0)
def sp_ch (dp : Nat) (op par : Nat → Nat) : Prop :=
  (0 < dp → op 0 ≠ 0 → par (op 0) = 0) ∧ ∀ i, i + 1 < dp → op (i + 1) ≠ 0 → op i ≠ 0 ∧ op i < op (i + 1) ∧ par (op (i + 1)) = op i
def sp_nu (G : gg_T) (tok : Nat → Nat) (a B dp : Nat) (op : Nat → Nat) (ns : Nat) (par bg en : Nat → Nat) : Prop :=
  ∀ s, 1 ≤ s → s < ns → par s < s ∧ bg s < B ∧ (¬ sp_o op dp s → bg s ≤ en s ∧ en s < a ∧ pl_SI G tok (bg s) (en s + 1))
def sp_P (ns : Nat) (par : Nat → Nat) (IN : Nat → Nat → Prop) : Prop :=
  (∀ s t q, 1 ≤ t → t < s → s < ns → IN q s → IN q t → t ≤ par s) ∧ (∀ s q, 1 ≤ s → s < ns → par s ≠ 0 → IN q s → IN q (par s))
def sp_Q (a ns : Nat) (so : Nat → Nat) (IN : Nat → Nat → Prop) : Prop :=
  ∀ q, q < a → so q < ns ∧ (so q ≠ 0 → IN q (so q)) ∧ ∀ t, 1 ≤ t → t < ns → IN q t → t ≤ so q
def sp_T (G : gg_T) (tok : Nat → Nat) (k dp : Nat) (op : Nat → Nat) (ns : Nat) (bg en : Nat → Nat) : Prop :=
  ∀ k' i j r, k' < k → mm_R G tok true k' = some ((57 + i) :: r, j) → i < j → ∃ s, 1 ≤ s ∧ s < ns ∧ ¬ sp_o op dp s ∧ bg s = i ∧ en s + 1 = j
def sp_I (G : gg_T) (tok : Nat → Nat) (k : Nat) (ms : List Nat) (a B dp : Nat) (op : Nat → Nat) (ns : Nat) (par bg en so : Nat → Nat) : Prop :=
  1 ≤ ns ∧ sp_ms ms a dp op ns bg ∧ sp_ch dp op par ∧ sp_nu G tok a B dp op ns par bg en ∧ sp_P ns par (sp_in op dp a bg en) ∧ sp_Q a ns so (sp_in op dp a bg en) ∧ sp_T G tok k dp op ns bg en
section SP
variable {G : gg_T} {tok : Nat → Nat} {k a B dp ns : Nat} {ms : List Nat} {op par bg en so : Nat → Nat}
theorem sp_0 (op par bg en so : Nat → Nat) : sp_I G tok 0 [] 0 0 0 op 1 par bg en so :=
  ⟨Nat.le_refl 1, ⟨rfl, fun i h => absurd h (by omega)⟩, ⟨fun h => absurd h (by omega), fun i h => absurd h (by omega)⟩, fun s h1 h2 => absurd h2 (by omega),
    ⟨fun s t q h1 h2 h3 => absurd h3 (by omega), fun s q h1 h2 => absurd h2 (by omega)⟩, fun q h => absurd h (by omega), fun k' i j r h => absurd h (by omega)⟩
/-- a step that touches no scope -/
theorem sp_skip (h : sp_I G tok k ms a B dp op ns par bg en so) (hk : ∀ i j r, mm_R G tok true k = some ((57 + i) :: r, j) → ¬ i < j) : sp_I G tok (k + 1) ms a B dp op ns par bg en so := by
  obtain ⟨h0, h1, h2, h3, h4, h5, h6⟩ := h
  refine ⟨h0, h1, h2, h3, h4, h5, fun k' i j r hk' hR hij => ?_⟩
  by_cases e : k' = k
  · subst e; exact absurd hij (hk i j r hR)
  · exact h6 k' i j r (by omega) hR hij
theorem sp_lt (h : sp_ch dp op par) : ∀ j, j < dp → op j ≠ 0 → ∀ i, i < j → op i ≠ 0 ∧ op i < op j := by
  intro j
  induction j with
  | zero => intro _ _ i hi; omega
  | succ j ih =>
    intro hj h0 i hi
    obtain ⟨h1, h2, h3⟩ := h.2 j hj h0
    by_cases e : i = j
    · subst e; exact ⟨h1, h2⟩
    · have := ih (by omega) h1 i (by omega)
      exact ⟨this.1, by omega⟩
/-- a scope is begun -/
theorem sp_push (h : sp_I G tok k ms a B dp op ns par bg en so) (hk : ∀ i j r, mm_R G tok true k = some ((57 + i) :: r, j) → ¬ i < j) : sp_I G tok (k + 1) (ms ++ [a]) a B (dp + 1) (un op dp 0) ns par bg en so := by
  obtain ⟨h0, ⟨h1, h1'⟩, h2, h3, h4, h5, h6⟩ := sp_skip h hk
  have ho : ∀ s, 1 ≤ s → (sp_o (un op dp 0) (dp + 1) s ↔ sp_o op dp s) := by
    intro s hs
    constructor
    · intro ⟨i, i1, i2⟩
      by_cases e : i = dp
      · subst e; rw [un_s] at i2; omega
      · rw [un_n e] at i2; exact ⟨i, by omega, i2⟩
    · intro ⟨i, i1, i2⟩
      exact ⟨i, by omega, by rw [un_n (by omega)]; exact i2⟩
  have hin : ∀ q s, 1 ≤ s → (sp_in (un op dp 0) (dp + 1) a bg en q s ↔ sp_in op dp a bg en q s) := by
    intro q s hs
    unfold sp_in
    rw [ho s hs]
  refine ⟨h0, ⟨by rw [List.length_append, ← h1]; rfl, fun i hi => ?_⟩, ⟨fun _ => ?_, fun i hi => ?_⟩, fun s s1 s2 => ?_, ⟨fun s t q t1 t2 t3 x y => ?_, fun s q s1 s2 s3 x => ?_⟩, fun q hq => ?_, fun k' i j r hk' hR hij => ?_⟩
  · by_cases e : i = dp
    · subst e
      rw [un_s]
      refine ⟨fun _ => ?_, fun h => absurd rfl h⟩
      exact gd_r h1
    · rw [un_n e, gd_l (by omega)]
      exact h1' i (by omega)
  · by_cases e : dp = 0
    · subst e
      intro hx
      exact absurd un_s hx
    · rw [un_n (by omega)]
      exact h2.1 (by omega)
  · by_cases e : i + 1 = dp
    · subst e
      intro hx
      exact absurd un_s hx
    · rw [un_n e, un_n (by omega)]
      exact h2.2 i (by omega)
  · have := h3 s s1 s2
    exact ⟨this.1, this.2.1, fun hn => this.2.2 (fun hx => hn ((ho s s1).mpr hx))⟩
  · exact h4.1 s t q t1 t2 t3 ((hin q s (by omega)).mp x) ((hin q t t1).mp y)
  · exact (hin q _ (by omega)).mpr (h4.2 s q s1 s2 s3 ((hin q s s1).mp x))
  · obtain ⟨a1, a2, a3⟩ := h5 q hq
    exact ⟨a1, fun hx => (hin q _ (by omega)).mpr (a2 hx), fun t t1 t2 x => a3 t t1 t2 ((hin q t t1).mp x)⟩
  · obtain ⟨s, s1, s2, s3, s4⟩ := h6 k' i j r hk' hR hij
    exact ⟨s, s1, s2, fun hx => s3 ((ho s s1).mp hx), s4⟩
/-- a scope ends that has no number -/
theorem sp_pop0 {i0 : Nat} {r0 : List Nat} (h : sp_I G tok k (ms ++ [i0]) a a (dp + 1) op ns par bg en so) (hR : mm_R G tok true k = some ((57 + i0) :: r0, a)) (h0 : op dp = 0) : sp_I G tok (k + 1) ms a a dp op ns par bg en so := by
  obtain ⟨g0, ⟨h1, h1'⟩, h2, h3, h4, h5, h6⟩ := h
  rw [List.length_append] at h1
  have h1 : dp = ms.length := by simpa using h1
  have hi0 : i0 = a := by
    have := (h1' dp (by omega)).1 h0
    rw [gd_r h1] at this
    exact this
  have ho : ∀ s, 1 ≤ s → (sp_o op dp s ↔ sp_o op (dp + 1) s) := by
    intro s hs
    constructor
    · intro ⟨i, i1, i2⟩; exact ⟨i, by omega, i2⟩
    · intro ⟨i, i1, i2⟩
      by_cases e : i = dp
      · subst e; omega
      · exact ⟨i, by omega, i2⟩
  have hin : ∀ q s, 1 ≤ s → (sp_in op dp a bg en q s ↔ sp_in op (dp + 1) a bg en q s) := by
    intro q s hs
    unfold sp_in
    rw [ho s hs]
  refine ⟨g0, ⟨h1, fun i hi => ?_⟩, ⟨fun _ => h2.1 (by omega), fun i hi => h2.2 i (by omega)⟩, fun s s1 s2 => ?_, ⟨fun s t q t1 t2 t3 x y => ?_, fun s q s1 s2 s3 x => ?_⟩, fun q hq => ?_, fun k' i j r hk' hR' hij => ?_⟩
  · have := h1' i (by omega)
    rw [gd_l (by omega)] at this
    exact this
  · have := h3 s s1 s2
    exact ⟨this.1, this.2.1, fun hn => this.2.2 (fun hx => hn ((ho s s1).mpr hx))⟩
  · exact h4.1 s t q t1 t2 t3 ((hin q s (by omega)).mp x) ((hin q t t1).mp y)
  · exact (hin q _ (by omega)).mpr (h4.2 s q s1 s2 s3 ((hin q s s1).mp x))
  · obtain ⟨a1, a2, a3⟩ := h5 q hq
    exact ⟨a1, fun hx => (hin q _ (by omega)).mpr (a2 hx), fun t t1 t2 x => a3 t t1 t2 ((hin q t t1).mp x)⟩
  · by_cases e : k' = k
    · subst e
      rw [hR] at hR'
      injection hR' with e1
      injection e1 with e2 e3
      injection e2 with e4 _
      omega
    · obtain ⟨s, s1, s2, s3, s4⟩ := h6 k' i j r (by omega) hR' hij
      exact ⟨s, s1, s2, fun hx => s3 ((ho s s1).mp hx), s4⟩
/-- a numbered scope ends -/
theorem sp_pop {i0 : Nat} {r0 : List Nat} (h : sp_I G tok k (ms ++ [i0]) a a (dp + 1) op ns par bg en so) (hR : mm_R G tok true k = some ((57 + i0) :: r0, a)) (h0 : op dp ≠ 0) : 1 ≤ a ∧ op dp < ns ∧ sp_I G tok (k + 1) ms a a dp op ns par bg (un en (op dp) (a - 1)) so := by
  obtain ⟨g0, ⟨h1, h1'⟩, h2, h3, h4, h5, h6⟩ := h
  rw [List.length_append] at h1
  have h1 : dp = ms.length := by simpa using h1
  obtain ⟨hs1, hs2⟩ := (h1' dp (by omega)).2 h0
  rw [gd_r h1] at hs2
  have hb := (h3 (op dp) (by omega) hs1).2.1
  have hinc := sp_lt h2 dp (by omega) h0
  have hns : ¬ sp_o op dp (op dp) := by
    intro ⟨i, i1, i2⟩
    have := (hinc i i1).2
    omega
  have ho : ∀ s, s ≠ op dp → (sp_o op dp s ↔ sp_o op (dp + 1) s) := by
    intro s hs
    constructor
    · intro ⟨i, i1, i2⟩; exact ⟨i, by omega, i2⟩
    · intro ⟨i, i1, i2⟩
      by_cases e : i = dp
      · subst e; exact absurd i2.symm hs
      · exact ⟨i, by omega, i2⟩
  have hin : ∀ q s, (sp_in op dp a bg (un en (op dp) (a - 1)) q s ↔ sp_in op (dp + 1) a bg en q s) := by
    intro q s
    unfold sp_in
    by_cases e : s = op dp
    · subst e
      rw [un_s]
      have hx : sp_o op (dp + 1) (op dp) := ⟨dp, by omega, rfl⟩
      constructor
      · intro ⟨q1, q2⟩
        rcases q2 with ⟨q2, _⟩ | ⟨_, q2⟩
        · exact absurd q2 hns
        · exact ⟨q1, Or.inl ⟨hx, by omega⟩⟩
      · intro ⟨q1, q2⟩
        rcases q2 with ⟨_, q2⟩ | ⟨q2, _⟩
        · exact ⟨q1, Or.inr ⟨hns, by omega⟩⟩
        · exact absurd hx q2
    · rw [un_n e, ho s e]
  refine ⟨by omega, hs1, g0, ⟨h1, fun i hi => ?_⟩, ⟨fun _ => h2.1 (by omega), fun i hi => h2.2 i (by omega)⟩, fun s s1 s2 => ?_, ⟨fun s t q t1 t2 t3 x y => ?_, fun s q s1 s2 s3 x => ?_⟩, fun q hq => ?_, fun k' i j r hk' hR' hij => ?_⟩
  · have := h1' i (by omega)
    rw [gd_l (by omega)] at this
    exact this
  · have := h3 s s1 s2
    refine ⟨this.1, this.2.1, fun hn => ?_⟩
    by_cases e : s = op dp
    · subst e
      rw [un_s]
      refine ⟨by omega, by omega, ?_⟩
      rw [show a - 1 + 1 = a by omega, hs2]
      exact ⟨by omega, k, r0, hR⟩
    · rw [un_n e]
      exact this.2.2 (fun hx => hn ((ho s e).mpr hx))
  · exact h4.1 s t q t1 t2 t3 ((hin q s).mp x) ((hin q t).mp y)
  · exact (hin q _).mpr (h4.2 s q s1 s2 s3 ((hin q s).mp x))
  · obtain ⟨a1, a2, a3⟩ := h5 q hq
    exact ⟨a1, fun hx => (hin q _).mpr (a2 hx), fun t t1 t2 x => a3 t t1 t2 ((hin q t).mp x)⟩
  · by_cases e : k' = k
    · subst e
      rw [hR] at hR'
      injection hR' with e1
      injection e1 with e2 e3
      injection e2 with e4 _
      exact ⟨op dp, by omega, hs1, hns, by omega, by rw [un_s]; omega⟩
    · obtain ⟨s, s1, s2, s3, s4, s5⟩ := h6 k' i j r (by omega) hR' hij
      have e2 : s ≠ op dp := by
        intro hx
        subst hx
        exact s3 ⟨dp, by omega, rfl⟩
      exact ⟨s, s1, s2, fun hx => s3 ((ho s e2).mp hx), s4, by rw [un_n e2]; exact s5⟩
/-- a scope gets its number at its first token; up is the one around it -/
theorem sp_num {i up : Nat} (h : sp_I G tok k ms a (a + 1) dp op ns par bg en so) (hi : i < dp) (h0 : op i = 0) (hl : ∀ j, j < i → op j ≠ 0) (hu : up = if i = 0 then 0 else op (i - 1)) :
    sp_I G tok k ms a (a + 1) dp (un op i ns) (ns + 1) (un par ns up) (un bg ns a) en so := by
  obtain ⟨g0, ⟨h1, h1'⟩, h2, h3, h4, h5, h6⟩ := h
  have hup : up < ns := by
    by_cases e : i = 0
    · rw [hu, if_pos e]; omega
    · rw [hu, if_neg e]; exact ((h1' (i - 1) (by omega)).2 (hl (i - 1) (by omega))).1
  have hlt : ∀ j, j < dp → op j ≠ 0 → op j < ns := fun j hj h => ((h1' j hj).2 h).1
  have hz : ∀ j, i < j → j < dp → op j = 0 := by
    intro j hj hjd
    apply Classical.byContradiction
    intro hx
    exact (sp_lt h2 j hjd hx i hj).1 h0
  have ho : ∀ s, 1 ≤ s → s < ns → (sp_o (un op i ns) dp s ↔ sp_o op dp s) := by
    intro s hs1 hs2
    constructor
    · intro ⟨j, j1, j2⟩
      by_cases e : j = i
      · subst e; rw [un_s] at j2; omega
      · rw [un_n e] at j2; exact ⟨j, j1, j2⟩
    · intro ⟨j, j1, j2⟩
      have e : j ≠ i := by intro e; subst e; omega
      exact ⟨j, j1, by rw [un_n e]; exact j2⟩
  have hin : ∀ q s, 1 ≤ s → s < ns → (sp_in (un op i ns) dp a (un bg ns a) en q s ↔ sp_in op dp a bg en q s) := by
    intro q s hs1 hs2
    unfold sp_in
    rw [ho s hs1 hs2, un_n (by omega)]
  have hnin : ∀ q, ¬ sp_in (un op i ns) dp a (un bg ns a) en q ns := by
    intro q ⟨q1, q2⟩
    rw [un_s] at q1
    rcases q2 with ⟨_, q2⟩ | ⟨q2, _⟩
    · omega
    · exact q2 ⟨i, hi, un_s⟩
  refine ⟨by omega, ⟨h1, fun j hj => ?_⟩, ⟨fun hd => ?_, fun j hj => ?_⟩, fun s s1 s2 => ?_, ⟨fun s t q t1 t2 t3 x y => ?_, fun s q s1 s2 s3 x => ?_⟩, fun q hq => ?_, fun k' i' j r hk' hR' hij => ?_⟩
  · by_cases e : j = i
    · subst e
      rw [un_s]
      refine ⟨fun hx => absurd hx (by omega), fun _ => ⟨by omega, ?_⟩⟩
      rw [un_s]
      exact ((h1' j hj).1 h0).symm
    · rw [un_n e]
      refine ⟨(h1' j hj).1, fun hx => ?_⟩
      have := (h1' j hj).2 hx
      exact ⟨by omega, by rw [un_n (by omega)]; exact this.2⟩
  · by_cases e : i = 0
    · subst e
      intro _
      rw [un_s, un_s, hu, if_pos rfl]
    · rw [un_n (by omega)]
      intro hx
      have := hlt 0 hd hx
      rw [un_n (by omega)]
      exact h2.1 hd hx
  · by_cases e : j + 1 = i
    · rw [e, un_s, un_n (by omega)]
      intro _
      have hj0 := hl j (by omega)
      have := hlt j (by omega) hj0
      refine ⟨hj0, this, ?_⟩
      rw [un_s, hu, if_neg (by omega)]
      congr 1
      omega
    · rw [un_n e]
      intro hx
      have e2 : j ≠ i := by
        intro e2
        subst e2
        exact hx (hz (j + 1) (by omega) hj)
      rw [un_n e2]
      have := h2.2 j hj hx
      have hb := hlt (j + 1) hj hx
      refine ⟨this.1, this.2.1, ?_⟩
      rw [un_n (by omega)]
      exact this.2.2
  · by_cases e : s = ns
    · subst e
      rw [un_s, un_s]
      exact ⟨hup, by omega, fun hn => absurd ⟨i, hi, un_s⟩ hn⟩
    · rw [un_n e, un_n e]
      have := h3 s s1 (by omega)
      exact ⟨this.1, this.2.1, fun hn => this.2.2 (fun hx => hn ((ho s s1 (by omega)).mpr hx))⟩
  · by_cases e : s = ns
    · subst e; exact absurd x (hnin q)
    · rw [un_n e]
      exact h4.1 s t q t1 t2 (by omega) ((hin q s (by omega) (by omega)).mp x) ((hin q t t1 (by omega)).mp y)
  · by_cases e : s = ns
    · subst e; exact absurd x (hnin q)
    · rw [un_n e] at s3 ⊢
      have hp := (h3 s s1 (by omega)).1
      exact (hin q _ (by omega) (by omega)).mpr (h4.2 s q s1 (by omega) s3 ((hin q s s1 (by omega)).mp x))
  · obtain ⟨a1, a2, a3⟩ := h5 q hq
    refine ⟨by omega, fun hx => (hin q _ (by omega) a1).mpr (a2 hx), fun t t1 t2 x => ?_⟩
    by_cases e : t = ns
    · subst e; exact absurd x (hnin q)
    · exact a3 t t1 (by omega) ((hin q t t1 (by omega)).mp x)
  · obtain ⟨s, s1, s2, s3, s4, s5⟩ := h6 k' i' j r hk' hR' hij
    exact ⟨s, s1, by omega, fun hx => s3 ((ho s s1 s2).mp hx), by rw [un_n (by omega)]; exact s4, s5⟩
/-- the token is taken: all open scopes have numbers -/
theorem sp_tok {up : Nat} (h : sp_I G tok k ms a (a + 1) dp op ns par bg en so) (hl : ∀ j, j < dp → op j ≠ 0) (hu : up = if dp = 0 then 0 else op (dp - 1)) (hk : ∀ i j r, mm_R G tok true k = some ((57 + i) :: r, j) → ¬ i < j) :
    sp_I G tok (k + 1) ms (a + 1) (a + 1) dp op ns par bg en (un so a up) := by
  obtain ⟨g0, ⟨h1, h1'⟩, h2, h3, h4, h5, h6⟩ := sp_skip h hk
  have hop : ∀ j, j < dp → op j < ns ∧ bg (op j) ≤ a := by
    intro j hj
    have := ((h1' j hj).2 (hl j hj)).1
    have h8 := h3 (op j) (by have := hl j hj; omega) this
    exact ⟨this, by omega⟩
  have hinq : ∀ q s, q < a → (sp_in op dp (a + 1) bg en q s ↔ sp_in op dp a bg en q s) := by
    intro q s hq
    unfold sp_in
    constructor
    · intro ⟨x, y⟩
      exact ⟨x, y.elim (fun z => Or.inl ⟨z.1, hq⟩) Or.inr⟩
    · intro ⟨x, y⟩
      exact ⟨x, y.elim (fun z => Or.inl ⟨z.1, by omega⟩) Or.inr⟩
  have hina : ∀ q s, 1 ≤ s → s < ns → sp_in op dp (a + 1) bg en q s → ¬ q < a → q = a ∧ sp_o op dp s := by
    intro q s s1 s2 ⟨x, y⟩ hq
    rcases y with ⟨y, z⟩ | ⟨y, z⟩
    · exact ⟨by omega, y⟩
    · have := (h3 s s1 s2).2.2 y
      omega
  have hoin : ∀ s, sp_o op dp s → sp_in op dp (a + 1) bg en a s := by
    intro s hs
    obtain ⟨i, i1, i2⟩ := hs
    have := (hop i i1).2
    rw [i2] at this
    exact ⟨this, Or.inl ⟨⟨i, i1, i2⟩, by omega⟩⟩
  refine ⟨g0, ⟨h1, fun j hj => ⟨fun hx => absurd hx (hl j hj), (h1' j hj).2⟩⟩, h2, fun s s1 s2 => ?_, ⟨fun s t q t1 t2 t3 x y => ?_, fun s q s1 s2 s3 x => ?_⟩, fun q hq => ?_, h6⟩
  · have := h3 s s1 s2
    exact ⟨this.1, this.2.1, fun hn => ⟨(this.2.2 hn).1, by have := (this.2.2 hn).2.1; omega, (this.2.2 hn).2.2⟩⟩
  · by_cases hq : q < a
    · exact h4.1 s t q t1 t2 t3 ((hinq q s hq).mp x) ((hinq q t hq).mp y)
    · obtain ⟨_, i, i1, i2⟩ := hina q s (by omega) t3 x hq
      obtain ⟨_, j, j1, j2⟩ := hina q t t1 (by omega) y hq
      have hij : j < i := by
        apply Classical.byContradiction
        intro hn
        by_cases e : j = i
        · subst e; omega
        · have := (sp_lt h2 j j1 (hl j j1) i (by omega)).2
          omega
      obtain ⟨i', rfl⟩ : ∃ i', i = i' + 1 := ⟨i - 1, by omega⟩
      have hp := h2.2 i' i1 (hl _ i1)
      rw [← i2, hp.2.2, ← j2]
      by_cases e : j = i'
      · subst e; exact Nat.le_refl _
      · exact Nat.le_of_lt (sp_lt h2 i' (by omega) (hl _ (by omega)) j (by omega)).2
  · by_cases hq : q < a
    · exact (hinq q _ hq).mpr (h4.2 s q s1 s2 s3 ((hinq q s hq).mp x))
    · obtain ⟨e, i, i1, i2⟩ := hina q s s1 s2 x hq
      subst e
      cases i with
      | zero => rw [← i2, h2.1 i1 (hl 0 i1)] at s3; exact absurd rfl s3
      | succ i =>
        have hp := h2.2 i i1 (hl _ i1)
        rw [← i2, hp.2.2]
        exact hoin _ ⟨i, by omega, rfl⟩
  · by_cases e : q = a
    · subst e
      rw [un_s]
      by_cases hd : dp = 0
      · subst hd
        rw [hu, if_pos rfl]
        refine ⟨by omega, fun h => absurd rfl h, fun t t1 t2 x => ?_⟩
        obtain ⟨_, i, i1, _⟩ := hina q t t1 t2 x (by omega)
        omega
      · rw [hu, if_neg hd]
        refine ⟨(hop _ (by omega)).1, fun _ => hoin _ ⟨dp - 1, by omega, rfl⟩, fun t t1 t2 x => ?_⟩
        obtain ⟨_, i, i1, i2⟩ := hina q t t1 t2 x (by omega)
        by_cases e2 : i = dp - 1
        · rw [← i2, e2]; exact Nat.le_refl _
        · have := (sp_lt h2 (dp - 1) (by omega) (hl _ (by omega)) i (by omega)).2
          omega
    · rw [un_n e]
      obtain ⟨a1, a2, a3⟩ := h5 q (by omega)
      exact ⟨a1, fun hx => (hinq q _ (by omega)).mpr (a2 hx), fun t t1 t2 x => a3 t t1 t2 ((hinq q t (by omega)).mp x)⟩
/-- weaker: the inner loop's bound -/
theorem sp_w (h : sp_I G tok k ms a a dp op ns par bg en so) : sp_I G tok k ms a (a + 1) dp op ns par bg en so := by
  obtain ⟨g0, h1, h2, h3, h4⟩ := h
  exact ⟨g0, h1, h2, fun s s1 s2 => ⟨(h3 s s1 s2).1, by have := (h3 s s1 s2).2.1; omega, (h3 s s1 s2).2.2⟩, h4⟩
end SP
end
section
/-! the reference's table of places reached: R A i j (rule A goes from i to j), B A i (rule A goes from i to the end and perhaps beyond) -/
def rc_W (G : gg_T) (tok : Nat → Nat) (wn : Nat) (R : Nat → Nat → Nat → Prop) (p i : Nat) : Nat → Nat → Prop
  | 0, j => j = i
  | m + 1, j' => ∃ j, j ≤ wn ∧ rc_W G tok wn R p i m j ∧ ((10 ≤ gg_sy G (4 * p + m) ∧ R (gg_sy G (4 * p + m) - 10) j j') ∨ (gg_sy G (4 * p + m) < 10 ∧ j < wn ∧ tok j = gg_sy G (4 * p + m) ∧ j' = j + 1))
def rc_B (G : gg_T) (tok : Nat → Nat) (wn : Nat) (R : Nat → Nat → Nat → Prop) (B : Nat → Nat → Prop) (p i : Nat) : Prop :=
  (∃ m j, m < gg_ln G p ∧ j ≤ wn ∧ rc_W G tok wn R p i m j ∧ (j = wn ∨ (10 ≤ gg_sy G (4 * p + m) ∧ B (gg_sy G (4 * p + m) - 10) j))) ∨ rc_W G tok wn R p i (gg_ln G p) wn
section RC
variable {G : gg_T} {tok : Nat → Nat} {wn : Nat} {R : Nat → Nat → Nat → Prop} {B : Nat → Nat → Prop}
theorem rc_wn (hn : ∀ a, wn ≤ a → tok a = 10) : ∀ n l a b, dd_D G tok n l a b → a ≤ wn → b ≤ wn := by
  intro n
  induction n with
  | zero => intro l a b h ha; rw [← h.2]; exact ha
  | succ n ih =>
    intro l a b h ha
    rcases h with h | ⟨x, l', e, h⟩
    · rw [← h.2]; exact ha
    · rcases h with ⟨h1, h2, h3⟩ | ⟨h1, p, h2, h3, h4⟩
      · refine ih _ _ _ h3 ?_
        have : ¬ wn ≤ a := fun hx => by have := hn a hx; omega
        omega
      · exact ih _ _ _ h4 ha
/-- what walk finds is derived -/
theorem rc_sd (hR : ∀ A j j', R A j j' → dd_E G tok [A + 10] j j') {p i : Nat} : ∀ m j, rc_W G tok wn R p i m j → dd_E G tok (gg_sr G p m) i j := by
  intro m
  induction m with
  | zero => intro j h; exact de_nil.mpr h.symm
  | succ m ih =>
    intro j' ⟨j, j1, j2, h⟩
    rw [gg_sr_s]
    refine de_app.mpr ⟨j, ih j j2, ?_⟩
    rcases h with ⟨h1, h2⟩ | ⟨h1, h2, h3, h4⟩
    · have := hR _ _ _ h2
      rw [show gg_sy G (4 * p + m) - 10 + 10 = gg_sy G (4 * p + m) by omega] at this
      exact this
    · exact (de_t h1).mpr ⟨h3, de_nil.mpr h4.symm⟩
theorem rc_sdE (hR : ∀ A j j', R A j j' → dd_E G tok [A + 10] j j') {p i j : Nat} (h : rc_W G tok wn R p i (gg_ln G p) j) : dd_E G tok (gg_sl G p 0) i j := by
  have h1 := rc_sd hR _ _ h
  have h2 := gg_sr_sl (G := G) (p := p) (gg_ln G p) (Nat.le_refl _)
  rw [gg_sl_n (Nat.le_refl _), List.append_nil] at h2
  rw [← h2]; exact h1
theorem rc_sA {p i j : Nat} (hp : p < gg_np G) (h : dd_E G tok (gg_sl G p 0) i j) : dd_E G tok [gg_ru G p + 10] i j :=
  (de_n (by omega)).mpr ⟨p, hp, by omega, by rw [List.append_nil]; exact h⟩
theorem rc_sdB (hR : ∀ A j j', R A j j' → dd_E G tok [A + 10] j j') (hB : ∀ A j, B A j → dd_V G tok wn [A + 10] j) {p i : Nat} (h : rc_B G tok wn R B p i) : dd_V G tok wn (gg_sl G p 0) i := by
  rcases h with ⟨m, j, m1, j1, h1, h2⟩ | h
  · rw [← gg_sr_sl m (by omega)]
    refine dv_app.mpr (Or.inr ⟨j, rc_sd hR _ _ h1, ?_⟩)
    rcases h2 with h2 | ⟨h2, h3⟩
    · subst h2; exact dv_k
    · rw [gg_sl_c m1]
      have := hB _ _ h3
      rw [show gg_sy G (4 * p + m) - 10 + 10 = gg_sy G (4 * p + m) by omega] at this
      exact (dv_app (l1 := [gg_sy G (4 * p + m)])).mpr (Or.inl this)
  · exact dv_of (rc_sdE hR h)
theorem rc_sBA {p i : Nat} (hp : p < gg_np G) (h : dd_V G tok wn (gg_sl G p 0) i) : dd_V G tok wn [gg_ru G p + 10] i := by
  by_cases e : i = wn
  · subst e; exact dv_k
  · exact (dv_n (by omega) e).mpr ⟨p, hp, by omega, by rw [List.append_nil]; exact h⟩
/-- what is derived is found, once the table is closed at i and complete behind it -/
theorem rc_cW (hG : gg_ok G) (hn : ∀ a, wn ≤ a → tok a = 10) {i n p : Nat} (hi : i ≤ wn) (hc : ∀ j, i < j → j ≤ wn → ∀ A j', A < 6 → dd_E G tok [A + 10] j j' → R A j j')
    (ih : ∀ A j', A < 6 → dd_D G tok n [A + 10] i j' → R A i j') : ∀ m, m ≤ gg_ln G p → ∀ j j', i ≤ j → j ≤ wn → rc_W G tok wn R p i m j → dd_D G tok n (gg_sl G p m) j j' → rc_W G tok wn R p i (gg_ln G p) j' := by
  refine gg_sl_ind (G := G) (p := p) (P := fun m => m ≤ gg_ln G p → ∀ j j', i ≤ j → j ≤ wn → rc_W G tok wn R p i m j → dd_D G tok n (gg_sl G p m) j j' → rc_W G tok wn R p i (gg_ln G p) j') ?_ ?_
  · intro m hm hm2 j j' j1 j2 hw h
    rw [gg_sl_n hm] at h
    have e := dd_nil h
    have e2 : m = gg_ln G p := by omega
    rw [← e, ← e2]; exact hw
  · intro m hm ih2 _ j j' j1 j2 hw h
    rw [gg_sl_c hm] at h
    have h16 := hG.2.2.2.1 (4 * p + m)
    obtain ⟨b, b1, b2⟩ := dd_split n [gg_sy G (4 * p + m)] _ _ _ h
    have hb := rc_wn hn _ _ _ _ b1 j2
    have hjb := dd_le _ _ _ _ b1
    refine ih2 (by omega) b j' (by omega) hb ⟨j, j2, hw, ?_⟩ b2
    by_cases ht : gg_sy G (4 * p + m) < 10
    · have := (de_t ht).mp ⟨n, b1⟩
      have hlt : ¬ wn ≤ j := fun hx => by have := hn j hx; omega
      exact Or.inr ⟨ht, by omega, this.1, (de_nil.mp this.2).symm⟩
    · refine Or.inl ⟨by omega, ?_⟩
      have b1 : dd_D G tok n [gg_sy G (4 * p + m) - 10 + 10] j b := by
        rw [show gg_sy G (4 * p + m) - 10 + 10 = gg_sy G (4 * p + m) by omega]; exact b1
      by_cases e : j = i
      · subst e
        exact ih _ _ (by omega) b1
      · exact hc j (by omega) j2 _ _ (by omega) ⟨n, b1⟩
theorem rc_cR (hG : gg_ok G) (hn : ∀ a, wn ≤ a → tok a = 10) {i : Nat} (hi : i ≤ wn) (hc : ∀ j, i < j → j ≤ wn → ∀ A j', A < 6 → dd_E G tok [A + 10] j j' → R A j j')
    (hcl : ∀ p j', p < gg_np G → rc_W G tok wn R p i (gg_ln G p) j' → R (gg_ru G p) i j') : ∀ n A j', A < 6 → dd_D G tok n [A + 10] i j' → R A i j' := by
  intro n
  induction n with
  | zero => intro A j' _ h; exact absurd h.1 (by intro h; cases h)
  | succ n ih =>
    intro A j' hA h
    obtain ⟨m, e, h⟩ := dd_cons h
    have e : n = m := by omega
    subst e
    rcases h with ⟨h1, _⟩ | ⟨h1, p, h2, h3, h4⟩
    · omega
    · rw [List.append_nil] at h4
      have := hcl p j' h2 (rc_cW hG hn hi hc ih 0 (by omega) i j' (Nat.le_refl i) hi rfl h4)
      rw [h3, show A + 10 - 10 = A by omega] at this
      exact this
theorem rc_cV (hG : gg_ok G) (hn : ∀ a, wn ≤ a → tok a = 10) {i n p : Nat} (hi : i ≤ wn) (hR : ∀ j, i ≤ j → j ≤ wn → ∀ A j', A < 6 → dd_E G tok [A + 10] j j' → R A j j')
    (hc : ∀ j, i < j → j ≤ wn → ∀ A, A < 6 → dd_V G tok wn [A + 10] j → B A j)
    (ih : ∀ A, A < 6 → dd_P G tok wn n [A + 10] i → B A i) : ∀ m, m ≤ gg_ln G p → ∀ j, i ≤ j → j ≤ wn → rc_W G tok wn R p i m j → dd_P G tok wn n (gg_sl G p m) j → rc_B G tok wn R B p i := by
  refine gg_sl_ind (G := G) (p := p) (P := fun m => m ≤ gg_ln G p → ∀ j, i ≤ j → j ≤ wn → rc_W G tok wn R p i m j → dd_P G tok wn n (gg_sl G p m) j → rc_B G tok wn R B p i) ?_ ?_
  · intro m hm hm2 j j1 j2 hw h
    rw [gg_sl_n hm] at h
    have e := dv_nil.mp ⟨n, h⟩
    have e2 : m = gg_ln G p := by omega
    rw [e, e2] at hw
    exact Or.inr hw
  · intro m hm ih2 _ j j1 j2 hw h
    have h16 := hG.2.2.2.1 (4 * p + m)
    by_cases ej : j = wn
    · exact Or.inl ⟨m, j, hm, j2, hw, Or.inl ej⟩
    · rw [gg_sl_c hm] at h
      by_cases ht : gg_sy G (4 * p + m) < 10
      · cases n with
        | zero => exact absurd h ej
        | succ n =>
          rcases h with h | ⟨y, l', e, h⟩
          · exact absurd h ej
          · injection e with e1 e2
            subst e1 e2
            rcases h with ⟨_, h2, h3⟩ | ⟨h1, _⟩
            · exact ih2 (by omega) (j + 1) (by omega) (by omega) ⟨j, j2, hw, Or.inr ⟨ht, by omega, h2, rfl⟩⟩ (dp_s _ _ _ h3)
            · omega
      · have ex : gg_sy G (4 * p + m) - 10 + 10 = gg_sy G (4 * p + m) := by omega
        rcases dp_split n [gg_sy G (4 * p + m)] _ _ h with h | ⟨b, b1, b2⟩
        · refine Or.inl ⟨m, j, hm, j2, hw, Or.inr ⟨by omega, ?_⟩⟩
          by_cases e : j = i
          · subst e
            exact ih _ (by omega) (by rw [ex]; exact h)
          · exact hc j (by omega) j2 _ (by omega) (by rw [ex]; exact ⟨n, h⟩)
        · have hb := rc_wn hn _ _ _ _ b1 j2
          have hjb := dd_le _ _ _ _ b1
          exact ih2 (by omega) b (by omega) hb ⟨j, j2, hw, Or.inl ⟨by omega, hR j j1 j2 _ _ (by omega) (by rw [ex]; exact ⟨n, b1⟩)⟩⟩ b2
theorem rc_cB (hG : gg_ok G) (hn : ∀ a, wn ≤ a → tok a = 10) {i : Nat} (hi : i < wn) (hR : ∀ j, i ≤ j → j ≤ wn → ∀ A j', A < 6 → dd_E G tok [A + 10] j j' → R A j j')
    (hc : ∀ j, i < j → j ≤ wn → ∀ A, A < 6 → dd_V G tok wn [A + 10] j → B A j)
    (hcl : ∀ p, p < gg_np G → rc_B G tok wn R B p i → B (gg_ru G p) i) : ∀ n A, A < 6 → dd_P G tok wn n [A + 10] i → B A i := by
  intro n
  induction n with
  | zero =>
    intro A _ h
    have h : i = wn := h
    omega
  | succ n ih =>
    intro A hA h
    rcases h with h | ⟨y, l', e, h⟩
    · omega
    · injection e with e1 e2
      subst e1 e2
      rcases h with ⟨h1, _⟩ | ⟨h1, p, h2, h3, h4⟩
      · omega
      · rw [List.append_nil] at h4
        have := hcl p h2 (rc_cV hG hn (by omega) hR hc ih 0 (by omega) i (Nat.le_refl i) (by omega) rfl h4)
        rw [h3, show A + 10 - 10 = A by omega] at this
        exact this
end RC
end
section
/-! numbers: arrays of naturals, masks by testBit -/
def nA (g : Nat → Nat) : Nat → Int32 := fun i => nI (g i)
theorem nA_cl {g : Nat → Nat} {k : Nat} (h : k < 2 ^ 31) : nA g (nI k).toNatClampNeg = nI (g k) := by rw [nI_clamp h]; rfl
theorem nA_upd {g : Nat → Nat} {k x : Nat} : upd (nA g) k (nI x) = nA (un g k x) := by
  funext j
  show (if j = k then nI x else nI (g j)) = nI (if j = k then x else g j)
  by_cases h : j = k
  · rw [if_pos h, if_pos h]
  · rw [if_neg h, if_neg h]
theorem nA_0 : (fun _ => 0 : Nat → Int32) = nA (fun _ => 0) := rfl
theorem nI_inj {a b : Nat} (ha : a < 2 ^ 31) (hb : b < 2 ^ 31) (h : nI a = nI b) : a = b := (nI_eq ha hb).mp h
theorem vb_n {n : Nat} (h : n < 128) : (nI n).toInt8.toInt32 = nI n := (by decide +kernel : ∀ n, n < 128 → (nI n).toInt8.toInt32 = nI n) n h
theorem vb_v {n : Nat} (h : n < 128) : vp_nar .byte (nI n) = nI n := by rw [vp_nar_byte]; exact vb_n h
theorem vb_w {n : Nat} (h : n < 128) : vp_nar .byte ((nI n).toInt8.toInt32) = nI n := by rw [vb_n h]; exact vb_v h
theorem vb_m1 : vp_nar .byte (-1) = -1 := by rw [vp_nar_byte]; decide
theorem vb_0 : vp_nar .byte 0 = nI 0 := vb_v (n := 0) (by omega)
theorem vb_1 : vp_nar .byte 1 = nI 1 := vb_v (n := 1) (by omega)
theorem vo_0 : vp_nar .boolean 0 = nI 0 := by decide
theorem vo_1 : vp_nar .boolean 1 = nI 1 := by decide
theorem vs_n {n : Nat} (h : n < 32768) : (nI n).toInt16.toInt32 = nI n := by
  apply Int32.toInt_inj.mp
  rw [Int16.toInt_toInt32, Int32.toInt_toInt16, nI_toInt (by omega)]
  exact Int.bmod_eq_of_le (by omega) (by omega)
theorem vs_w {n : Nat} (h : n < 32768) : vp_nar .short ((nI n).toInt16.toInt32) = nI n := by
  rw [pk_vs, vs_n h]
theorem vs_v {n : Nat} (h : n < 32768) : vp_nar .short (nI n) = nI n := by
  rw [vp_nar_short]; exact vs_n h
theorem vs_m1 : vp_nar .short (-1) = -1 := by rw [vp_nar_short]; decide
theorem vs_m1w : vp_nar .short ((-1 : Int32).toInt16.toInt32) = -1 := by rw [pk_vs]; decide
theorem vs_m2w : vp_nar .short ((-2 : Int32).toInt16.toInt32) = -2 := by rw [pk_vs]; decide
/-! bits -/
theorem nb_tb (m : Nat) {i : Nat} (hi : i < 32) : bt (nI m) i = m.testBit i := by
  show (BitVec.ofNat 32 m).getLsbD i = _
  rw [BitVec.getLsbD_ofNat, decide_eq_true hi, Bool.true_and]
theorem nb_or (a b : Nat) : nI a ||| nI b = nI (a ||| b) := by
  apply b_ext
  intro i hi
  rw [b_or, nb_tb a hi, nb_tb b hi, nb_tb _ hi, Nat.testBit_or]
theorem nb_sh {i : Nat} (h : i < 32) : (1 : Int32) <<< (nI i &&& 31) = nI (2 ^ i) := by
  apply b_ext
  intro j hj
  rw [b_shl i h 1 hj, show (1 : Int32) = nI (2 ^ 0) from rfl, nb_tb _ (by omega), nb_tb _ hj, Nat.testBit_two_pow, Nat.testBit_two_pow]
  by_cases e : i = j
  · subst e; simp
  · by_cases e2 : i ≤ j
    · rw [decide_eq_true e2, decide_eq_false e, Bool.true_and]
      exact decide_eq_false (by omega)
    · rw [decide_eq_false e2, decide_eq_false e, Bool.false_and]
theorem nb_sh2 {i : Nat} (h : i < 31) : (2 : Int32) <<< (nI i &&& 31) = nI (2 ^ (i + 1)) := by
  apply b_ext
  intro j hj
  rw [b_shl i (by omega) 2 hj, show (2 : Int32) = nI (2 ^ 1) from rfl, nb_tb _ (by omega), nb_tb _ hj, Nat.testBit_two_pow, Nat.testBit_two_pow]
  by_cases e : i ≤ j
  · rw [decide_eq_true e, Bool.true_and]
    by_cases e2 : j = i + 1
    · rw [decide_eq_true (by omega), decide_eq_true (by omega)]
    · rw [decide_eq_false (by omega), decide_eq_false (by omega)]
  · rw [decide_eq_false e, Bool.false_and]
    exact (decide_eq_false (by omega)).symm
/-- the mask without bit p -/
def nb_cl (m p : Nat) : Nat := m ^^^ (m &&& 2 ^ p)
theorem nb_cl_t (m p i : Nat) : (nb_cl m p).testBit i = (m.testBit i && decide (i ≠ p)) := by
  unfold nb_cl
  rw [Nat.testBit_xor, Nat.testBit_and, Nat.testBit_two_pow]
  by_cases e : p = i
  · subst e; simp
  · have e2 : i ≠ p := fun h => e h.symm
    simp [e, e2]
theorem nb_clr (m : Nat) {p : Nat} (h : p < 32) : nI m &&& (((1 : Int32) <<< (nI p &&& 31)) ^^^ (-1)) = nI (nb_cl m p) := by
  apply b_ext
  intro i hi
  rw [b_and, b_xor, nb_sh h, nb_tb m hi, nb_tb _ hi, nb_tb _ hi, b_m1 i hi, nb_cl_t, Nat.testBit_two_pow]
  by_cases e : p = i
  · subst e; simp
  · have e2 : i ≠ p := fun h => e h.symm
    simp [e, e2]
theorem nb_shr {m i : Nat} (hm : m < 2 ^ 31) (hi : i < 32) : (nI m >>> (nI i &&& 31)) &&& 1 = nI (m / 2 ^ i % 2) := by
  rw [pk_shrN hm _ i (s_l i hi), show (1 : Int32) = nI 1 from rfl, nx_and, Nat.and_one_is_mod]
theorem nb_0 {m i : Nat} (hm : m < 2 ^ 31) (hi : i < 32) : ((nI m >>> (nI i &&& 31)) &&& 1) = 0 ↔ m.testBit i = false := by
  rw [nb_shr hm hi, ← nI_0, nI_eq (by omega) (by omega), Nat.testBit_eq_decide_div_mod_eq, decide_eq_false_iff_not]
  omega
theorem nb_1 {m i : Nat} (hm : m < 2 ^ 31) (hi : i < 32) : ((nI m >>> (nI i &&& 31)) &&& 1) = 1 ↔ m.testBit i = true := by
  rw [nb_shr hm hi, show (1 : Int32) = nI 1 from rfl, nI_eq (by omega) (by omega), Nat.testBit_eq_decide_div_mod_eq, decide_eq_true_eq]
/-- branches on a bit -/
theorem nb_b0 {x y : Int32} {A B : Prop} (m i : Nat) (f : m.testBit i = false → A) (g : m.testBit i = true → B) (hm : m < 2 ^ 31) (hi : i < 32) (hx : x = nI m := by rfl) (hy : y = nI i := by rfl) : (((x >>> (y &&& 31)) &&& 1) = 0 → A) ∧ (¬ ((x >>> (y &&& 31)) &&& 1) = 0 → B) := by
  subst hx hy
  rw [nb_0 hm hi]
  refine ⟨f, fun h => g ?_⟩
  cases e : m.testBit i with
  | false => exact absurd e h
  | true => rfl
theorem nb_b1 {x y : Int32} {A B : Prop} (m i : Nat) (f : m.testBit i = true → A) (g : m.testBit i = false → B) (hm : m < 2 ^ 31) (hi : i < 32) (hx : x = nI m := by rfl) (hy : y = nI i := by rfl) : (((x >>> (y &&& 31)) &&& 1) = 1 → A) ∧ (¬ ((x >>> (y &&& 31)) &&& 1) = 1 → B) := by
  subst hx hy
  rw [nb_1 hm hi]
  refine ⟨f, fun h => g ?_⟩
  cases e : m.testBit i with
  | true => exact absurd e h
  | false => rfl
/-- bounds of masks by their bits -/
theorem nb_lt {m k : Nat} (h : ∀ i, m.testBit i = true → i < k) : m < 2 ^ k := by
  apply Nat.lt_pow_two_of_testBit
  intro i hi
  cases e : m.testBit i with
  | false => rfl
  | true => have := h i e; omega
theorem nb_ge {m k i : Nat} (h : m < 2 ^ k) (hi : m.testBit i = true) : i < k := by
  apply Classical.byContradiction
  intro hk
  have := Nat.testBit_lt_two_pow (x := m) (i := i) (Nat.lt_of_lt_of_le h (Nat.pow_le_pow_right (by omega) (by omega)))
  rw [this] at hi
  cases hi
theorem nb_ext {m n : Nat} (h : ∀ i, m.testBit i = true ↔ n.testBit i = true) : m = n := by
  apply Nat.eq_of_testBit_eq
  intro i
  have := h i
  cases e : m.testBit i <;> cases e2 : n.testBit i <;> simp_all
theorem nb_orlt {a b k : Nat} (ha : a < 2 ^ k) (hb : b < 2 ^ k) : a ||| b < 2 ^ k := Nat.or_lt_two_pow ha hb
theorem nb_or_t {a b i : Nat} : (a ||| b).testBit i = true ↔ a.testBit i = true ∨ b.testBit i = true := by
  rw [Nat.testBit_or, Bool.or_eq_true]
theorem nb_p_t {p i : Nat} : (2 ^ p).testBit i = true ↔ i = p := by
  rw [Nat.testBit_two_pow, decide_eq_true_eq]
  exact ⟨fun h => h.symm, fun h => h.symm⟩
theorem nb_0_t {i : Nat} : ¬ (0 : Nat).testBit i = true := by simp
theorem nb_cl_i {m p i : Nat} : (nb_cl m p).testBit i = true ↔ m.testBit i = true ∧ i ≠ p := by
  rw [nb_cl_t, Bool.and_eq_true, decide_eq_true_eq]
theorem nb_cllt {m p k : Nat} (h : m < 2 ^ k) : nb_cl m p < 2 ^ k := nb_lt (fun _ hi => nb_ge h (nb_cl_i.mp hi).1)
theorem nb_p31 {i : Nat} (h : i < 31) : 2 ^ i < 2 ^ 31 := Nat.pow_lt_pow_right (by omega) h
theorem nb_lt_of {m k j : Nat} (h : m < 2 ^ k) (hk : k ≤ j) : m < 2 ^ j := Nat.lt_of_lt_of_le h (Nat.pow_le_pow_right (by omega) hk)
/-- fields of four bits -/
def dg (w t : Nat) : Nat := w / 2 ^ (4 * t) % 16
theorem dg_t {w t i : Nat} : (dg w t).testBit i = (decide (i < 4) && w.testBit (4 * t + i)) := by
  unfold dg
  rw [show (16 : Nat) = 2 ^ 4 from rfl, Nat.testBit_mod_two_pow, Nat.testBit_div_two_pow, Nat.add_comm]
theorem dg_or {w t c : Nat} (hc : c < 16) (h0 : dg w t = 0) (s : Nat) : dg (w ||| c * 2 ^ (4 * t)) s = if s = t then c else dg w s := by
  apply Nat.eq_of_testBit_eq
  intro i
  have hcb : ∀ i, 4 ≤ i → c.testBit i = false := fun i hi => Nat.testBit_lt_two_pow (Nat.lt_of_lt_of_le hc (Nat.pow_le_pow_right (n := 2) (by omega) hi))
  rw [dg_t, Nat.testBit_or, ← Nat.shiftLeft_eq, Nat.testBit_shiftLeft]
  by_cases hi : i < 4
  · rw [decide_eq_true hi, Bool.true_and]
    by_cases e : s = t
    · subst e
      rw [if_pos rfl, decide_eq_true (by omega), Bool.true_and, show 4 * s + i - 4 * s = i by omega]
      have := congrArg (fun x => x.testBit i) h0
      simp only [dg_t, decide_eq_true hi, Bool.true_and, Nat.zero_testBit] at this
      rw [this, Bool.false_or]
    · rw [if_neg e, dg_t, decide_eq_true hi, Bool.true_and]
      by_cases h2 : 4 * t ≤ 4 * s + i
      · rw [hcb (4 * s + i - 4 * t) (by omega), Bool.and_false, Bool.or_false]
      · rw [decide_eq_false (by omega), Bool.false_and, Bool.or_false]
  · rw [decide_eq_false hi, Bool.false_and]
    by_cases e : s = t
    · rw [if_pos e, hcb i (by omega)]
    · rw [if_neg e, dg_t, decide_eq_false hi, Bool.false_and]
theorem dg_0 (t : Nat) : dg 0 t = 0 := by unfold dg; simp
theorem dg_16 (w t : Nat) : dg w t < 16 := Nat.mod_lt _ (by omega)
theorem dg_sh {w t : Nat} (hw : w < 2 ^ 63) (ht : t < 11) : (((lN w).toUInt64 >>> ((nI (4 * t)).toInt64.toUInt64 &&& Int64.toUInt64 63)).toInt64).toInt32 &&& 15 = nI (dg w t) := by
  rw [wb_shr (by omega) (by omega), lN_i, show (15 : Int32) = nI 15 from rfl, nx_and, show (15 : Nat) = 2 ^ 4 - 1 from rfl, Nat.and_two_pow_sub_one_eq_mod]
  rfl
end
section
/-! the texts: kinds and values by cell, lengths by file; and what is said of them, as the reference says it -/
abbrev tx_T : Type := (Nat → Nat) × (Nat → Nat) × (Nat → Nat)
def tx_kd (T : tx_T) (c : Nat) : Nat := T.1 c
def tx_va (T : tx_T) (c : Nat) : Nat := T.2.1 c
def tx_le (T : tx_T) (f : Nat) : Nat := T.2.2 f
def tx_tok (T : tx_T) (f a : Nat) : Nat := if a < tx_le T f then tx_kd T (20 * f + a) else 10
def tx_sen (G : gg_T) (T : tx_T) (f : Nat) : Prop := dd_E G (tx_tok T f) [10] 0 (tx_le T f)
def tx_Q (G : gg_T) (T : tx_T) (f q : Nat) : Prop := dd_V G (tx_tok T f) q [10] 0 ∧ ∀ q', dd_V G (tx_tok T f) q' [10] 0 → q' ≤ q
noncomputable def tx_err (G : gg_T) (T : tx_T) (f : Nat) : Int32 := @ite Int32 (tx_sen G T f) (Classical.propDecidable _) (-1) (@dite Int32 (∃ q, tx_Q G T f q) (Classical.propDecidable _) (fun h => nI (Classical.choose h)) (fun _ => -2))
theorem tx_err_s {G : gg_T} {T : tx_T} {f : Nat} (h : tx_sen G T f) : tx_err G T f = -1 := if_pos h
theorem tx_err_q {G : gg_T} {T : tx_T} {f q : Nat} (h : ¬ tx_sen G T f) (hq : tx_Q G T f q) : tx_err G T f = nI q := by
  have hx : ∃ q, tx_Q G T f q := ⟨q, hq⟩
  have h1 := Classical.choose_spec hx
  have e : Classical.choose hx = q := by
    have h2 := h1.2 q hq.1
    have h3 := hq.2 _ h1.1
    omega
  unfold tx_err
  rw [if_neg h, dif_pos hx, e]
noncomputable def tx_is (G : gg_T) (T : tx_T) (f a x : Nat) : Bool := @decide (tx_sen G T f ∧ a < tx_le T f ∧ pl_rl G (tx_tok T f) a = nI x) (Classical.propDecidable _)
theorem tx_is_i {G : gg_T} {T : tx_T} {f a x : Nat} : tx_is G T f a x = true ↔ tx_sen G T f ∧ a < tx_le T f ∧ pl_rl G (tx_tok T f) a = nI x := by
  unfold tx_is
  exact @decide_eq_true_iff _ (Classical.propDecidable _)
theorem tx_is_f {G : gg_T} {T : tx_T} {f a x : Nat} : tx_is G T f a x = false ↔ ¬ (tx_sen G T f ∧ a < tx_le T f ∧ pl_rl G (tx_tok T f) a = nI x) := by
  unfold tx_is
  exact @decide_eq_false_iff_not _ (Classical.propDecidable _)
/-- the first i with P, among d numbers -/
def tx_fr (P : Nat → Bool) : Nat → Nat → Option Nat
  | 0, _ => none
  | d + 1, i => if P i = true then some i else tx_fr P d (i + 1)
/-- where the scope of z tokens that contains token a begins -/
noncomputable def tx_ar (G : gg_T) (T : tx_T) (f a z : Nat) : Option Nat := tx_fr (fun i => pl_si G (tx_tok T f) i (i + z)) (a + 1 - (a + 1 - z)) (a + 1 - z)
def tx_cd (i z : Nat) : Nat := 32 * i + i + z - 1
noncomputable def tx_ig (G : gg_T) (T : tx_T) (f a : Nat) : Nat → Nat → Int32
  | 0, _ => -1
  | d + 1, z => match tx_ar G T f a z with
    | some i => nI (tx_cd i z)
    | none => tx_ig G T f a d (z + 1)
noncomputable def tx_inn (G : gg_T) (T : tx_T) (f a : Nat) : Int32 := tx_ig G T f a 20 1
/-- the first definition of the name in the scope, c being the number of definitions before a -/
noncomputable def tx_fd (G : gg_T) (T : tx_T) (f : Nat) (sc : Int32) (nm : Nat) : Nat → Nat → Nat → Int32
  | 0, _, _ => -1
  | k + 1, a, c => if tx_is G T f a 1 = true then (if tx_inn G T f a = sc ∧ tx_va T (20 * f + a) = nm then nI (32 * f + c) else tx_fd G T f sc nm k (a + 1) (c + 1)) else tx_fd G T f sc nm k (a + 1) c
noncomputable def tx_fi (G : gg_T) (T : tx_T) (f : Nat) (sc : Int32) (nm : Nat) : Int32 := tx_fd G T f sc nm 20 0 0
noncomputable def tx_l1 (G : gg_T) (T : tx_T) (f a nm : Nat) : Nat → Nat → Int32
  | 0, _ => -1
  | d + 1, z => match tx_ar G T f a z with
    | none => tx_l1 G T f a nm d (z + 1)
    | some i => if 0 ≤ tx_fi G T f (nI (tx_cd i z)) nm then tx_fi G T f (nI (tx_cd i z)) nm else tx_l1 G T f a nm d (z + 1)
noncomputable def tx_l3 (G : gg_T) (T : tx_T) (f nm : Nat) : Nat → Nat → Int32
  | 0, _ => -1
  | d + 1, i => if tx_is G T f i 3 = true then (if 0 ≤ tx_fi G T (tx_va T (20 * f + i) % 4) (-1) nm then tx_fi G T (tx_va T (20 * f + i) % 4) (-1) nm else tx_l3 G T f nm d (i + 1)) else tx_l3 G T f nm d (i + 1)
noncomputable def tx_l2 (G : gg_T) (T : tx_T) (f nm : Nat) : Int32 := if 0 ≤ tx_fi G T f (-1) nm then tx_fi G T f (-1) nm else tx_l3 G T f nm 20 0
noncomputable def tx_lk (G : gg_T) (T : tx_T) (f a : Nat) : Int32 :=
  if 0 ≤ tx_l1 G T f a (tx_va T (20 * f + a)) 20 1 then tx_l1 G T f a (tx_va T (20 * f + a)) 20 1 else tx_l2 G T f (tx_va T (20 * f + a))
/-- definitions that are not the first of their name in their scope -/
noncomputable def tx_du (G : gg_T) (T : tx_T) (f : Nat) : Nat → Nat → Nat → Nat
  | 0, _, _ => 0
  | k + 1, a, c => if tx_is G T f a 1 = true then (if tx_fi G T f (tx_inn G T f a) (tx_va T (20 * f + a)) = nI (32 * f + c) then 0 else 1) + tx_du G T f k (a + 1) (c + 1) else tx_du G T f k (a + 1) c
noncomputable def tx_dup (G : gg_T) (T : tx_T) (f : Nat) : Nat := tx_du G T f 20 0 0
/-- references without a target -/
noncomputable def tx_ug (G : gg_T) (T : tx_T) (f : Nat) : Nat → Nat → Nat
  | 0, _ => 0
  | k + 1, a => if tx_is G T f a 2 = true then (if 0 ≤ tx_lk G T f a then 0 else 1) + tx_ug G T f k (a + 1) else tx_ug G T f k (a + 1)
noncomputable def tx_un (G : gg_T) (T : tx_T) (f : Nat) : Nat := tx_ug G T f 20 0
/-- the places of a role, in order -/
noncomputable def tx_ps (G : gg_T) (T : tx_T) (f x : Nat) : List Nat := (List.range 20).filter (fun a => tx_is G T f a x)
def zz_ok (G : gg_T) (b : Nat) (T : tx_T) : Prop := gg_ok G ∧ b ≤ 1 ∧ (b = 1 → gg_LL G) ∧ (∀ c, tx_kd T c < 10) ∧ (∀ c, tx_va T c < 16) ∧ (∀ f, tx_le T f ≤ 20) ∧ (b = 0 → ∀ f, f < 4 → tx_le T f = 0)
theorem tx_tok10 {T : tx_T} {f : Nat} (h : ∀ c, tx_kd T c < 10) : ∀ a, tx_tok T f a ≤ 10 := by
  intro a
  unfold tx_tok
  by_cases hx : a < tx_le T f
  · rw [if_pos hx]; have := h (20 * f + a); omega
  · rw [if_neg hx]; omega
theorem tx_tokn {T : tx_T} {f : Nat} : ∀ a, tx_le T f ≤ a → tx_tok T f a = 10 := by
  intro a h
  exact if_neg (by omega)
/-! the reference's state -/
def yy_A (G : gg_T) (T : tx_T) (f : Nat) (a_bad a_part a_scopes a_inner : Nat → Int32) : Prop :=
  a_bad f = tx_err G T f ∧ (tx_sen G T f → (∀ a, a < tx_le T f → a_part (20 * f + a) = pl_rl G (tx_tok T f) a ∧ a_inner (20 * f + a) = tx_inn G T f a) ∧
    (∀ i, i < 20 → ∃ m, a_scopes (20 * f + i) = nI m ∧ m < 2 ^ 20 ∧ ∀ j, m.testBit j = true ↔ pl_SI G (tx_tok T f) i (j + 1)))
def yy_F (G : gg_T) (b : Nat) (T : tx_T) (kn : Nat → Nat) (a_bad a_part a_scopes a_inner : Nat → Int32) : Prop :=
  (∀ f, kn f ≤ 1) ∧ (b = 0 → ∀ f, f < 4 → kn f = 0) ∧ ∀ f, f < 4 → kn f = 1 → yy_A G T f a_bad a_part a_scopes a_inner
def yy_R (G : gg_T) (b : Nat) (T : tx_T) (v : SY) : Prop := match v with
  | (f_np, f_built, f_some, f_empty, f_wn, f_nt, a_pRule, a_pScope, a_pLen, a_sym, a_role, a_first, a_follow, a_kind, a_val, a_len, a_word, a_reach, a_beyond, a_way, a_known, a_bad, a_part, a_scopes, a_inner, a_tRule, a_tFrom, a_tTo, a_before) => f_np = nI (gg_np G) ∧ f_built = nI b ∧ a_pRule = nA (gg_ru G) ∧ a_pScope = nA (gg_sc G) ∧ a_pLen = nA (gg_ln G) ∧ a_sym = nA (gg_sy G) ∧ a_role = gg_ro G ∧
    a_kind = nA (tx_kd T) ∧ a_val = nA (tx_va T) ∧ a_len = nA (tx_le T) ∧ ∃ kn, a_known = nA kn ∧ yy_F G b T kn a_bad a_part a_scopes a_inner
theorem yy_mk {G : gg_T} {b : Nat} {T : tx_T} {f_some f_empty f_wn f_nt : Int32} {a_first a_follow a_word a_reach a_beyond a_way a_bad a_part a_scopes a_inner a_tRule a_tFrom a_tTo a_before : Nat → Int32} {kn : Nat → Nat} (h : yy_F G b T kn a_bad a_part a_scopes a_inner) : yy_R G b T (nI (gg_np G), nI b, f_some, f_empty, f_wn, f_nt, nA (gg_ru G), nA (gg_sc G), nA (gg_ln G), nA (gg_sy G), gg_ro G, a_first, a_follow, nA (tx_kd T), nA (tx_va T), nA (tx_le T), a_word, a_reach, a_beyond, a_way, nA kn, a_bad, a_part, a_scopes, a_inner, a_tRule, a_tFrom, a_tTo, a_before) :=
  ⟨rfl, rfl, rfl, rfl, rfl, rfl, rfl, rfl, rfl, rfl, kn, rfl, h⟩
theorem yy_el {G : gg_T} {b : Nat} {T : tx_T} {P : SY → Prop} (h : ∀ (f_some f_empty f_wn f_nt : Int32) (a_first a_follow a_word a_reach a_beyond a_way a_bad a_part a_scopes a_inner a_tRule a_tFrom a_tTo a_before : Nat → Int32) (kn : Nat → Nat), yy_F G b T kn a_bad a_part a_scopes a_inner → P (nI (gg_np G), nI b, f_some, f_empty, f_wn, f_nt, nA (gg_ru G), nA (gg_sc G), nA (gg_ln G), nA (gg_sy G), gg_ro G, a_first, a_follow, nA (tx_kd T), nA (tx_va T), nA (tx_le T), a_word, a_reach, a_beyond, a_way, nA kn, a_bad, a_part, a_scopes, a_inner, a_tRule, a_tFrom, a_tTo, a_before)) {v : SY} (I : yy_R G b T v) : P v := by
  obtain ⟨f_np, f_built, f_some, f_empty, f_wn, f_nt, a_pRule, a_pScope, a_pLen, a_sym, a_role, a_first, a_follow, a_kind, a_val, a_len, a_word, a_reach, a_beyond, a_way, a_known, a_bad, a_part, a_scopes, a_inner, a_tRule, a_tFrom, a_tTo, a_before⟩ := v
  obtain ⟨rfl, rfl, rfl, rfl, rfl, rfl, rfl, rfl, rfl, rfl, kn, rfl, hF⟩ := I
  exact h _ _ _ _ _ _ _ _ _ _ _ _ _ _ _ _ _ _ _ hF
end
section
/-! the reference's walk -/
theorem b01_1 {p : Prop} {x : Nat} (h : x ≤ 1) (hp : x = 1 ↔ p) : (p ∧ x = 1) ∨ (¬ p ∧ x = 0) := by
  by_cases hx : x = 1
  · exact Or.inl ⟨hp.mp hx, hx⟩
  · exact Or.inr ⟨fun h1 => hx (hp.mpr h1), by omega⟩
def yw_C (G : gg_T) (tok : Nat → Nat) (wn : Nat) (re : Nat → Nat → Nat) (s j j' : Nat) : Prop :=
  (10 ≤ s ∧ (re (s - 10) j).testBit j' = true) ∨ (s < 10 ∧ j < wn ∧ tok j = s ∧ j' = j + 1)
section YW
variable {G : gg_T} {f_built f_some f_empty f_wn f_nt : Int32} {a_first a_follow a_kind a_val a_len a_word a_reach a_beyond a_way a_known a_bad a_part a_scopes a_inner a_tRule a_tFrom a_tTo a_before : Nat → Int32} {tok : Nat → Nat} {wn : Nat} {re : Nat → Nat → Nat} {be : Nat → Nat}
theorem yw_51 {post : Int32 → SY → Prop} {J : Int32 → Int32 → (Nat → Int32) → (Nat → Int32) → (Nat → Int32) → (Nat → Int32) → (Nat → Int32) → (Nat → Int32) → (Nat → Int32) → (Nat → Int32) → (Nat → Int32) → (Nat → Int32) → (Nat → Int32) → (Nat → Int32) → (Nat → Int32) → (Nat → Int32) → (Nat → Int32) → (Nat → Int32) → (Nat → Int32) → (Nat → Int32) → (Nat → Int32) → (Nat → Int32) → (Nat → Int32) → (Nat → Int32) → (Nat → Int32) →  Prop} {p m s w pb0 acc0 : Nat} {way0 : Nat → Int32} (hG : gg_ok G) (hwn : wn ≤ 21) (hs : s < 16) (hm : m < 4)
    (hwd : ∀ j, j < wn → a_word j = nI (tok j) ∧ tok j < 10) (hre : ∀ A j, A < 6 → j ≤ wn → a_reach (22 * A + j) = nI (re A j) ∧ re A j < 2 ^ 22) (hbe : ∀ A, A < 6 → a_beyond A = nI (be A) ∧ be A < 2 ^ 22)
    (hw : w < 2 ^ 22) (hw0 : way0 m = nI w)
    (hJ : ∀ way acc pb, (∀ i, i ≠ m + 1 → way i = way0 i) → way (m + 1) = nI acc → acc < 2 ^ 22 → (∀ j', acc.testBit j' = true ↔ acc0.testBit j' = true ∨ ∃ j, j < wn + 1 ∧ w.testBit j = true ∧ yw_C G tok wn re s j j') →
      pb ≤ 1 → (pb = 1 ↔ pb0 = 1 ∨ ∃ j, j < wn + 1 ∧ w.testBit j = true ∧ (j = wn ∨ (10 ≤ s ∧ (be (s - 10)).testBit j = true))) → J (nI pb) (nI (m + 1)) (nA (gg_ru G)) (nA (gg_sc G)) (nA (gg_ln G)) (nA (gg_sy G)) (gg_ro G) a_first a_follow a_kind a_val a_len a_word a_reach a_beyond way a_known a_bad a_part a_scopes a_inner a_tRule a_tFrom a_tTo a_before) :
    ∀ d j way acc pb, j + d = wn + 1 → (∀ i, i ≠ m + 1 → way i = way0 i) → way (m + 1) = nI acc → acc < 2 ^ 22 → (∀ j', acc.testBit j' = true ↔ acc0.testBit j' = true ∨ ∃ j0, j0 < j ∧ w.testBit j0 = true ∧ yw_C G tok wn re s j0 j') →
      pb ≤ 1 → (pb = 1 ↔ pb0 = 1 ∨ ∃ j0, j0 < j ∧ w.testBit j0 = true ∧ (j0 = wn ∨ (10 ≤ s ∧ (be (s - 10)).testBit j0 = true))) →
      wY_walk_51 post J (nI p) (nI m) (nI s) (nI (gg_np G)) f_built f_some f_empty (nI wn) f_nt (d + 1) (nI pb) (nI j) (nA (gg_ru G)) (nA (gg_sc G)) (nA (gg_ln G)) (nA (gg_sy G)) (gg_ro G) a_first a_follow a_kind a_val a_len a_word a_reach a_beyond way a_known a_bad a_part a_scopes a_inner a_tRule a_tFrom a_tTo a_before := by
  intro d
  induction d with
  | zero =>
    intro j way acc pb hj h1 h2 h3 h4 h5 h6
    have e : j = wn + 1 := by omega
    subst e
    refine pk_lt wn (wn + 1) (fun _ => nm_r (nI_1 m) ?_) (fun h => absurd h (by omega))
    exact hJ way acc pb h1 h2 h3 h4 h5 h6
  | succ d ih =>
    intro j way acc pb hj h1 h2 h3 h4 h5 h6
    refine pk_lt wn j (fun h => absurd h (by omega)) (fun hjn => ⟨pk_in m 5 (by omega), ?_⟩)
    have hwm : way (nI m).toNatClampNeg = nI w := by rw [nI_clamp (by omega), h1 m (by omega), hw0]
    rw [hwm]
    refine nb_b0 w j (fun hb => nm_r (nI_1 j) ?_) (fun hb => ?_) (by omega) (by omega)
    · refine ih (j + 1) way acc pb (by omega) h1 h2 h3 (fun j' => ?_) h5 ?_
      · rw [h4 j']
        refine or_congr Iff.rfl ⟨fun ⟨j0, x, y, z⟩ => ⟨j0, by omega, y, z⟩, fun ⟨j0, x, y, z⟩ => ⟨j0, ?_, y, z⟩⟩
        by_cases e : j0 = j
        · subst e; rw [hb] at y; cases y
        · omega
      · rw [h6]
        refine or_congr Iff.rfl ⟨fun ⟨j0, x, y, z⟩ => ⟨j0, by omega, y, z⟩, fun ⟨j0, x, y, z⟩ => ⟨j0, ?_, y, z⟩⟩
        by_cases e : j0 = j
        · subst e; rw [hb] at y; cases y
        · omega
    · have step : ∀ pb', pb' ≤ 1 → (pb' = 1 ↔ pb = 1 ∨ (j = wn ∨ (10 ≤ s ∧ (be (s - 10)).testBit j = true))) →
          wY_walk_114 post J (wY_walk_51 post J (nI p) (nI m) (nI s) (nI (gg_np G)) f_built f_some f_empty (nI wn) f_nt (d + 1)) (nI p) (nI pb') (nI m) (nI s) (nI j) (nI (gg_np G)) f_built f_some f_empty (nI wn) f_nt (nA (gg_ru G)) (nA (gg_sc G)) (nA (gg_ln G)) (nA (gg_sy G)) (gg_ro G) a_first a_follow a_kind a_val a_len a_word a_reach a_beyond way a_known a_bad a_part a_scopes a_inner a_tRule a_tFrom a_tTo a_before := by
        intro pb' hp1 hp2
        have h6' : pb' = 1 ↔ pb0 = 1 ∨ ∃ j0, j0 < j + 1 ∧ w.testBit j0 = true ∧ (j0 = wn ∨ (10 ≤ s ∧ (be (s - 10)).testBit j0 = true)) := by
          rw [hp2, h6]
          constructor
          · intro h
            rcases h with (h | ⟨j0, x, y, z⟩) | h
            · exact Or.inl h
            · exact Or.inr ⟨j0, by omega, y, z⟩
            · exact Or.inr ⟨j, by omega, hb, h⟩
          · intro h
            rcases h with h | ⟨j0, x, y, z⟩
            · exact Or.inl (Or.inl h)
            · by_cases e : j0 = j
              · subst e; exact Or.inr z
              · exact Or.inl (Or.inr ⟨j0, by omega, y, z⟩)
        have next : ∀ x, x < 2 ^ 22 → (∀ j', x.testBit j' = true ↔ yw_C G tok wn re s j j') → wY_walk_51 post J (nI p) (nI m) (nI s) (nI (gg_np G)) f_built f_some f_empty (nI wn) f_nt (d + 1) (nI pb') (nI (j + 1)) (nA (gg_ru G)) (nA (gg_sc G)) (nA (gg_ln G)) (nA (gg_sy G)) (gg_ro G) a_first a_follow a_kind a_val a_len a_word a_reach a_beyond (upd way (m + 1) (nI (acc ||| x))) a_known a_bad a_part a_scopes a_inner a_tRule a_tFrom a_tTo a_before := by
          intro x hx hx2
          refine ih (j + 1) _ (acc ||| x) pb' (by omega) (fun i hi => ?_) pk_us (nb_orlt h3 hx) (fun j' => ?_) hp1 h6'
          · rw [pk_un hi]; exact h1 i hi
          · rw [nb_or_t, h4 j', hx2 j']
            constructor
            · intro h
              rcases h with (h | ⟨j0, x, y, z⟩) | h
              · exact Or.inl h
              · exact Or.inr ⟨j0, by omega, y, z⟩
              · exact Or.inr ⟨j, by omega, hb, h⟩
            · intro h
              rcases h with h | ⟨j0, x, y, z⟩
              · exact Or.inl (Or.inl h)
              · by_cases e : j0 = j
                · subst e; exact Or.inr z
                · exact Or.inl (Or.inr ⟨j0, by omega, y, z⟩)
        have nextn : (∀ j', ¬ yw_C G tok wn re s j j') → wY_walk_51 post J (nI p) (nI m) (nI s) (nI (gg_np G)) f_built f_some f_empty (nI wn) f_nt (d + 1) (nI pb') (nI (j + 1)) (nA (gg_ru G)) (nA (gg_sc G)) (nA (gg_ln G)) (nA (gg_sy G)) (gg_ro G) a_first a_follow a_kind a_val a_len a_word a_reach a_beyond way a_known a_bad a_part a_scopes a_inner a_tRule a_tFrom a_tTo a_before := by
          intro hx
          refine ih (j + 1) way acc pb' (by omega) h1 h2 h3 (fun j' => ?_) hp1 h6'
          rw [h4 j']
          constructor
          · intro h
            rcases h with h | ⟨j0, x, y, z⟩
            · exact Or.inl h
            · exact Or.inr ⟨j0, by omega, y, z⟩
          · intro h
            rcases h with h | ⟨j0, x, y, z⟩
            · exact Or.inl h
            · by_cases e : j0 = j
              · subst e; exact absurd z (hx j')
              · exact Or.inr ⟨j0, by omega, y, z⟩
        have em : nI m + 1 = nI (m + 1) := nI_1 m
        refine pk_le s 9 (fun h9 => ?_) (fun h9 => ?_)
        · refine pk_le wn j (fun hjw => nm_r (nI_1 j) (nextn ?_)) (fun hjw => ⟨pk_in j 21 (by omega), ?_⟩)
          · intro j' hc
            rcases hc with ⟨hc, _⟩ | ⟨_, hc, _⟩ <;> omega
          · have hwj := hwd j hjw
            rw [nI_clamp (show j < 2 ^ 31 by omega), hwj.1]
            refine pk_eq (tok j) s (fun ht => ?_) (fun ht => nm_r (nI_1 j) (nextn ?_))
            · rw [em, nI_clamp (show m + 1 < 2 ^ 31 by omega), h2, nb_sh2 (by omega), nb_or]
              refine ⟨pk_in (m + 1) 5 (by omega), pk_in (m + 1) 5 (by omega), nm_e (nm_r (nI_1 j) (next (2 ^ (j + 1)) ?_ ?_))⟩
              · exact Nat.pow_lt_pow_right (by omega) (by omega)
              · intro j'
                rw [nb_p_t]
                exact ⟨fun h => Or.inr ⟨by omega, hjw, ht, h⟩, fun h => h.elim (fun h => by omega) (fun h => h.2.2.2)⟩
            · intro j' hc
              rcases hc with ⟨hc, _⟩ | ⟨_, _, hc, _⟩
              · omega
              · exact ht hc
        · have hr := hre (s - 10) j (by omega) (by omega)
          have es : nI s - 10 = nI (s - 10) := pk_sub (a := s) (b := 10) (by omega)
          have e22 : (22 : Int32) * nI (s - 10) + nI j = nI (22 * (s - 10) + j) := by
            rw [show (22 : Int32) = nI 22 from rfl, pk_mul, nI_add]
          rw [em, nI_clamp (show m + 1 < 2 ^ 31 by omega), es, e22, nI_clamp (show 22 * (s - 10) + j < 2 ^ 31 by omega), h2, hr.1, nb_or]
          refine ⟨pk_in (m + 1) 5 (by omega), pk_in (22 * (s - 10) + j) 132 (by omega), pk_in (m + 1) 5 (by omega), nm_e (nm_r (nI_1 j) (next (re (s - 10) j) hr.2 ?_))⟩
          intro j'
          exact ⟨fun h => Or.inl ⟨by omega, h⟩, fun h => h.elim (fun h => h.2) (fun h => by omega)⟩
      refine pk_eq j wn (fun hjw => step 1 (by omega) (by simp [hjw])) (fun hjw => ?_)
      refine pk_le s 9 (fun h9 => step pb h5 ?_) (fun h9 => ?_)
      · constructor
        · intro h; exact Or.inl h
        · intro h
          rcases h with h | h | ⟨h, _⟩
          · exact h
          · exact absurd h hjw
          · omega
      · have es : nI s - 10 = nI (s - 10) := pk_sub (a := s) (b := 10) (by omega)
        have hb6 := hbe (s - 10) (by omega)
        rw [es, nI_clamp (show s - 10 < 2 ^ 31 by omega), hb6.1]
        refine ⟨pk_in (s - 10) 6 (by omega), nb_b0 (be (s - 10)) j (fun hbb => step pb h5 ?_) (fun hbb => step 1 (by omega) ?_) (by have := hb6.2; omega) (by omega)⟩
        · constructor
          · intro h; exact Or.inl h
          · intro h
            rcases h with h | h | ⟨_, h⟩
            · exact h
            · exact absurd h hjw
            · rw [hbb] at h; cases h
        · exact ⟨fun _ => Or.inr (Or.inr ⟨by omega, hbb⟩), fun _ => rfl⟩
end YW
end
section
def rc_R (re : Nat → Nat → Nat) : Nat → Nat → Nat → Prop := fun A j j' => (re A j).testBit j' = true
def rc_E (be : Nat → Nat) : Nat → Nat → Prop := fun A j => (be A).testBit j = true
def yw_ok (G : gg_T) (tok : Nat → Nat) (wn : Nat) (re : Nat → Nat → Nat) (p i : Nat) (way : Nat → Int32) (m : Nat) : Prop := ∃ w, way m = nI w ∧ w < 2 ^ 22 ∧ ∀ j, w.testBit j = true ↔ rc_W G tok wn (rc_R re) p i m j
def yw_S (wn : Nat) (tok : Nat → Nat) (re : Nat → Nat → Nat) (be : Nat → Nat) (a_word a_reach a_beyond : Nat → Int32) : Prop :=
  wn ≤ 21 ∧ (∀ j, j < wn → a_word j = nI (tok j) ∧ tok j < 10) ∧ (∀ A j, A < 6 → j ≤ wn → a_reach (22 * A + j) = nI (re A j) ∧ re A j < 2 ^ 22) ∧ (∀ A, A < 6 → a_beyond A = nI (be A) ∧ be A < 2 ^ 22)
section YW2
variable {G : gg_T} {f_built f_some f_empty f_wn f_nt : Int32} {a_first a_follow a_kind a_val a_len a_word a_reach a_beyond a_way a_known a_bad a_part a_scopes a_inner a_tRule a_tFrom a_tTo a_before : Nat → Int32} {tok : Nat → Nat} {wn : Nat} {re : Nat → Nat → Nat} {be : Nat → Nat}
theorem yw_14 {post : Int32 → SY → Prop} {p i : Nat} (hG : gg_ok G) (hp : p < 14) (hS : yw_S wn tok re be a_word a_reach a_beyond)
    (hP : ∀ way r, (∀ m, m ≤ gg_ln G p → yw_ok G tok wn re p i way m) → r ≤ 1 → (r = 1 ↔ rc_B G tok wn (rc_R re) (rc_E be) p i) → post (nI r) (nI (gg_np G), f_built, f_some, f_empty, nI wn, f_nt, nA (gg_ru G), nA (gg_sc G), nA (gg_ln G), nA (gg_sy G), gg_ro G, a_first, a_follow, a_kind, a_val, a_len, a_word, a_reach, a_beyond, way, a_known, a_bad, a_part, a_scopes, a_inner, a_tRule, a_tFrom, a_tTo, a_before)) :
    ∀ d m way pb, m + d = gg_ln G p → (∀ m', m' ≤ m → yw_ok G tok wn re p i way m') → pb ≤ 1 →
      (pb = 1 ↔ ∃ m' j, m' < m ∧ j ≤ wn ∧ rc_W G tok wn (rc_R re) p i m' j ∧ (j = wn ∨ (10 ≤ gg_sy G (4 * p + m') ∧ rc_E be (gg_sy G (4 * p + m') - 10) j))) →
      wY_walk_14 post (nI p) (nI (gg_np G)) f_built f_some f_empty (nI wn) f_nt (d + 1) (nI pb) (nI m) (nA (gg_ru G)) (nA (gg_sc G)) (nA (gg_ln G)) (nA (gg_sy G)) (gg_ro G) a_first a_follow a_kind a_val a_len a_word a_reach a_beyond way a_known a_bad a_part a_scopes a_inner a_tRule a_tFrom a_tTo a_before := by
  obtain ⟨hwn, hwd, hre, hbe⟩ := hS
  intro d
  induction d with
  | zero =>
    intro m way pb hm h1 h2 h3
    have hl := hG.2.2.1 p
    have e : m = gg_ln G p := by omega
    refine ⟨pk_in p 14 hp, ?_⟩
    rw [nA_cl (show p < 2 ^ 31 by omega)]
    refine pk_le (gg_ln G p) m (fun _ => ?_) (fun h => absurd h (by omega))
    obtain ⟨w, w1, w2, w3⟩ := h1 (gg_ln G p) (by omega)
    refine pk_eq pb 0 (fun hp0 => ⟨pk_in p 14 hp, pk_in (gg_ln G p) 5 (by omega), ?_⟩) (fun hp0 => ?_)
    · rw [nI_clamp (show gg_ln G p < 2 ^ 31 by omega), w1]
      refine nb_b0 w wn (fun hb => ?_) (fun hb => ?_) (by omega) (by omega)
      · refine hP way 0 (fun m' hm' => h1 m' (by omega)) (by omega) ⟨fun h => by omega, fun h => ?_⟩
        rcases h with ⟨m', j, x1, x2⟩ | h
        · rw [hp0] at h3; exact absurd (h3.mpr ⟨m', j, by omega, x2⟩) (by omega)
        · rw [(w3 wn).mpr h] at hb; cases hb
      · refine hP way 1 (fun m' hm' => h1 m' (by omega)) (by omega) ⟨fun _ => Or.inr ((w3 wn).mp hb), fun _ => rfl⟩
    · refine hP way 1 (fun m' hm' => h1 m' (by omega)) (by omega) ⟨fun _ => ?_, fun _ => rfl⟩
      obtain ⟨m', j, x1, x2⟩ := h3.mp (by omega)
      exact Or.inl ⟨m', j, by omega, x2⟩
  | succ d ih =>
    intro m way pb hm h1 h2 h3
    have hl := hG.2.2.1 p
    have hs := hG.2.2.2.1 (4 * p + m)
    refine ⟨pk_in p 14 hp, ?_⟩
    rw [nA_cl (show p < 2 ^ 31 by omega)]
    refine pk_le (gg_ln G p) m (fun h => absurd h (by omega)) (fun hml => ?_)
    have e1 : (4 : Int32) * nI p + nI m = nI (4 * p + m) := by rw [show (4 : Int32) = nI 4 from rfl, pk_mul, nI_add]
    have em : nI m + 1 = nI (m + 1) := nI_1 m
    rw [e1, nA_cl (show 4 * p + m < 2 ^ 31 by omega), em, nI_clamp (show m + 1 < 2 ^ 31 by omega)]
    obtain ⟨w, w1, w2, w3⟩ := h1 m (by omega)
    refine ⟨pk_in (4 * p + m) 56 (by omega), nm_e ⟨pk_in (m + 1) 5 (by omega), nm_e ⟨wn + 2, ?_⟩⟩⟩
    refine yw_51 (tok := tok) (wn := wn) (re := re) (be := be) (w := w) (pb0 := pb) (acc0 := 0) (way0 := upd way (m + 1) 0) hG hwn hs (by omega) hwd hre hbe w2 (by rw [pk_un (by omega)]; exact w1) ?_
      (wn + 1) 0 (upd way (m + 1) 0) 0 pb (by omega) (fun _ _ => rfl) pk_us (by omega) (fun j' => ⟨fun h => absurd h nb_0_t, fun h => h.elim (fun h => h) (fun ⟨j0, x, _⟩ => by omega)⟩) h2 ⟨fun h => Or.inl h, fun h => h.elim (fun h => h) (fun ⟨j0, x, _⟩ => by omega)⟩
    intro way' acc pb' y1 y2 y3 y4 y5 y6
    refine ih (m + 1) way' pb' (by omega) (fun m' hm' => ?_) y5 ?_
    · by_cases e : m' = m + 1
      · subst e
        refine ⟨acc, y2, y3, fun j' => ?_⟩
        rw [y4 j']
        constructor
        · intro h
          rcases h with h | ⟨j, j1, j2, j3⟩
          · exact absurd h nb_0_t
          · exact ⟨j, by omega, (w3 j).mp j2, j3⟩
        · intro ⟨j, j1, j2, j3⟩
          exact Or.inr ⟨j, by omega, (w3 j).mpr j2, j3⟩
      · obtain ⟨w', z1, z2⟩ := h1 m' (by omega)
        exact ⟨w', by rw [y1 m' e, pk_un e]; exact z1, z2⟩
    · rw [y6, h3]
      constructor
      · intro h
        rcases h with ⟨m', j, x1, x2⟩ | ⟨j, j1, j2, j3⟩
        · exact ⟨m', j, by omega, x2⟩
        · exact ⟨m, j, by omega, by omega, (w3 j).mp j2, j3⟩
      · intro ⟨m', j, x1, x2, x3, x4⟩
        by_cases e : m' = m
        · subst e
          exact Or.inr ⟨j, by omega, (w3 j).mpr x3, x4⟩
        · exact Or.inl ⟨m', j, by omega, x2, x3, x4⟩
theorem yw_walk {post : Int32 → SY → Prop} {p i : Nat} (hG : gg_ok G) (hp : p < 14) (hi : i ≤ wn) (hS : yw_S wn tok re be a_word a_reach a_beyond)
    (hP : ∀ way r, (∀ m, m ≤ gg_ln G p → yw_ok G tok wn re p i way m) → r ≤ 1 → (r = 1 ↔ rc_B G tok wn (rc_R re) (rc_E be) p i) → post (nI r) (nI (gg_np G), f_built, f_some, f_empty, nI wn, f_nt, nA (gg_ru G), nA (gg_sc G), nA (gg_ln G), nA (gg_sy G), gg_ro G, a_first, a_follow, a_kind, a_val, a_len, a_word, a_reach, a_beyond, way, a_known, a_bad, a_part, a_scopes, a_inner, a_tRule, a_tFrom, a_tTo, a_before)) :
    wpY_walk post (nI (gg_np G), f_built, f_some, f_empty, nI wn, f_nt, nA (gg_ru G), nA (gg_sc G), nA (gg_ln G), nA (gg_sy G), gg_ro G, a_first, a_follow, a_kind, a_val, a_len, a_word, a_reach, a_beyond, a_way, a_known, a_bad, a_part, a_scopes, a_inner, a_tRule, a_tFrom, a_tTo, a_before) (nI p) (nI i) := by
  have hwn := hS.1
  refine nm_r (e' := upd a_way 0 (nI (2 ^ i))) (by rw [nb_sh (by omega)]) ⟨gg_ln G p + 1, ?_⟩
  refine yw_14 hG hp hS hP (gg_ln G p) 0 _ 0 (by omega) (fun m' hm' => ?_) (by omega) ⟨fun h => by omega, fun ⟨m', j, x, _⟩ => by omega⟩
  have e : m' = 0 := by omega
  subst e
  refine ⟨2 ^ i, pk_us, Nat.pow_lt_pow_right (by omega) (by omega), fun j => ?_⟩
  rw [nb_p_t]
  exact Iff.rfl
end YW2
end
section
/-! the reference's settle -/
def ys_D (G : gg_T) (tok : Nat → Nat) (wn : Nat) (re : Nat → Nat → Nat) (be : Nat → Nat) : Prop :=
  (∀ A j j', rc_R re A j j' → dd_E G tok [A + 10] j j') ∧ (∀ A j, rc_E be A j → dd_V G tok wn [A + 10] j)
def ys_C (G : gg_T) (tok : Nat → Nat) (wn i : Nat) (re : Nat → Nat → Nat) (be : Nat → Nat) : Prop :=
  ∀ j, i ≤ j → j ≤ wn → ∀ A, A < 6 → (∀ j', dd_E G tok [A + 10] j j' → rc_R re A j j') ∧ (dd_V G tok wn [A + 10] j → rc_E be A j)
def ys_I (G : gg_T) (tok : Nat → Nat) (wn i : Nat) (re : Nat → Nat → Nat) (be : Nat → Nat) (a_word a_reach a_beyond : Nat → Int32) : Prop :=
  yw_S wn tok re be a_word a_reach a_beyond ∧ ys_D G tok wn re be ∧ (∀ A, A < 6 → rc_E be A wn) ∧ ys_C G tok wn i re be
def ys_Q (i : Nat) (re : Nat → Nat → Nat) (be : Nat → Nat) (q : Nat) : Prop := (q % 23 = 22 ∧ (be (q / 23)).testBit i = true) ∨ (q % 23 < 22 ∧ (re (q / 23) i).testBit (q % 23) = true)
noncomputable def ys_n (i : Nat) (re : Nat → Nat → Nat) (be : Nat → Nat) : Nat := kk_cnt (ys_Q i re be) 138
def ys_re (re : Nat → Nat → Nat) (A i x : Nat) : Nat → Nat → Nat := fun B j => if B = A ∧ j = i then x else re B j
def ys_cl (G : gg_T) (tok : Nat → Nat) (wn i : Nat) (re : Nat → Nat → Nat) (be : Nat → Nat) (p : Nat) : Prop :=
  (∀ j', rc_W G tok wn (rc_R re) p i (gg_ln G p) j' → rc_R re (gg_ru G p) i j') ∧ (rc_B G tok wn (rc_R re) (rc_E be) p i → rc_E be (gg_ru G p) i)
theorem ys_re_s {re : Nat → Nat → Nat} {A i x : Nat} : ys_re re A i x A i = x := if_pos ⟨rfl, rfl⟩
theorem ys_re_n {re : Nat → Nat → Nat} {A i x B j : Nat} (h : ¬ (B = A ∧ j = i)) : ys_re re A i x B j = re B j := if_neg h
theorem ys_re_id {re : Nat → Nat → Nat} {A i : Nat} : ys_re re A i (re A i) = re := by
  funext B j
  by_cases h : B = A ∧ j = i
  · rw [h.1, h.2, ys_re_s]
  · rw [ys_re_n h]
theorem un_id {f : Nat → Nat} {k : Nat} : un f k (f k) = f := by
  funext j
  by_cases h : j = k
  · rw [h, un_s]
  · rw [un_n h]
theorem ys_fin {G : gg_T} {tok : Nat → Nat} {wn i : Nat} {re : Nat → Nat → Nat} {be : Nat → Nat} (hG : gg_ok G) (hn : ∀ a, wn ≤ a → tok a = 10) (hi : i ≤ wn) (hB : ∀ A, A < 6 → rc_E be A wn)
    (hC : ys_C G tok wn (i + 1) re be) (hcl : ∀ p, p < gg_np G → ys_cl G tok wn i re be p) : ys_C G tok wn i re be := by
  have hR : ∀ j, i ≤ j → j ≤ wn → ∀ A j', A < 6 → dd_E G tok [A + 10] j j' → rc_R re A j j' := by
    intro j h1 h2 A j' hA h
    by_cases e : j = i
    · subst e
      obtain ⟨n, h⟩ := h
      exact rc_cR hG hn h2 (fun j h3 h4 A j' hA h => (hC j (by omega) h4 A hA).1 j' h) (fun p j' hp h => (hcl p hp).1 j' h) n A j' hA h
    · exact (hC j (by omega) h2 A hA).1 j' h
  intro j h1 h2 A hA
  refine ⟨fun j' h => hR j h1 h2 A j' hA h, fun h => ?_⟩
  by_cases e : j = wn
  · subst e; exact hB A hA
  · by_cases e2 : j = i
    · subst e2
      obtain ⟨n, h⟩ := h
      exact rc_cB hG hn (by omega) hR (fun j h3 h4 A hA h => (hC j (by omega) h4 A hA).2 h) (fun p hp h => (hcl p hp).2 h) n A hA h
    · exact (hC j (by omega) h2 A hA).2 h
section YS
variable {G : gg_T} {f_built f_some f_empty f_wn f_nt : Int32} {a_first a_follow a_kind a_val a_len a_word a_reach a_beyond a_way a_known a_bad a_part a_scopes a_inner a_tRule a_tFrom a_tTo a_before : Nat → Int32} {tok : Nat → Nat} {wn : Nat}
/-- what one step of the pass does to the table -/
theorem ys_step {re : Nat → Nat → Nat} {be : Nat → Nat} {i p w z : Nat} (hG : gg_ok G) (hp : p < gg_np G) (hi : i ≤ wn)
    (hI : ys_I G tok wn (i + 1) re be a_word a_reach a_beyond) (hw : w < 2 ^ 22) (hw2 : ∀ j, w.testBit j = true ↔ rc_W G tok wn (rc_R re) p i (gg_ln G p) j)
    (hz : z = be (gg_ru G p) ∨ (rc_B G tok wn (rc_R re) (rc_E be) p i ∧ z = be (gg_ru G p) ||| 2 ^ i)) :
    ys_I G tok wn (i + 1) (ys_re re (gg_ru G p) i (re (gg_ru G p) i ||| w)) (un be (gg_ru G p) z) a_word (upd a_reach (22 * gg_ru G p + i) (nI (re (gg_ru G p) i ||| w))) (upd a_beyond (gg_ru G p) (nI z)) ∧
    (∀ q, q < 138 → ys_Q i re be q → ys_Q i (ys_re re (gg_ru G p) i (re (gg_ru G p) i ||| w)) (un be (gg_ru G p) z) q) := by
  have hA := hG.2.1 p
  obtain ⟨⟨hwn, hwd, hre, hbe⟩, ⟨hD1, hD2⟩, hB, hC⟩ := hI
  have hr := hre (gg_ru G p) i hA hi
  have hb := hbe (gg_ru G p) hA
  have hzb : ∀ j, (be (gg_ru G p)).testBit j = true → z.testBit j = true := by
    intro j hj
    rcases hz with hz | ⟨_, hz⟩
    · rw [hz]; exact hj
    · rw [hz]; exact nb_or_t.mpr (Or.inl hj)
  have hzc : ∀ j, z.testBit j = true → (be (gg_ru G p)).testBit j = true ∨ (j = i ∧ rc_B G tok wn (rc_R re) (rc_E be) p i) := by
    intro j hj
    rcases hz with hz | ⟨hz0, hz⟩
    · rw [hz] at hj; exact Or.inl hj
    · rw [hz] at hj
      rcases nb_or_t.mp hj with hj | hj
      · exact Or.inl hj
      · exact Or.inr ⟨nb_p_t.mp hj, hz0⟩
  have hz22 : z < 2 ^ 22 := by
    rcases hz with hz | ⟨_, hz⟩
    · rw [hz]; exact hb.2
    · rw [hz]; exact nb_orlt hb.2 (Nat.pow_lt_pow_right (by omega) (by omega))
  have hbm : ∀ A j, rc_E be A j → rc_E (un be (gg_ru G p) z) A j := by
    intro A j h
    show (un be (gg_ru G p) z A).testBit j = true
    by_cases e : A = gg_ru G p
    · subst e; rw [un_s]; exact hzb j h
    · rw [un_n e]; exact h
  have hrm : ∀ A j j', rc_R re A j j' → rc_R (ys_re re (gg_ru G p) i (re (gg_ru G p) i ||| w)) A j j' := by
    intro A j j' h
    show (ys_re re (gg_ru G p) i (re (gg_ru G p) i ||| w) A j).testBit j' = true
    by_cases e : A = gg_ru G p ∧ j = i
    · rw [e.1, e.2, ys_re_s]
      rw [e.1, e.2] at h
      exact nb_or_t.mpr (Or.inl h)
    · rw [ys_re_n e]; exact h
  refine ⟨⟨⟨hwn, hwd, fun A j hA' hj => ?_, fun A hA' => ?_⟩, ⟨fun A j j' h => ?_, fun A j h => ?_⟩, fun A hA' => hbm A wn (hB A hA'), fun j h1 h2 A hA' => ?_⟩, fun q hq h => ?_⟩
  · by_cases e : A = gg_ru G p ∧ j = i
    · rw [e.1, e.2, ys_re_s, pk_us]
      exact ⟨rfl, nb_orlt hr.2 hw⟩
    · rw [ys_re_n e, pk_un]
      · exact hre A j hA' hj
      · intro h
        apply e
        omega
  · by_cases e : A = gg_ru G p
    · subst e; rw [un_s, pk_us]; exact ⟨rfl, hz22⟩
    · rw [un_n e, pk_un e]; exact hbe A hA'
  · by_cases e : A = gg_ru G p ∧ j = i
    · obtain ⟨rfl, rfl⟩ := e
      have h : (ys_re re (gg_ru G p) j (re (gg_ru G p) j ||| w) (gg_ru G p) j).testBit j' = true := h
      rw [ys_re_s] at h
      rcases nb_or_t.mp h with h | h
      · exact hD1 _ _ _ h
      · exact rc_sA hp (rc_sdE hD1 ((hw2 j').mp h))
    · have h : (ys_re re (gg_ru G p) i (re (gg_ru G p) i ||| w) A j).testBit j' = true := h
      rw [ys_re_n e] at h
      exact hD1 _ _ _ h
  · have h : (un be (gg_ru G p) z A).testBit j = true := h
    by_cases e : A = gg_ru G p
    · subst e
      rw [un_s] at h
      rcases hzc j h with h | ⟨h, h'⟩
      · exact hD2 _ _ h
      · subst h
        exact rc_sBA hp (rc_sdB hD1 hD2 h')
    · rw [un_n e] at h; exact hD2 _ _ h
  · exact ⟨fun j' h => hrm _ _ _ ((hC j h1 h2 A hA').1 j' h), fun h => hbm _ _ ((hC j h1 h2 A hA').2 h)⟩
  · rcases h with ⟨h, h'⟩ | ⟨h, h'⟩
    · exact Or.inl ⟨h, hbm _ _ h'⟩
    · exact Or.inr ⟨h, hrm _ _ _ h'⟩
theorem ys_10 {post : SY → Prop} {J : Int32 → Int32 → Int32 → Int32 → Int32 → Int32 → Int32 → (Nat → Int32) → (Nat → Int32) → (Nat → Int32) → (Nat → Int32) → (Nat → Int32) → (Nat → Int32) → (Nat → Int32) → (Nat → Int32) → (Nat → Int32) → (Nat → Int32) → (Nat → Int32) → (Nat → Int32) → (Nat → Int32) → (Nat → Int32) → (Nat → Int32) → (Nat → Int32) → (Nat → Int32) → (Nat → Int32) → (Nat → Int32) → (Nat → Int32) → (Nat → Int32) → (Nat → Int32) → (Nat → Int32) →  Prop} {i c0 : Nat} (hG : gg_ok G) (hi : i ≤ wn)
    (hJ : ∀ re be mo a_way a_reach a_beyond, ys_I G tok wn (i + 1) re be a_word a_reach a_beyond → mo ≤ 1 → (mo = 0 → ∀ p, p < gg_np G → ys_cl G tok wn i re be p) → (mo = 1 → c0 < ys_n i re be) → J (nI mo) (nI (gg_np G)) f_built f_some f_empty (nI wn) f_nt (nA (gg_ru G)) (nA (gg_sc G)) (nA (gg_ln G)) (nA (gg_sy G)) (gg_ro G) a_first a_follow a_kind a_val a_len a_word a_reach a_beyond a_way a_known a_bad a_part a_scopes a_inner a_tRule a_tFrom a_tTo a_before) :
    ∀ d p re be mo a_way a_reach a_beyond, p + d = gg_np G → ys_I G tok wn (i + 1) re be a_word a_reach a_beyond → mo ≤ 1 → (mo = 0 → ∀ p', p' < p → ys_cl G tok wn i re be p') → c0 ≤ ys_n i re be → (mo = 1 → c0 < ys_n i re be) →
      wY_settle_10 post J (nI i) (d + 1) (nI mo) (nI p) (nI (gg_np G)) f_built f_some f_empty (nI wn) f_nt (nA (gg_ru G)) (nA (gg_sc G)) (nA (gg_ln G)) (nA (gg_sy G)) (gg_ro G) a_first a_follow a_kind a_val a_len a_word a_reach a_beyond a_way a_known a_bad a_part a_scopes a_inner a_tRule a_tFrom a_tTo a_before := by
  intro d
  induction d with
  | zero =>
    intro p re be mo a_way a_reach a_beyond hp hI h1 h2 h3 h4
    have e : p = gg_np G := by omega
    have h14 := hG.1
    refine pk_le (gg_np G) p (fun _ => ?_) (fun h => absurd h (by omega))
    exact hJ re be mo a_way a_reach a_beyond hI h1 (fun h p' hp' => h2 h p' (by omega)) h4
  | succ d ih =>
    intro p re be mo a_way a_reach a_beyond hp hI h1 h2 h3 h4
    have h14 := hG.1
    have hwn := hI.1.1
    have hA := hG.2.1 p
    have hl := hG.2.2.1 p
    refine pk_le (gg_np G) p (fun h => absurd h (by omega)) (fun hpn => ⟨pk_in p 14 (by omega), nm_r (nA_cl (show p < 2 ^ 31 by omega)) ?_⟩)
    refine yw_walk hG (by omega) hi hI.1 ?_
    intro way r hw hr hrb
    obtain ⟨w, w1, w2, w3⟩ := hw (gg_ln G p) (Nat.le_refl _)
    have hr0 := hI.1.2.2.1 (gg_ru G p) i hA hi
    have hb0 := hI.1.2.2.2 (gg_ru G p) hA
    have e1 : (22 : Int32) * nI (gg_ru G p) + nI i = nI (22 * gg_ru G p + i) := by rw [show (22 : Int32) = nI 22 from rfl, pk_mul, nI_add]
    have c22 : (nI (22 * gg_ru G p + i)).toNatClampNeg = 22 * gg_ru G p + i := nI_clamp (by omega)
    have cA : (nI (gg_ru G p)).toNatClampNeg = gg_ru G p := nI_clamp (by omega)
    dsimp only
    rw [e1, c22, cA, nA_cl (show p < 2 ^ 31 by omega), nI_clamp (show gg_ln G p < 2 ^ 31 by omega), w1, hr0.1, nb_or]
    refine ⟨pk_in (22 * gg_ru G p + i) 132 (by omega), pk_in p 14 (by omega), pk_in (gg_ln G p) 5 (by omega), nm_e ?_⟩
    have hx22 : re (gg_ru G p) i ||| w < 2 ^ 22 := nb_orlt hr0.2 w2
    have fin : ∀ z mo', (z = be (gg_ru G p) ∨ (rc_B G tok wn (rc_R re) (rc_E be) p i ∧ z = be (gg_ru G p) ||| 2 ^ i)) → mo' ≤ 1 →
        (mo' = 0 → mo = 0 ∧ re (gg_ru G p) i ||| w = re (gg_ru G p) i ∧ z = be (gg_ru G p) ∧ (rc_B G tok wn (rc_R re) (rc_E be) p i → rc_E be (gg_ru G p) i)) → (mo' = 1 → mo = 1 ∨ ¬ (re (gg_ru G p) i ||| w = re (gg_ru G p) i ∧ z = be (gg_ru G p))) →
        wY_settle_119 post J (wY_settle_10 post J (nI i) (d + 1)) (nI i) (nI mo') (nI p) (nI (gg_ru G p)) (nI (re (gg_ru G p) i ||| w)) (nI z) (nI (gg_np G)) f_built f_some f_empty (nI wn) f_nt (nA (gg_ru G)) (nA (gg_sc G)) (nA (gg_ln G)) (nA (gg_sy G)) (gg_ro G) a_first a_follow a_kind a_val a_len a_word a_reach a_beyond way a_known a_bad a_part a_scopes a_inner a_tRule a_tFrom a_tTo a_before := by
      intro z mo' hz hm1 hm2 hm3
      obtain ⟨s1, s2⟩ := ys_step hG hpn hi hI w2 w3 hz
      have hcnt : ys_n i re be ≤ ys_n i (ys_re re (gg_ru G p) i (re (gg_ru G p) i ||| w)) (un be (gg_ru G p) z) := kk_mono 138 s2
      unfold wY_settle_119
      rw [e1, c22, cA]
      refine ⟨pk_in (22 * gg_ru G p + i) 132 (by omega), nm_e ⟨pk_in (gg_ru G p) 6 hA, nm_e (nm_r (nI_1 p) ?_)⟩⟩
      refine ih (p + 1) _ _ mo' way _ _ (by omega) s1 hm1 (fun h0 p' hp' => ?_) (by omega) (fun h1' => ?_)
      · obtain ⟨q1, q2, q3, q4⟩ := hm2 h0
        rw [q2, q3, ys_re_id, un_id]
        by_cases e : p' = p
        · subst e
          refine ⟨fun j' hj => ?_, q4⟩
          have := (w3 j').mpr hj
          show (re (gg_ru G p') i).testBit j' = true
          rw [← q2]
          exact nb_or_t.mpr (Or.inr this)
        · exact h2 q1 p' (by omega)
      · rcases hm3 h1' with hm | hm
        · have := h4 hm; omega
        · have : ys_n i re be < ys_n i (ys_re re (gg_ru G p) i (re (gg_ru G p) i ||| w)) (un be (gg_ru G p) z) := by
            apply kk_lt 138 s2
            apply Classical.byContradiction
            intro hn
            apply hm
            constructor
            · apply nb_ext
              intro j
              refine ⟨fun hj => ?_, fun hj => nb_or_t.mpr (Or.inl hj)⟩
              have hj22 := nb_ge hx22 hj
              apply Classical.byContradiction
              intro hc
              apply hn
              refine ⟨23 * gg_ru G p + j, by omega, ?_, ?_⟩
              · refine Or.inr ⟨by omega, ?_⟩
                rw [show (23 * gg_ru G p + j) / 23 = gg_ru G p by omega, show (23 * gg_ru G p + j) % 23 = j by omega, ys_re_s]
                exact hj
              · intro hq
                rcases hq with ⟨hq, _⟩ | ⟨_, hq⟩
                · omega
                · rw [show (23 * gg_ru G p + j) / 23 = gg_ru G p by omega, show (23 * gg_ru G p + j) % 23 = j by omega] at hq
                  exact hc hq
            · rcases hz with hz | ⟨hz0, hz⟩
              · exact hz
              · apply Classical.byContradiction
                intro hne
                have hbi : ¬ (be (gg_ru G p)).testBit i = true := by
                  intro hbi
                  apply hne
                  rw [hz]
                  apply nb_ext
                  intro j
                  rw [nb_or_t, nb_p_t]
                  exact ⟨fun h => h.elim (fun h => h) (fun h => by rw [h]; exact hbi), Or.inl⟩
                apply hn
                refine ⟨23 * gg_ru G p + 22, by omega, Or.inl ⟨by omega, ?_⟩, ?_⟩
                · rw [show (23 * gg_ru G p + 22) / 23 = gg_ru G p by omega, un_s, hz]
                  exact nb_or_t.mpr (Or.inr (nb_p_t.mpr rfl))
                · intro hq
                  rcases hq with ⟨_, hq⟩ | ⟨hq, _⟩
                  · rw [show (23 * gg_ru G p + 22) / 23 = gg_ru G p by omega] at hq
                    exact hbi hq
                  · omega
          omega
    have mid : ∀ z, (z = be (gg_ru G p) ∨ (rc_B G tok wn (rc_R re) (rc_E be) p i ∧ z = be (gg_ru G p) ||| 2 ^ i)) → (z = be (gg_ru G p) → rc_B G tok wn (rc_R re) (rc_E be) p i → rc_E be (gg_ru G p) i) → z < 2 ^ 22 →
        wY_settle_86 post J (wY_settle_10 post J (nI i) (d + 1)) (nI i) (nI mo) (nI p) (nI (gg_ru G p)) (nI (re (gg_ru G p) i ||| w)) (nI z) (nI (gg_np G)) f_built f_some f_empty (nI wn) f_nt (nA (gg_ru G)) (nA (gg_sc G)) (nA (gg_ln G)) (nA (gg_sy G)) (gg_ro G) a_first a_follow a_kind a_val a_len a_word a_reach a_beyond way a_known a_bad a_part a_scopes a_inner a_tRule a_tFrom a_tTo a_before := by
      intro z hz hz2 hz3
      unfold wY_settle_86
      rw [e1, c22, cA, hr0.1, hb0.1]
      have hb1 := hb0.2
      have hr1 := hr0.2
      refine ⟨pk_in (22 * gg_ru G p + i) 132 (by omega), ?_⟩
      refine pk_eq (re (gg_ru G p) i ||| w) (re (gg_ru G p) i) (fun hx => ⟨pk_in (gg_ru G p) 6 hA, ?_⟩) (fun hx => ?_)
      · refine pk_eq z (be (gg_ru G p)) (fun hzz => ?_) (fun hzz => ?_)
        · exact fin z mo hz h1 (fun h0 => ⟨h0, hx, hzz, hz2 hzz⟩) (fun h => Or.inl h)
        · exact fin z 1 hz (by omega) (fun h => by omega) (fun _ => Or.inr (fun h => hzz h.2))
      · exact fin z 1 hz (by omega) (fun h => by omega) (fun _ => Or.inr (fun h => hx h.1))
    refine pk_eq r 0 (fun hr0' => ⟨pk_in (gg_ru G p) 6 hA, ?_⟩) (fun hr0' => ⟨pk_in (gg_ru G p) 6 hA, ?_⟩)
    · rw [hb0.1]
      exact mid _ (Or.inl rfl) (fun _ h => absurd (hrb.mpr h) (by omega)) hb0.2
    · rw [hb0.1, nb_sh (by omega), nb_or]
      refine mid _ (Or.inr ⟨hrb.mp (by omega), rfl⟩) (fun h _ => ?_) (nb_orlt hb0.2 (Nat.pow_lt_pow_right (by omega) (by omega)))
      show (be (gg_ru G p)).testBit i = true
      rw [← h]
      exact nb_or_t.mpr (Or.inr (nb_p_t.mpr rfl))
theorem ys_2 {post : SY → Prop} {i : Nat} (hG : gg_ok G) (hn : ∀ a, wn ≤ a → tok a = 10) (hi : i ≤ wn)
    (hP : ∀ re be a_way a_reach a_beyond, ys_I G tok wn i re be a_word a_reach a_beyond → post (nI (gg_np G), f_built, f_some, f_empty, nI wn, f_nt, nA (gg_ru G), nA (gg_sc G), nA (gg_ln G), nA (gg_sy G), gg_ro G, a_first, a_follow, a_kind, a_val, a_len, a_word, a_reach, a_beyond, a_way, a_known, a_bad, a_part, a_scopes, a_inner, a_tRule, a_tFrom, a_tTo, a_before)) :
    ∀ d re be a_way a_reach a_beyond, 138 ≤ ys_n i re be + d → ys_I G tok wn (i + 1) re be a_word a_reach a_beyond → wY_settle_2 post (nI i) (d + 2) 1 (nI (gg_np G)) f_built f_some f_empty (nI wn) f_nt (nA (gg_ru G)) (nA (gg_sc G)) (nA (gg_ln G)) (nA (gg_sy G)) (gg_ro G) a_first a_follow a_kind a_val a_len a_word a_reach a_beyond a_way a_known a_bad a_part a_scopes a_inner a_tRule a_tFrom a_tTo a_before := by
  intro d
  induction d with
  | zero =>
    intro re be a_way a_reach a_beyond hd hI
    refine br_f (by decide) ⟨gg_np G + 1, ?_⟩
    refine ys_10 (c0 := ys_n i re be) hG hi ?_ (gg_np G) 0 re be 0 a_way a_reach a_beyond (by omega) hI (by omega) (fun _ p' hp' => by omega) (Nat.le_refl _) (fun h => by omega)
    intro re' be' mo a_way' a_reach' a_beyond' hI' hm h0 h1
    have hle := kk_le (ys_Q i re' be') 138
    have hle2 : ys_n i re' be' ≤ 138 := hle
    refine pk_eq mo 0 (fun hm0 => ?_) (fun hm0 => ?_)
    · exact hP re' be' a_way' a_reach' a_beyond' ⟨hI'.1, hI'.2.1, hI'.2.2.1, ys_fin hG hn hi hI'.2.2.1 hI'.2.2.2 (h0 hm0)⟩
    · have := h1 (by omega)
      omega
  | succ d ih =>
    intro re be a_way a_reach a_beyond hd hI
    refine br_f (by decide) ⟨gg_np G + 1, ?_⟩
    refine ys_10 (c0 := ys_n i re be) hG hi ?_ (gg_np G) 0 re be 0 a_way a_reach a_beyond (by omega) hI (by omega) (fun _ p' hp' => by omega) (Nat.le_refl _) (fun h => by omega)
    intro re' be' mo a_way' a_reach' a_beyond' hI' hm h0 h1
    by_cases hm0 : mo = 0
    · subst hm0
      refine br_t rfl ?_
      exact hP re' be' a_way' a_reach' a_beyond' ⟨hI'.1, hI'.2.1, hI'.2.2.1, ys_fin hG hn hi hI'.2.2.1 hI'.2.2.2 (h0 rfl)⟩
    · have hm1 : mo = 1 := by omega
      subst hm1
      have := h1 rfl
      exact ih re' be' a_way' a_reach' a_beyond' (by omega) hI'
theorem ys_settle {post : SY → Prop} {i : Nat} {re : Nat → Nat → Nat} {be : Nat → Nat} (hG : gg_ok G) (hn : ∀ a, wn ≤ a → tok a = 10) (hi : i ≤ wn)
    (hI : ys_I G tok wn (i + 1) re be a_word a_reach a_beyond)
    (hP : ∀ re be a_way a_reach a_beyond, ys_I G tok wn i re be a_word a_reach a_beyond → post (nI (gg_np G), f_built, f_some, f_empty, nI wn, f_nt, nA (gg_ru G), nA (gg_sc G), nA (gg_ln G), nA (gg_sy G), gg_ro G, a_first, a_follow, a_kind, a_val, a_len, a_word, a_reach, a_beyond, a_way, a_known, a_bad, a_part, a_scopes, a_inner, a_tRule, a_tFrom, a_tTo, a_before)) : wpY_settle post (nI (gg_np G), f_built, f_some, f_empty, nI wn, f_nt, nA (gg_ru G), nA (gg_sc G), nA (gg_ln G), nA (gg_sy G), gg_ro G, a_first, a_follow, a_kind, a_val, a_len, a_word, a_reach, a_beyond, a_way, a_known, a_bad, a_part, a_scopes, a_inner, a_tRule, a_tFrom, a_tTo, a_before) (nI i) :=
  ⟨140, ys_2 hG hn hi hP 138 re be a_way a_reach a_beyond (by omega) hI⟩
end YS
end
section
/-! the reference's take, goesOn, whole -/
section YT
variable {G : gg_T} {f_built f_some f_empty f_wn f_nt : Int32} {a_first a_follow a_kind a_val a_len a_word a_reach a_beyond a_way a_known a_bad a_part a_scopes a_inner a_tRule a_tFrom a_tTo a_before : Nat → Int32} {tok : Nat → Nat} {wn : Nat}
theorem yt_121 {post : SY → Prop} (hG : gg_ok G) (hn : ∀ a, wn ≤ a → tok a = 10)
    (hP : ∀ re be a_way a_reach a_beyond, ys_I G tok wn 0 re be a_word a_reach a_beyond → post (nI (gg_np G), f_built, f_some, f_empty, nI wn, f_nt, nA (gg_ru G), nA (gg_sc G), nA (gg_ln G), nA (gg_sy G), gg_ro G, a_first, a_follow, a_kind, a_val, a_len, a_word, a_reach, a_beyond, a_way, a_known, a_bad, a_part, a_scopes, a_inner, a_tRule, a_tFrom, a_tTo, a_before)) :
    ∀ i re be a_way a_reach a_beyond, i ≤ wn → ys_I G tok wn (i + 1) re be a_word a_reach a_beyond → wY_take_121 post (i + 2) (nI i) (nI (gg_np G)) f_built f_some f_empty (nI wn) f_nt (nA (gg_ru G)) (nA (gg_sc G)) (nA (gg_ln G)) (nA (gg_sy G)) (gg_ro G) a_first a_follow a_kind a_val a_len a_word a_reach a_beyond a_way a_known a_bad a_part a_scopes a_inner a_tRule a_tFrom a_tTo a_before := by
  intro i
  induction i with
  | zero =>
    intro re be a_way a_reach a_beyond hi hI
    refine br_f (by decide) ?_
    refine ys_settle hG hn hi hI ?_
    intro re' be' a_way' a_reach' a_beyond' hI'
    dsimp only
    refine nm_e ?_
    refine br_t (by decide) ?_
    exact hP re' be' a_way' a_reach' a_beyond' hI'
  | succ i ih =>
    intro re be a_way a_reach a_beyond hi hI
    have hwn := hI.1.1
    refine br_f (nI_pos (by omega)) ?_
    refine ys_settle hG hn hi hI ?_
    intro re' be' a_way' a_reach' a_beyond' hI'
    dsimp only
    refine nm_r (pk_m1 i) ?_
    exact ih re' be' a_way' a_reach' a_beyond' (by omega) hI'
theorem yt_89 {post : SY → Prop} (hG : gg_ok G) (hn : ∀ a, wn ≤ a → tok a = 10) (hwn : wn ≤ 21) (hwd : ∀ j, j < wn → a_word j = nI (tok j) ∧ tok j < 10) (hre : ∀ j, j < 132 → a_reach j = 0)
    (hP : ∀ re be a_way a_reach a_beyond, ys_I G tok wn 0 re be a_word a_reach a_beyond → post (nI (gg_np G), f_built, f_some, f_empty, nI wn, f_nt, nA (gg_ru G), nA (gg_sc G), nA (gg_ln G), nA (gg_sy G), gg_ro G, a_first, a_follow, a_kind, a_val, a_len, a_word, a_reach, a_beyond, a_way, a_known, a_bad, a_part, a_scopes, a_inner, a_tRule, a_tFrom, a_tTo, a_before)) :
    ∀ d k a_beyond, k + d = 6 → (∀ A, A < k → a_beyond A = nI (2 ^ wn)) → wY_take_89 post (nI (gg_np G)) f_built f_some f_empty (nI wn) f_nt (d + 1) (nI k) (nA (gg_ru G)) (nA (gg_sc G)) (nA (gg_ln G)) (nA (gg_sy G)) (gg_ro G) a_first a_follow a_kind a_val a_len a_word a_reach a_beyond a_way a_known a_bad a_part a_scopes a_inner a_tRule a_tFrom a_tTo a_before := by
  intro d
  induction d with
  | zero =>
    intro k a_beyond hk h
    have e : k = 6 := by omega
    subst e
    refine br_t (by decide) ⟨wn + 2, ?_⟩
    refine yt_121 hG hn hP wn (fun _ _ => 0) (fun A => if A < 6 then 2 ^ wn else 0) a_way a_reach a_beyond (Nat.le_refl _) ?_
    refine ⟨⟨hwn, hwd, fun A j hA hj => ⟨hre _ (by omega), (by decide : (0 : Nat) < 2 ^ 22)⟩, fun A hA => ?_⟩, ⟨fun A j j' h => absurd h nb_0_t, fun A j h => ?_⟩, fun A hA => ?_, fun j h1 h2 => by omega⟩
    · show a_beyond A = nI (if A < 6 then 2 ^ wn else 0) ∧ (if A < 6 then 2 ^ wn else 0) < 2 ^ 22
      rw [if_pos hA]
      exact ⟨h A hA, Nat.pow_lt_pow_right (by omega) (by omega)⟩
    · have h : (if A < 6 then 2 ^ wn else 0).testBit j = true := h
      by_cases hA : A < 6
      · rw [if_pos hA] at h
        have := nb_p_t.mp h
        subst this
        exact dv_k
      · rw [if_neg hA] at h
        exact absurd h nb_0_t
    · show (if A < 6 then 2 ^ wn else 0).testBit wn = true
      rw [if_pos hA]
      exact nb_p_t.mpr rfl
  | succ d ih =>
    intro k a_beyond hk h
    refine pk_le 6 k (fun h => absurd h (by omega)) (fun hk6 => ⟨pk_in k 6 hk6, ?_⟩)
    rw [nI_clamp (show k < 2 ^ 31 by omega), nb_sh (by omega)]
    refine nm_e (nm_r (nI_1 k) ?_)
    refine ih (k + 1) _ (by omega) (fun A hA => ?_)
    by_cases e : A = k
    · subst e; exact pk_us
    · rw [pk_un e]; exact h A (by omega)
theorem yt_64 {post : SY → Prop} (hG : gg_ok G) (hn : ∀ a, wn ≤ a → tok a = 10) (hwn : wn ≤ 21) (hwd : ∀ j, j < wn → a_word j = nI (tok j) ∧ tok j < 10)
    (hP : ∀ re be a_way a_reach a_beyond, ys_I G tok wn 0 re be a_word a_reach a_beyond → post (nI (gg_np G), f_built, f_some, f_empty, nI wn, f_nt, nA (gg_ru G), nA (gg_sc G), nA (gg_ln G), nA (gg_sy G), gg_ro G, a_first, a_follow, a_kind, a_val, a_len, a_word, a_reach, a_beyond, a_way, a_known, a_bad, a_part, a_scopes, a_inner, a_tRule, a_tFrom, a_tTo, a_before)) :
    ∀ d k a_reach, k + d = 132 → (∀ j, j < k → a_reach j = 0) → wY_take_64 post (nI (gg_np G)) f_built f_some f_empty (nI wn) f_nt (d + 1) (nI k) (nA (gg_ru G)) (nA (gg_sc G)) (nA (gg_ln G)) (nA (gg_sy G)) (gg_ro G) a_first a_follow a_kind a_val a_len a_word a_reach a_beyond a_way a_known a_bad a_part a_scopes a_inner a_tRule a_tFrom a_tTo a_before := by
  intro d
  induction d with
  | zero =>
    intro k a_reach hk h
    have e : k = 132 := by omega
    subst e
    refine br_t (by decide) ⟨7, ?_⟩
    exact yt_89 hG hn hwn hwd h hP 6 0 a_beyond (by omega) (fun A hA => by omega)
  | succ d ih =>
    intro k a_reach hk h
    refine pk_le 132 k (fun h => absurd h (by omega)) (fun hk6 => ⟨pk_in k 132 hk6, ?_⟩)
    rw [nI_clamp (show k < 2 ^ 31 by omega)]
    refine nm_e (nm_r (nI_1 k) ?_)
    refine ih (k + 1) _ (by omega) (fun A hA => ?_)
    by_cases e : A = k
    · subst e; exact pk_us
    · rw [pk_un e]; exact h A (by omega)
theorem yt_3 {post : SY → Prop} {kd : Nat → Nat} {f n : Nat} {x : Int32} (hf : f < 4) (hn : n ≤ 20) (hkd : ∀ c, kd c < 10)
    (hQ : ∀ a_word, (∀ j, j < n → a_word j = nI (kd (20 * f + j))) → ((x < 0 → (∃ n64 : Nat, wY_take_64 post (nI (gg_np G)) f_built f_some f_empty (nI n) f_nt n64 0 (nA (gg_ru G)) (nA (gg_sc G)) (nA (gg_ln G)) (nA (gg_sy G)) (gg_ro G) a_first a_follow (nA kd) a_val a_len a_word a_reach a_beyond a_way a_known a_bad a_part a_scopes a_inner a_tRule a_tFrom a_tTo a_before)) ∧
      (¬ x < 0 → (∀ f_wn_43 : Int32, f_wn_43 = nI n + 1 → (vp_in (nI n) 21 ∧ ∀ a_word_45 : Nat → Int32, a_word_45 = upd a_word (nI n).toNatClampNeg (vp_nar .byte x.toInt8.toInt32) → (∃ n64 : Nat, wY_take_64 post (nI (gg_np G)) f_built f_some f_empty f_wn_43 f_nt n64 0 (nA (gg_ru G)) (nA (gg_sc G)) (nA (gg_ln G)) (nA (gg_sy G)) (gg_ro G) a_first a_follow (nA kd) a_val a_len a_word_45 a_reach a_beyond a_way a_known a_bad a_part a_scopes a_inner a_tRule a_tFrom a_tTo a_before)))))) :
    ∀ d k a_word, k + d = n → (∀ j, j < k → a_word j = nI (kd (20 * f + j))) → wY_take_3 post (nI f) (nI n) x (nI (gg_np G)) f_built f_some f_empty f_wn f_nt (d + 1) (nI k) (nA (gg_ru G)) (nA (gg_sc G)) (nA (gg_ln G)) (nA (gg_sy G)) (gg_ro G) a_first a_follow (nA kd) a_val a_len a_word a_reach a_beyond a_way a_known a_bad a_part a_scopes a_inner a_tRule a_tFrom a_tTo a_before := by
  intro d
  induction d with
  | zero =>
    intro k a_word hk h
    have e : k = n := by omega
    subst e
    refine pk_le k k (fun _ => ?_) (fun h => absurd h (by omega))
    exact hQ a_word h
  | succ d ih =>
    intro k a_word hk h
    have e1 : (20 : Int32) * nI f + nI k = nI (20 * f + k) := by rw [show (20 : Int32) = nI 20 from rfl, pk_mul, nI_add]
    refine pk_le n k (fun h => absurd h (by omega)) (fun hkn => ?_)
    have hc := hkd (20 * f + k)
    rw [e1, nA_cl (show 20 * f + k < 2 ^ 31 by omega), nI_clamp (show k < 2 ^ 31 by omega), vb_v (by omega)]
    refine ⟨pk_in (20 * f + k) 80 (by omega), pk_in k 21 (by omega), nm_e (nm_r (nI_1 k) ?_)⟩
    refine ih (k + 1) _ (by omega) (fun j hj => ?_)
    by_cases e : j = k
    · subst e; exact pk_us
    · rw [pk_un e]; exact h j (by omega)
/-- the first n kinds alone -/
theorem yt_take {post : SY → Prop} {kd : Nat → Nat} {f n : Nat} (hG : gg_ok G) (hf : f < 4) (hn20 : n ≤ 20) (hkd : ∀ c, kd c < 10) (htk : ∀ j, tok j = if j < n then kd (20 * f + j) else 10)
    (hP : ∀ re be a_word a_way a_reach a_beyond, ys_I G tok n 0 re be a_word a_reach a_beyond → post (nI (gg_np G), f_built, f_some, f_empty, nI n, f_nt, nA (gg_ru G), nA (gg_sc G), nA (gg_ln G), nA (gg_sy G), gg_ro G, a_first, a_follow, nA kd, a_val, a_len, a_word, a_reach, a_beyond, a_way, a_known, a_bad, a_part, a_scopes, a_inner, a_tRule, a_tFrom, a_tTo, a_before)) :
    wpY_take post (nI (gg_np G), f_built, f_some, f_empty, f_wn, f_nt, nA (gg_ru G), nA (gg_sc G), nA (gg_ln G), nA (gg_sy G), gg_ro G, a_first, a_follow, nA kd, a_val, a_len, a_word, a_reach, a_beyond, a_way, a_known, a_bad, a_part, a_scopes, a_inner, a_tRule, a_tFrom, a_tTo, a_before) (nI f) (nI n) (-1) := by
  refine ⟨n + 1, yt_3 hf hn20 hkd ?_ n 0 a_word (by omega) (fun j hj => by omega)⟩
  intro a_word hw
  refine br_t (by decide) ⟨133, ?_⟩
  refine yt_64 (wn := n) (tok := tok) hG (fun a ha => ?_) (by omega) (fun j hj => ?_) (fun re be a_way a_reach a_beyond hI => hP re be a_word a_way a_reach a_beyond hI) 132 0 a_reach (by omega) (fun j hj => by omega)
  · rw [htk, if_neg (by omega)]
  · rw [htk, if_pos hj]
    exact ⟨hw j hj, hkd _⟩
/-- and t behind them -/
theorem yt_takeT {post : SY → Prop} {kd : Nat → Nat} {f n t : Nat} (hG : gg_ok G) (hf : f < 4) (hn20 : n ≤ 20) (ht : t < 10) (hkd : ∀ c, kd c < 10) (htk : ∀ j, tok j = if j < n then kd (20 * f + j) else if j = n then t else 10)
    (hP : ∀ re be a_word a_way a_reach a_beyond, ys_I G tok (n + 1) 0 re be a_word a_reach a_beyond → post (nI (gg_np G), f_built, f_some, f_empty, nI (n + 1), f_nt, nA (gg_ru G), nA (gg_sc G), nA (gg_ln G), nA (gg_sy G), gg_ro G, a_first, a_follow, nA kd, a_val, a_len, a_word, a_reach, a_beyond, a_way, a_known, a_bad, a_part, a_scopes, a_inner, a_tRule, a_tFrom, a_tTo, a_before)) :
    wpY_take post (nI (gg_np G), f_built, f_some, f_empty, f_wn, f_nt, nA (gg_ru G), nA (gg_sc G), nA (gg_ln G), nA (gg_sy G), gg_ro G, a_first, a_follow, nA kd, a_val, a_len, a_word, a_reach, a_beyond, a_way, a_known, a_bad, a_part, a_scopes, a_inner, a_tRule, a_tFrom, a_tTo, a_before) (nI f) (nI n) (nI t) := by
  refine ⟨n + 1, yt_3 hf hn20 hkd ?_ n 0 a_word (by omega) (fun j hj => by omega)⟩
  intro a_word hw
  refine br_f (nI_pos (by omega)) (nm_r (nI_1 n) ?_)
  rw [nI_clamp (show n < 2 ^ 31 by omega), vb_w (by omega)]
  refine ⟨pk_in n 21 (by omega), nm_e ⟨133, ?_⟩⟩
  refine yt_64 (wn := n + 1) (tok := tok) hG (fun a ha => ?_) (by omega) (fun j hj => ?_) (fun re be a_way a_reach a_beyond hI => hP re be _ a_way a_reach a_beyond hI) 132 0 a_reach (by omega) (fun j hj => by omega)
  · rw [htk, if_neg (by omega), if_neg (by omega)]
  · rw [htk]
    by_cases e : j = n
    · subst e
      rw [if_neg (by omega), if_pos rfl]
      exact ⟨pk_us, ht⟩
    · rw [if_pos (by omega), pk_un e]
      exact ⟨hw j (by omega), hkd _⟩
theorem yt_goes {post : Int32 → Prop} {re : Nat → Nat → Nat} {be : Nat → Nat} (hI : ys_I G tok wn 0 re be a_word a_reach a_beyond) (h0 : ¬ dd_V G tok wn [10] 0 → post 0) (h1 : dd_V G tok wn [10] 0 → post 1) : wpY_goesOn post (nI (gg_np G), f_built, f_some, f_empty, f_wn, f_nt, nA (gg_ru G), nA (gg_sc G), nA (gg_ln G), nA (gg_sy G), gg_ro G, a_first, a_follow, a_kind, a_val, a_len, a_word, a_reach, a_beyond, a_way, a_known, a_bad, a_part, a_scopes, a_inner, a_tRule, a_tFrom, a_tTo, a_before) := by
  have hb := hI.1.2.2.2 0 (by omega)
  have e : (a_beyond 0 &&& 1 : Int32) = nI (be 0 % 2) := by
    rw [hb.1, show (1 : Int32) = nI 1 from rfl, nx_and, Nat.and_one_is_mod]
  have ht : (be 0).testBit 0 = decide (be 0 % 2 = 1) := Nat.testBit_zero _
  unfold wpY_goesOn
  dsimp only
  rw [e]
  refine pk_eq (be 0 % 2) 0 (fun h => h0 (fun hV => ?_)) (fun h => h1 (hI.2.1.2 0 0 ?_))
  · have h2 : (be 0).testBit 0 = true := (hI.2.2.2 0 (Nat.le_refl 0) (by omega) 0 (by omega)).2 hV
    rw [ht, decide_eq_true_eq] at h2
    omega
  · show (be 0).testBit 0 = true
    rw [ht, decide_eq_true_eq]
    omega
theorem yt_whole {post : Int32 → Prop} {re : Nat → Nat → Nat} {be : Nat → Nat} (hI : ys_I G tok wn 0 re be a_word a_reach a_beyond) (h0 : ¬ dd_E G tok [10] 0 wn → post 0) (h1 : dd_E G tok [10] 0 wn → post 1) : wpY_whole post (nI (gg_np G), f_built, f_some, f_empty, nI wn, f_nt, nA (gg_ru G), nA (gg_sc G), nA (gg_ln G), nA (gg_sy G), gg_ro G, a_first, a_follow, a_kind, a_val, a_len, a_word, a_reach, a_beyond, a_way, a_known, a_bad, a_part, a_scopes, a_inner, a_tRule, a_tFrom, a_tTo, a_before) := by
  have hb := hI.1.2.2.1 0 0 (by omega) (by omega)
  have hwn := hI.1.1
  unfold wpY_whole
  dsimp only
  rw [show a_reach 0 = nI (re 0 0) from hb.1]
  refine nb_b0 (re 0 0) wn (fun h => h0 (fun hV => ?_)) (fun h => h1 (hI.2.1.1 0 0 wn h)) (by have := hb.2; omega) (by omega)
  have h2 : (re 0 0).testBit wn = true := (hI.2.2.2 0 (Nat.le_refl 0) (by omega) 0 (by omega)).1 wn hV
  rw [h] at h2
  cases h2
end YT
end
section
/-! the reference's unfold: its pending triples against the run -/
def yo_S (G : gg_T) (tok : Nat → Nat) (n : Nat) : List Nat → Nat → List (Nat × Nat × Nat) → Prop
  | [], a, τ => a = n ∧ τ = []
  | e :: σ, a, τ => (57 ≤ e ∧ yo_S G tok n σ a τ) ∨ (e < 57 ∧ mm_sym G e < 10 ∧ tok a = mm_sym G e ∧ yo_S G tok n σ (a + 1) τ) ∨
      (e < 57 ∧ 10 ≤ mm_sym G e ∧ ∃ b τ', τ = (mm_sym G e - 10, a, b) :: τ' ∧ dd_E G tok [mm_sym G e] a b ∧ yo_S G tok n σ b τ')
def yo_t (tR tF tT : Nat → Int32) : List (Nat × Nat × Nat) → Prop
  | [] => True
  | x :: τ => tR τ.length = nI x.1 ∧ tF τ.length = nI x.2.1 ∧ tT τ.length = nI x.2.2 ∧ yo_t tR tF tT τ
def yo_fr (f : Nat) (x x0 : Nat → Int32) : Prop := ∀ c, (c < 20 * f ∨ 20 * f + 20 ≤ c) → x c = x0 c
theorem yo_fr_u {f c : Nat} {x x0 : Nat → Int32} {v : Int32} (h : yo_fr f x x0) (h1 : 20 * f ≤ c) (h2 : c < 20 * f + 20) : yo_fr f (upd x c v) x0 := by
  intro d hd
  rw [pk_un (by omega)]
  exact h d hd
def yo_b (G : gg_T) (tok : Nat → Nat) (n f k : Nat) (s0 a_scopes : Nat → Int32) : Prop := (∀ i, i < 20 → ∃ m, a_scopes (20 * f + i) = nI m ∧ m < 2 ^ 20 ∧ ∀ j, m.testBit j = true ↔ (i < j + 1 ∧ pl_SM G tok n k i (j + 1))) ∧ yo_fr f a_scopes s0
def yo_p (G : gg_T) (tok : Nat → Nat) (n f k : Nat) (p0 a_part : Nat → Int32) : Prop := (∀ j c, pl_SL G tok n k j c → a_part (20 * f + j) = gg_ro G c) ∧ yo_fr f a_part p0
theorem yo_E {G : gg_T} {tok : Nat → Nat} {n : Nat} : ∀ σ a τ, yo_S G tok n σ a τ → dd_E G tok (mm_sl G σ) a n := by
  intro σ
  induction σ with
  | nil => intro a τ h; exact de_nil.mpr h.1
  | cons e σ ih =>
    intro a τ h
    rcases h with ⟨h1, h2⟩ | ⟨h1, h2, h3, h4⟩ | ⟨h1, h2, b, τ', _, h4, h5⟩
    · rw [mm_sl_k h1]; exact ih _ _ h2
    · rw [mm_sl_e h1]; exact (de_t h2).mpr ⟨h3, ih _ _ h4⟩
    · rw [mm_sl_e h1]; exact (de_app (l1 := [mm_sym G e])).mpr ⟨b, h4, ih _ _ h5⟩
theorem yo_len {G : gg_T} {tok : Nat → Nat} {n : Nat} : ∀ σ a τ, yo_S G tok n σ a τ → τ.length ≤ mm_cN σ := by
  intro σ
  induction σ with
  | nil => intro a τ h; rw [h.2]; exact Nat.le_refl 0
  | cons e σ ih =>
    intro a τ h
    show τ.length ≤ (if 57 ≤ e then 0 else 1) + mm_cN σ
    rcases h with ⟨h1, h2⟩ | ⟨h1, h2, h3, h4⟩ | ⟨h1, h2, b, τ', h3, h4, h5⟩
    · rw [if_pos h1]; have := ih _ _ h2; omega
    · rw [if_neg (by omega)]; have := ih _ _ h4; omega
    · rw [if_neg (by omega), h3]
      have := ih _ _ h5
      show τ'.length + 1 ≤ _
      omega
theorem yo_t_up {tR tF tT : Nat → Int32} {k : Nat} {x y z : Int32} : ∀ τ : List (Nat × Nat × Nat), τ.length ≤ k → yo_t tR tF tT τ → yo_t (upd tR k x) (upd tF k y) (upd tT k z) τ := by
  intro τ
  induction τ with
  | nil => intro _ _; trivial
  | cons t τ ih =>
    intro hl ⟨h1, h2, h3, h4⟩
    have hl : τ.length + 1 ≤ k := hl
    exact ⟨by rw [pk_un (by omega)]; exact h1, by rw [pk_un (by omega)]; exact h2, by rw [pk_un (by omega)]; exact h3, ih (by omega) h4⟩
/-- the run goes on to the next rule, or to the end, and plans nothing new -/
theorem yo_adv {G : gg_T} {tok : Nat → Nat} {n : Nat} : ∀ σ k a τ, mm_R G tok true k = some (σ, a) → yo_S G tok n σ a τ →
    ∃ k', k ≤ k' ∧ (∀ i j, pl_SM G tok n k' i j ↔ pl_SM G tok n k i j) ∧ (∀ i j, pl_SL G tok n k' i j ↔ pl_SL G tok n k i j) ∧
      ((τ = [] ∧ mm_R G tok true k' = some ([], n)) ∨ ∃ e σ' i b τ', mm_R G tok true k' = some (e :: σ', i) ∧ e < 57 ∧ 10 ≤ mm_sym G e ∧ τ = (mm_sym G e - 10, i, b) :: τ' ∧ dd_E G tok [mm_sym G e] i b ∧ yo_S G tok n σ' b τ') := by
  intro σ
  induction σ with
  | nil =>
    intro k a τ h hS
    rw [hS.1] at h
    exact ⟨k, Nat.le_refl k, fun _ _ => Iff.rfl, fun _ _ => Iff.rfl, Or.inl ⟨hS.2, h⟩⟩
  | cons e σ ih =>
    intro k a τ h hS
    rcases hS with ⟨h1, h2⟩ | ⟨h1, h2, h3, h4⟩ | ⟨h1, h2, b, τ', h3, h4, h5⟩
    · have hs : mm_R G tok true (k + 1) = some (σ, a) := by rw [mm_R_s h]; exact mm_st_k h1
      obtain ⟨k', k1, k2, k3, k4⟩ := ih (k + 1) a τ hs h2
      refine ⟨k', by omega, fun i j => (k2 i j).trans (pl_M_o h hs (pl_hb_k h1)), fun i j => (k3 i j).trans (pl_L_o h hs (pl_hb_k h1)), k4⟩
    · have hs : mm_R G tok true (k + 1) = some (σ, a + 1) := by rw [mm_R_s h]; exact mm_st_t h1 h2 h3.symm
      obtain ⟨k', k1, k2, k3, k4⟩ := ih (k + 1) (a + 1) τ hs h4
      refine ⟨k', by omega, fun i j => (k2 i j).trans (pl_M_o h hs (pl_hb_t h1 h2 h3.symm)), fun i j => (k3 i j).trans (pl_L_o h hs (pl_hb_t h1 h2 h3.symm)), k4⟩
    · exact ⟨k, Nat.le_refl k, fun _ _ => Iff.rfl, fun _ _ => Iff.rfl, Or.inr ⟨e, σ, a, b, τ', h, h1, h2, h3, h4, h5⟩⟩
theorem yo_mk {G : gg_T} {tok : Nat → Nat} {n p a b : Nat} {σ : List Nat} {τ : List (Nat × Nat × Nat)} (h : yo_S G tok n σ b τ) : yo_S G tok n (mm_mk G true p a ++ σ) b τ := by
  unfold mm_mk
  by_cases hx : true = true ∧ gg_sc G p = 1
  · rw [if_pos hx]; exact Or.inl ⟨by omega, h⟩
  · rw [if_neg hx]; exact h
/-- planned leaves are leaves -/
theorem pl_SL_Lf {G : gg_T} {tok : Nat → Nat} {n k j c : Nat} (hG : gg_ok G) (L : gg_LL G) (h10 : ∀ a, tok a ≤ 10) (hn : ∀ a, n ≤ a → tok a = 10) (h : pl_SL G tok n k j c) : pl_Lf G tok j c := by
  obtain ⟨K, hK⟩ := mm_halt (nt := true) hG L h10 hn
  obtain ⟨k', k1, u, r, a, a1, a0, a0', a2, a3⟩ := h
  have hK : mm_R G tok true (k' + K) = none := by rw [Nat.add_comm]; exact mm_R_nn hK k'
  obtain ⟨k2, _, h2⟩ := mm_ret (nt := true) (r := c :: r) hG L h10 (hn n (Nat.le_refl n)) a3 K k' u a hK a1 a2
  rw [mm_sl_e (by omega), mm_sym_lt a0] at a3
  exact ⟨k2, r, h2, a0, a0', ((de_t a0').mp a3).1.symm⟩
/-- which symbols of the table's row are derived -/
theorem yo_W {G : gg_T} {tok : Nat → Nat} {wn p i : Nat} {re : Nat → Nat → Nat} {be : Nat → Nat} {a_word a_reach a_beyond : Nat → Int32} (hG : gg_ok G) (hn : ∀ a, wn ≤ a → tok a = 10) (hi : i ≤ wn) (hI : ys_I G tok wn 0 re be a_word a_reach a_beyond) :
    ∀ m, m ≤ 4 → ∀ j, rc_W G tok wn (rc_R re) p i m j ↔ dd_E G tok (gg_sr G p m) i j := by
  intro m hm j
  refine ⟨rc_sd hI.2.1.1 m j, ?_⟩
  revert j
  induction m with
  | zero => intro j h; exact (de_nil.mp h).symm
  | succ m ih =>
    intro j h
    rw [gg_sr_s] at h
    obtain ⟨q, q1, q2⟩ := de_app.mp h
    have hq := q1.elim (fun k hk => rc_wn hn k _ _ _ hk hi)
    have h16 := hG.2.2.2.1 (4 * p + m)
    refine ⟨q, hq, ih (by omega) q q1, ?_⟩
    by_cases ht : gg_sy G (4 * p + m) < 10
    · have := (de_t ht).mp q2
      have hlt : ¬ wn ≤ q := fun hx => by have := hn q hx; omega
      exact Or.inr ⟨ht, by omega, this.1, (de_nil.mp this.2).symm⟩
    · refine Or.inl ⟨by omega, (hI.2.2.2 q (by omega) hq _ (by omega)).1 j ?_⟩
      rw [show gg_sy G (4 * p + m) - 10 + 10 = gg_sy G (4 * p + m) by omega]
      exact q2
section YO
variable {G : gg_T} {f_built f_some f_empty f_wn f_nt : Int32} {a_first a_follow a_kind a_val a_len a_word a_reach a_beyond a_way a_known a_bad a_part a_scopes a_inner a_tRule a_tFrom a_tTo a_before : Nat → Int32} {tok : Nat → Nat} {wn : Nat}
theorem yo_below {post : SY → Prop} {A i j k : Nat} (hA : A < 6) (hi : i < 128) (hj : j < 128) (hk : k < 400)
    (h : post (nI (gg_np G), f_built, f_some, f_empty, f_wn, nI (k + 1), nA (gg_ru G), nA (gg_sc G), nA (gg_ln G), nA (gg_sy G), gg_ro G, a_first, a_follow, a_kind, a_val, a_len, a_word, a_reach, a_beyond, a_way, a_known, a_bad, a_part, a_scopes, a_inner, upd a_tRule k (nI A), upd a_tFrom k (nI i), upd a_tTo k (nI j), a_before)) : wpY_below post (nI (gg_np G), f_built, f_some, f_empty, f_wn, nI k, nA (gg_ru G), nA (gg_sc G), nA (gg_ln G), nA (gg_sy G), gg_ro G, a_first, a_follow, a_kind, a_val, a_len, a_word, a_reach, a_beyond, a_way, a_known, a_bad, a_part, a_scopes, a_inner, a_tRule, a_tFrom, a_tTo, a_before) (nI A) (nI i) (nI j) := by
  unfold wpY_below
  dsimp only
  rw [nI_clamp (show k < 2 ^ 31 by omega), vb_w (show A < 128 by omega), vb_w hi, vb_w hj]
  exact ⟨pk_in k 400 hk, nm_e ⟨pk_in k 400 hk, nm_e (nm_r (nI_1 k) ⟨pk_in k 400 hk, nm_e h⟩)⟩⟩
theorem yo_179 {post : SY → Prop} {J : Int32 → Int32 → Int32 → Int32 → Int32 → Int32 → Int32 → Int32 → (Nat → Int32) → (Nat → Int32) → (Nat → Int32) → (Nat → Int32) → (Nat → Int32) → (Nat → Int32) → (Nat → Int32) → (Nat → Int32) → (Nat → Int32) → (Nat → Int32) → (Nat → Int32) → (Nat → Int32) → (Nat → Int32) → (Nat → Int32) → (Nat → Int32) → (Nat → Int32) → (Nat → Int32) → (Nat → Int32) → (Nat → Int32) → (Nat → Int32) → (Nat → Int32) → (Nat → Int32) → (Nat → Int32) →  Prop} {f p m x q w : Nat} {re : Nat → Nat → Nat} (hm : m < 4) (hx : 10 ≤ x) (hx6 : x < 16) (hq : q ≤ wn) (hwn : wn ≤ 21)
    (hw : a_way m = nI w ∧ w < 2 ^ 22) (hre : ∀ A j, A < 6 → j ≤ wn → a_reach (22 * A + j) = nI (re A j) ∧ re A j < 2 ^ 22) {k : Nat} (hk : k < 400)
    (hJ : ∀ s, s ≤ q → w.testBit s = true → (re (x - 10) s).testBit q = true → J (nI s) (nI m + (-1)) (nI (gg_np G)) f_built f_some f_empty f_wn (nI (k + 1)) (nA (gg_ru G)) (nA (gg_sc G)) (nA (gg_ln G)) (nA (gg_sy G)) (gg_ro G) a_first a_follow a_kind a_val a_len a_word a_reach a_beyond a_way a_known a_bad a_part a_scopes a_inner (upd a_tRule k (nI (x - 10))) (upd a_tFrom k (nI s)) (upd a_tTo k (nI q)) a_before) :
    ∀ s, s ≤ q → (∃ s', s' ≤ s ∧ w.testBit s' = true ∧ (re (x - 10) s').testBit q = true) → wY_open_179 post J (nI f) (nI p) (nI q) (nI m) (nI x) (nI (gg_np G)) f_built f_some f_empty f_wn (nI k) (nA (gg_ru G)) (nA (gg_sc G)) (nA (gg_ln G)) (nA (gg_sy G)) (gg_ro G) a_first a_follow a_kind a_val a_len a_word a_reach a_beyond a_way a_known a_bad a_part a_scopes a_inner a_tRule a_tFrom a_tTo a_before (s + 1) (nI s) := by
  intro s
  induction s with
  | zero =>
    intro hs ⟨s', h1, h2, h3⟩
    have e : s' = 0 := by omega
    subst e
    have es : nI x - 10 = nI (x - 10) := pk_sub (a := x) (b := 10) (by omega)
    have e22 : (22 : Int32) * nI (x - 10) + nI 0 = nI (22 * (x - 10) + 0) := by rw [show (22 : Int32) = nI 22 from rfl, pk_mul, nI_add]
    have hr := hre (x - 10) 0 (by omega) (by omega)
    refine ⟨pk_in m 5 (by omega), ?_⟩
    rw [nI_clamp (show m < 2 ^ 31 by omega), hw.1]
    refine nb_b0 w 0 (fun h => by rw [h] at h2; cases h2) (fun _ => ?_) (by have := hw.2; omega) (by omega)
    rw [es, e22, nI_clamp (show 22 * (x - 10) + 0 < 2 ^ 31 by omega), hr.1]
    refine ⟨pk_in (22 * (x - 10) + 0) 132 (by omega), ?_⟩
    refine nb_b0 (re (x - 10) 0) q (fun h => by rw [h] at h3; cases h3) (fun _ => ?_) (by have := hr.2; omega) (by omega)
    refine yo_below (by omega) (by omega) (by omega) hk ?_
    dsimp only
    exact nm_e (hJ 0 (by omega) h2 h3)
  | succ s ih =>
    intro hs ⟨s', h1, h2, h3⟩
    have es : nI x - 10 = nI (x - 10) := pk_sub (a := x) (b := 10) (by omega)
    have e22 : (22 : Int32) * nI (x - 10) + nI (s + 1) = nI (22 * (x - 10) + (s + 1)) := by rw [show (22 : Int32) = nI 22 from rfl, pk_mul, nI_add]
    have hr := hre (x - 10) (s + 1) (by omega) (by omega)
    have next : (w.testBit (s + 1) = true → (re (x - 10) (s + 1)).testBit q = true → False) → wY_open_179 post J (nI f) (nI p) (nI q) (nI m) (nI x) (nI (gg_np G)) f_built f_some f_empty f_wn (nI k) (nA (gg_ru G)) (nA (gg_sc G)) (nA (gg_ln G)) (nA (gg_sy G)) (gg_ro G) a_first a_follow a_kind a_val a_len a_word a_reach a_beyond a_way a_known a_bad a_part a_scopes a_inner a_tRule a_tFrom a_tTo a_before (s + 1) (nI s) := by
      intro hno
      refine ih (by omega) ⟨s', ?_, h2, h3⟩
      by_cases e : s' = s + 1
      · subst e; exact (hno h2 h3).elim
      · omega
    refine ⟨pk_in m 5 (by omega), ?_⟩
    rw [nI_clamp (show m < 2 ^ 31 by omega), hw.1]
    refine nb_b0 w (s + 1) (fun h => nm_r (pk_m1 s) (next (fun h' _ => by rw [h] at h'; cases h'))) (fun hb => ?_) (by have := hw.2; omega) (by omega)
    rw [es, e22, nI_clamp (show 22 * (x - 10) + (s + 1) < 2 ^ 31 by omega), hr.1]
    refine ⟨pk_in (22 * (x - 10) + (s + 1)) 132 (by omega), ?_⟩
    refine nb_b0 (re (x - 10) (s + 1)) q (fun h => nm_r (pk_m1 s) (next (fun _ h' => by rw [h] at h'; cases h'))) (fun hb2 => ?_) (by have := hr.2; omega) (by omega)
    refine yo_below (by omega) (by omega) (by omega) hk ?_
    dsimp only
    exact nm_e (hJ (s + 1) (by omega) hb hb2)
end YO
end
section
def yo_pi (G : gg_T) (tok : Nat → Nat) (n f k p i : Nat) (σ : List Nat) (m : Nat) (p0 a_part : Nat → Int32) : Prop :=
  (∀ j c, (pl_SL G tok n k j c ∨ ∃ m', m ≤ m' ∧ m' < gg_ln G p ∧ c = 4 * p + m' ∧ gg_sy G c < 10 ∧ dd_E G tok (gg_sr G p m') i j ∧ dd_E G tok (gg_sl G p m' ++ mm_sl G σ) j n) → a_part (20 * f + j) = gg_ro G c) ∧ yo_fr f a_part p0
theorem yo_cs {G : gg_T} {tok : Nat → Nat} {n p m q i : Nat} {σ : List Nat} {τ : List (Nat × Nat × Nat)} (hG : gg_ok G) (hp : p < gg_np G) (h : yo_S G tok n (mm_ce G p m ++ (mm_mk G true p i ++ σ)) q τ) : dd_E G tok (gg_sl G p m ++ mm_sl G σ) q n := by
  have := yo_E _ _ _ h
  rw [mm_sl_app, mm_sl_app, mm_sl_mk, mm_sl_ce hG hp] at this
  exact this
theorem sub1 (x : Int32) : x - 1 = x + (-1) := Int32.sub_eq_add_neg ..
section YP
variable {G : gg_T} {f_built f_some f_empty f_wn f_nt : Int32} {a_first a_follow a_kind a_val a_len a_word a_reach a_beyond a_way a_known a_bad a_part a_scopes a_inner a_tRule a_tFrom a_tTo a_before : Nat → Int32} {tok : Nat → Nat} {n : Nat} {re : Nat → Nat → Nat} {be : Nat → Nat} {p0 s0 : Nat → Int32}
theorem yo_119 {post : SY → Prop} {f p i k e : Nat} {σ : List Nat} (hG : gg_ok G) (L : gg_LL G) (h10 : ∀ a, tok a ≤ 10) (hn : ∀ a, n ≤ a → tok a = 10) (hn20 : n ≤ 20) (hf : f < 4) (hin : i ≤ n)
    (hI : ys_I G tok n 0 re be a_word a_reach a_beyond) (hR : mm_R G tok true k = some (e :: σ, i)) (he : e < 57) (ht : 10 ≤ mm_sym G e) (hc : mm_ch G (mm_sym G e - 10) (tok i) = p + 1)
    (hway : ∀ m, m ≤ gg_ln G p → yw_ok G tok n re p i a_way m)
    (hP : ∀ τ' a_part a_tRule a_tFrom a_tTo, yo_S G tok n (mm_ce G p 0 ++ (mm_mk G true p i ++ σ)) i τ' → yo_t a_tRule a_tFrom a_tTo τ' → yo_p G tok n f (k + 1) p0 a_part → post (nI (gg_np G), f_built, f_some, f_empty, nI n, nI τ'.length, nA (gg_ru G), nA (gg_sc G), nA (gg_ln G), nA (gg_sy G), gg_ro G, a_first, a_follow, a_kind, a_val, a_len, a_word, a_reach, a_beyond, a_way, a_known, a_bad, a_part, a_scopes, a_inner, a_tRule, a_tFrom, a_tTo, a_before)) :
    ∀ m q τ a_part a_tRule a_tFrom a_tTo, m ≤ gg_ln G p → dd_E G tok (gg_sr G p m) i q → yo_S G tok n (mm_ce G p m ++ (mm_mk G true p i ++ σ)) q τ → yo_t a_tRule a_tFrom a_tTo τ → yo_pi G tok n f k p i σ m p0 a_part →
      wY_open_119 post (nI f) (nI p) (m + 1) (nI q) (nI m + (-1)) (nI (gg_np G)) f_built f_some f_empty (nI n) (nI τ.length) (nA (gg_ru G)) (nA (gg_sc G)) (nA (gg_ln G)) (nA (gg_sy G)) (gg_ro G) a_first a_follow a_kind a_val a_len a_word a_reach a_beyond a_way a_known a_bad a_part a_scopes a_inner a_tRule a_tFrom a_tTo a_before := by
  have hp := mm_ch_s hc
  have h14 := hG.1
  have hl := hG.2.2.1 p
  have hp14 : p < 14 := by have := hp.1; omega
  have hR1 : mm_R G tok true (k + 1) = some (mm_ce G p 0 ++ (mm_mk G true p i ++ σ), i) := by rw [mm_R_s hR]; exact mm_st_n he ht hc
  have hbd := mm_bd (nt := true) hG L h10 hR1 (by omega)
  obtain ⟨K, hK⟩ := mm_halt (nt := true) hG L h10 hn
  have hK : mm_R G tok true (k + 1 + K) = none := by rw [Nat.add_comm]; exact mm_R_nn hK (k + 1)
  have hlx : ∀ j c, pl_SL G tok n (k + 1) j c ↔ pl_SL G tok n k j c ∨ ∃ m, m < gg_ln G p ∧ c = 4 * p + m ∧ gg_sy G c < 10 ∧ dd_E G tok (gg_sr G p m) i j ∧ dd_E G tok (gg_sl G p m ++ mm_sl G σ) j n := fun j c => pl_L_x hG hR he ht hc
  have hlen : ∀ m q τ, m ≤ gg_ln G p → yo_S G tok n (mm_ce G p m ++ (mm_mk G true p i ++ σ)) q τ → τ.length + m ≤ 379 + gg_ln G p := by
    intro m q τ hm h
    have h1 := yo_len _ _ _ h
    have h2 : mm_cN (mm_ce G p m ++ (mm_mk G true p i ++ σ)) ≤ mm_cN (mm_ce G p 0 ++ (mm_mk G true p i ++ σ)) := by
      rw [mm_cN_cs _ (fun c hc => mm_ce_lt hG hp.1 hc), mm_cN_cs _ (fun c hc => mm_ce_lt hG hp.1 hc), mm_ce_len, mm_ce_len]
      omega
    have := hbd.2.2.1
    omega
  intro m
  induction m with
  | zero =>
    intro q τ a_part a_tRule a_tFrom a_tTo hm hE hS hT hQ
    have e0 := de_nil.mp hE
    subst e0
    refine br_t (by decide) ?_
    refine hP τ a_part a_tRule a_tFrom a_tTo hS hT ?_
    refine ⟨?_, hQ.2⟩
    intro j c hj
    refine hQ.1 j c ?_
    rcases (hlx j c).mp hj with h | ⟨m', h1, h2⟩
    · exact Or.inl h
    · exact Or.inr ⟨m', by omega, h1, h2⟩
  | succ m ih =>
    intro q τ a_part a_tRule a_tFrom a_tTo hm hE hS hT hQ
    rw [pk_m1 m]
    have e1 : (4 : Int32) * nI p + nI m = nI (4 * p + m) := by rw [show (4 : Int32) = nI 4 from rfl, pk_mul, nI_add]
    have h16 := hG.2.2.2.1 (4 * p + m)
    rw [gg_sr_s] at hE
    obtain ⟨j, j1, j2⟩ := de_app.mp hE
    have hjn : j ≤ n := j1.elim (fun x hx => rc_wn hn x _ _ _ hx hin)
    have hqn : q ≤ n := j2.elim (fun x hx => rc_wn hn x _ _ _ hx hjn)
    refine br_f (nI_pos (by omega)) ?_
    rw [e1, nA_cl (show 4 * p + m < 2 ^ 31 by omega)]
    refine ⟨pk_in (4 * p + m) 56 (by omega), nm_e ?_⟩
    have hcR : mm_R G tok true (k + 1) = some (mm_cr p m ++ (mm_ce G p m ++ (mm_mk G true p i ++ σ)), i) := by
      rw [hR1, ← List.append_assoc (mm_cr p m), mm_cr_ce m (by omega)]
    refine pk_le 10 (gg_sy G (4 * p + m)) (fun hx => ⟨q + 1, ?_⟩) (fun hx => ?_)
    · obtain ⟨w, w1, w2, w3⟩ := hway m (by omega)
      have hW := yo_W (p := p) hG hn hin hI m (by omega)
      have ex : gg_sy G (4 * p + m) - 10 + 10 = gg_sy G (4 * p + m) := by omega
      have hl379 := hlen (m + 1) q τ hm hS
      refine yo_179 (w := w) (re := re) (k := τ.length) (by omega) hx h16 hqn hI.1.1 ⟨w1, w2⟩ hI.1.2.2.1 (by omega) ?_ q (Nat.le_refl q) ⟨j, de_le j2, (w3 j).mpr ((hW j).mpr j1), ?_⟩
      · intro s hs hb1 hb2
        have s1 := (hW s).mp ((w3 s).mp hb1)
        have s2 := hI.2.1.1 (gg_sy G (4 * p + m) - 10) s q hb2
        rw [ex] at s2
        refine ih s ((gg_sy G (4 * p + m) - 10, s, q) :: τ) a_part _ _ _ (by omega) s1 ?_ ?_ ?_
        · rw [mm_ce_c (show m < gg_ln G p by omega)]
          refine Or.inr (Or.inr ⟨by omega, by rw [mm_sym_lt (by omega)]; exact hx, q, τ, by rw [mm_sym_lt (by omega)], by rw [mm_sym_lt (by omega)]; exact s2, hS⟩)
        · exact ⟨pk_us, pk_us, pk_us, yo_t_up τ (Nat.le_refl _) hT⟩
        · refine ⟨?_, hQ.2⟩
          intro j c h
          refine hQ.1 j c ?_
          rcases h with h | ⟨m', h1, h2, h3, h4, h5⟩
          · exact Or.inl h
          · refine Or.inr ⟨m', ?_, h2, h3, h4, h5⟩
            by_cases e : m' = m
            · subst e; rw [h3] at h4; omega
            · omega
      · refine (hI.2.2.2 j (by omega) hjn _ (by omega)).1 q ?_
        rw [ex]; exact j2
    · have j3 := (de_t hx).mp j2
      have eq : q = j + 1 := (de_nil.mp j3.2).symm
      subst eq
      have hj : j < n := by omega
      have e2 : (20 : Int32) * nI f + nI j = nI (20 * f + j) := by rw [show (20 : Int32) = nI 20 from rfl, pk_mul, nI_add]
      obtain ⟨r, r1, r2⟩ := hG.2.2.2.2.2 (4 * p + m) hx
      refine nm_r (pk_m1 j) ?_
      rw [e2, nI_clamp (show 20 * f + j < 2 ^ 31 by omega), nI_clamp (show 4 * p + m < 2 ^ 31 by omega), r2, vb_v (by omega), ← r2]
      refine ⟨pk_in (4 * p + m) 56 (by omega), pk_in (20 * f + j) 80 (by omega), nm_e (nm_e ?_)⟩
      have hS' : yo_S G tok n (mm_ce G p m ++ (mm_mk G true p i ++ σ)) j τ := by
        rw [mm_ce_c (show m < gg_ln G p by omega)]
        exact Or.inr (Or.inl ⟨by omega, by rw [mm_sym_lt (by omega)]; exact hx, by rw [mm_sym_lt (by omega)]; exact j3.1, hS⟩)
      have hself : pl_SL G tok n (k + 1) j (4 * p + m) := (hlx j _).mpr (Or.inr ⟨m, by omega, rfl, hx, j1, yo_cs hG hp.1 hS'⟩)
      refine ih j τ _ a_tRule a_tFrom a_tTo (by omega) j1 hS' hT ⟨?_, yo_fr_u hQ.2 (by omega) (by omega)⟩
      intro j' c' h
      by_cases ej : j' = j
      · subst ej
        rw [pk_us]
        have h' : pl_SL G tok n (k + 1) j' c' := by
          rcases h with h | ⟨m', h1, h2, h3⟩
          · exact pl_L_s h
          · exact (hlx _ _).mpr (Or.inr ⟨m', h2, h3⟩)
        rw [pl_Lf_u (pl_SL_Lf hG L h10 hn h') (pl_SL_Lf hG L h10 hn hself)]
      · rw [pk_un (by omega)]
        refine hQ.1 j' c' ?_
        rcases h with h | ⟨m', h1, h2, h3, h4, h5, h6⟩
        · exact Or.inl h
        · refine Or.inr ⟨m', ?_, h2, h3, h4, h5, h6⟩
          by_cases em : m' = m
          · subst em
            exfalso
            apply ej
            have hr : ∀ x, dd_E G tok (gg_sl G p m' ++ mm_sl G σ) x n → dd_E G tok (mm_sl G (mm_ce G p m' ++ (mm_mk G true p i ++ σ))) x n := by
              intro x hx
              rw [mm_sl_app, mm_sl_app, mm_sl_mk, mm_sl_ce hG hp.1]
              exact hx
            exact mm_uni (nt := true) hG L h10 (hn n (Nat.le_refl n)) (hr _ h6) (hr _ (yo_cs hG hp.1 hS')) K (k + 1) (mm_cr p m') i hK hcR (by rw [mm_sl_cr hp14 m' (by omega)]; exact h5) (by rw [mm_sl_cr hp14 m' (by omega)]; exact j1)
          · omega
/-- the search for the production, and what it does -/
theorem yo_6 {post : SY → Prop} {f i k e b : Nat} {σ : List Nat} {τ : List (Nat × Nat × Nat)} (hG : gg_ok G) (L : gg_LL G) (h10 : ∀ a, tok a ≤ 10) (hn : ∀ a, n ≤ a → tok a = 10) (hn20 : n ≤ 20) (hf : f < 4)
    (hI : ys_I G tok n 0 re be a_word a_reach a_beyond) (hR : mm_R G tok true k = some (e :: σ, i)) (he : e < 57) (ht : 10 ≤ mm_sym G e) (hE : dd_E G tok [mm_sym G e] i b) (hS : yo_S G tok n σ b τ)
    (hb : yo_b G tok n f k s0 a_scopes) (hp0 : yo_p G tok n f k p0 a_part) (hT : yo_t a_tRule a_tFrom a_tTo τ)
    (hP : ∀ σ' a' τ' a_way a_part a_scopes a_tRule a_tFrom a_tTo, mm_R G tok true (k + 1) = some (σ', a') → yo_S G tok n σ' a' τ' → yo_t a_tRule a_tFrom a_tTo τ' → yo_p G tok n f (k + 1) p0 a_part → yo_b G tok n f (k + 1) s0 a_scopes → post (nI (gg_np G), f_built, f_some, f_empty, nI n, nI τ'.length, nA (gg_ru G), nA (gg_sc G), nA (gg_ln G), nA (gg_sy G), gg_ro G, a_first, a_follow, a_kind, a_val, a_len, a_word, a_reach, a_beyond, a_way, a_known, a_bad, a_part, a_scopes, a_inner, a_tRule, a_tFrom, a_tTo, a_before)) :
    ∀ d p a_way, p + d = gg_np G → (∃ p', p ≤ p' ∧ p' < gg_np G ∧ gg_ru G p' = mm_sym G e - 10 ∧ dd_E G tok (gg_sl G p' 0) i b) →
      wY_open_6 post (nI f) (nI (mm_sym G e - 10)) (nI i) (nI b) (d + 1) (nI p) 0 (nI (gg_np G)) f_built f_some f_empty (nI n) (nI τ.length) (nA (gg_ru G)) (nA (gg_sc G)) (nA (gg_ln G)) (nA (gg_sy G)) (gg_ro G) a_first a_follow a_kind a_val a_len a_word a_reach a_beyond a_way a_known a_bad a_part a_scopes a_inner a_tRule a_tFrom a_tTo a_before := by
  have h14 := hG.1
  have h16 := mm_sym_16 hG e
  have hin : i ≤ n := mm_pl hn k _ _ hR
  have hbn : b ≤ n := hE.elim (fun x hx => rc_wn hn x _ _ _ hx hin)
  intro d
  induction d with
  | zero => intro p a_way hp ⟨p', h1, h2, _⟩; omega
  | succ d ih =>
    intro p a_way hp ⟨p', h1, h2, h3, h4⟩
    have hl := hG.2.2.1 p
    have hru := hG.2.1 p
    refine br_t rfl ?_
    rw [nA_cl (show p < 2 ^ 31 by omega)]
    refine ⟨pk_in p 14 (by omega), ?_⟩
    have next : ∀ a_way, (gg_ru G p = mm_sym G e - 10 → ¬ dd_E G tok (gg_sl G p 0) i b) → wY_open_6 post (nI f) (nI (mm_sym G e - 10)) (nI i) (nI b) (d + 1) (nI (p + 1)) 0 (nI (gg_np G)) f_built f_some f_empty (nI n) (nI τ.length) (nA (gg_ru G)) (nA (gg_sc G)) (nA (gg_ln G)) (nA (gg_sy G)) (gg_ro G) a_first a_follow a_kind a_val a_len a_word a_reach a_beyond a_way a_known a_bad a_part a_scopes a_inner a_tRule a_tFrom a_tTo a_before := by
      intro a_way hno
      refine ih (p + 1) a_way (by omega) ⟨p', ?_, h2, h3, h4⟩
      by_cases ep : p' = p
      · subst ep; exact absurd h4 (hno h3)
      · omega
    refine pk_eq (gg_ru G p) (mm_sym G e - 10) (fun hr => ?_) (fun hr => ?_)
    · refine yw_walk (tok := tok) hG (by omega) hin hI.1 ?_
      intro way r hw hr1 hrb
      dsimp only
      obtain ⟨w, w1, w2, w3⟩ := hw (gg_ln G p) (Nat.le_refl _)
      have hW := yo_W (p := p) hG hn hin hI (gg_ln G p) hl b
      have hsr : gg_sr G p (gg_ln G p) = gg_sl G p 0 := by
        have := gg_sr_sl (G := G) (p := p) (gg_ln G p) (Nat.le_refl _)
        rw [gg_sl_n (Nat.le_refl _), List.append_nil] at this
        exact this
      rw [hsr] at hW
      rw [nA_cl (show p < 2 ^ 31 by omega), nI_clamp (show gg_ln G p < 2 ^ 31 by omega), w1]
      refine ⟨pk_in p 14 (by omega), pk_in (gg_ln G p) 5 (by omega), ?_⟩
      refine nb_b0 w b (fun hbit => ?_) (fun hbit => ?_) (by omega) (by omega)
      · unfold wY_open_55 wY_open_57
        refine br_t rfl (nm_r (nI_1 p) (next way (fun _ hx => ?_)))
        rw [(w3 b).mpr (hW.mpr hx)] at hbit
        cases hbit
      · have hpE := hW.mp ((w3 b).mp hbit)
        have hv := mm_vd_R hG k _ _ hR
        have hpd := mm_pd (hn n (Nat.le_refl n)) (hv.1 he ht) hr hpE (yo_E _ _ _ hS)
        have hch : gg_Ch G (tok i) (mm_sym G e - 10) p := ⟨by omega, hr, hpd⟩
        have hc := mm_ch_i L (h10 i) hch
        have hsc := hG.2.2.2.2.1 p
        have hR1 : mm_R G tok true (k + 1) = some (mm_ce G p 0 ++ (mm_mk G true p i ++ σ), i) := by rw [mm_R_s hR]; exact mm_st_n he ht hc
        have hMx := fun i' j' => pl_M_x (i := i') (j := j') hG L h10 hn hR he ht hc hpE (yo_E _ _ _ hS)
        unfold wY_open_55 wY_open_57
        refine br_f (by decide) ?_
        refine br_f (by decide) ?_
        have tail : ∀ a_scopes, yo_b G tok n f (k + 1) s0 a_scopes → wY_open_104 post (nI f) (nI b) (nI p) (nI (gg_np G)) f_built f_some f_empty (nI n) (nI τ.length) (nA (gg_ru G)) (nA (gg_sc G)) (nA (gg_ln G)) (nA (gg_sy G)) (gg_ro G) a_first a_follow a_kind a_val a_len a_word a_reach a_beyond way a_known a_bad a_part a_scopes a_inner a_tRule a_tFrom a_tTo a_before := by
          intro a_scopes hb'
          unfold wY_open_104
          rw [nA_cl (show p < 2 ^ 31 by omega)]
          refine ⟨pk_in p 14 (by omega), nm_r (sub1 _) ⟨gg_ln G p + 1, ?_⟩⟩
          refine yo_119 (p0 := p0) hG L h10 hn hn20 hf hin hI hR he ht hc hw ?_ (gg_ln G p) b τ a_part a_tRule a_tFrom a_tTo (Nat.le_refl _) (by rw [hsr]; exact hpE) ?_ hT ?_
          · intro τ' a_part' a_tR a_tF a_tT q1 q2 q3
            exact hP _ _ τ' way a_part' a_scopes a_tR a_tF a_tT hR1 q1 q2 q3 hb'
          · rw [mm_ce_n (Nat.le_refl _)]
            exact yo_mk hS
          · refine ⟨?_, hp0.2⟩
            intro j c h
            rcases h with h | ⟨m', x1, x2, _⟩
            · exact hp0.1 j c h
            · omega
        rw [nA_cl (show p < 2 ^ 31 by omega)]
        refine ⟨pk_in p 14 (by omega), ?_⟩
        have same : (gg_sc G p = 1 → ¬ i < b) → yo_b G tok n f (k + 1) s0 a_scopes := by
          intro hno
          refine ⟨?_, hb.2⟩
          intro x hx
          obtain ⟨m, m1, m2, m3⟩ := hb.1 x hx
          refine ⟨m, m1, m2, fun j => ?_⟩
          rw [m3 j, hMx]
          constructor
          · intro ⟨y1, y2⟩; exact ⟨y1, Or.inl y2⟩
          · intro ⟨y1, y2⟩
            refine ⟨y1, ?_⟩
            rcases y2 with y2 | ⟨z1, z2, z3⟩
            · exact y2
            · exact absurd (show i < b by omega) (hno z1)
        refine pk_eq (gg_sc G p) 0 (fun h0 => tail a_scopes (same (fun h => by omega))) (fun h0 => ?_)
        refine pk_le b i (fun hbi => tail a_scopes (same (fun _ => by omega))) (fun hbi => ?_)
        have e2 : (20 : Int32) * nI f + nI i = nI (20 * f + i) := by rw [show (20 : Int32) = nI 20 from rfl, pk_mul, nI_add]
        obtain ⟨m, m1, m2, m3⟩ := hb.1 i (by omega)
        have eb : nI b - 1 = nI (b - 1) := pk_sub (a := b) (b := 1) (by omega)
        rw [e2, nI_clamp (show 20 * f + i < 2 ^ 31 by omega), m1, eb, nb_sh (by omega), nb_or]
        refine ⟨pk_in (20 * f + i) 80 (by omega), pk_in (20 * f + i) 80 (by omega), nm_e (tail _ ⟨?_, yo_fr_u hb.2 (by omega) (by omega)⟩)⟩
        intro x hx
        by_cases ex : x = i
        · subst ex
          refine ⟨m ||| 2 ^ (b - 1), pk_us, nb_orlt m2 (Nat.pow_lt_pow_right (by omega) (by omega)), fun j => ?_⟩
          rw [nb_or_t, nb_p_t, m3 j, hMx]
          constructor
          · intro h
            rcases h with ⟨y1, y2⟩ | h
            · exact ⟨y1, Or.inl y2⟩
            · exact ⟨by omega, Or.inr ⟨by omega, rfl, by omega⟩⟩
          · intro ⟨y1, y2⟩
            rcases y2 with y2 | ⟨_, _, y2⟩
            · exact Or.inl ⟨y1, y2⟩
            · exact Or.inr (by omega)
        · obtain ⟨m', m1', m2', m3'⟩ := hb.1 x hx
          refine ⟨m', by rw [pk_un (by omega)]; exact m1', m2', fun j => ?_⟩
          rw [m3' j, hMx]
          constructor
          · intro ⟨y1, y2⟩; exact ⟨y1, Or.inl y2⟩
          · intro ⟨y1, y2⟩
            refine ⟨y1, ?_⟩
            rcases y2 with y2 | ⟨_, z2, _⟩
            · exact y2
            · exact absurd z2 ex
    · unfold wY_open_57
      exact br_t rfl (nm_r (nI_1 p) (next a_way (fun h => absurd h hr)))
end YP
end
section
/-! the reference's unfold and know -/
def yu_o (o : Option Nat) : Int32 := match o with
  | none => -1
  | some i => nI i
theorem pl_SI_le {G : gg_T} {tok : Nat → Nat} {n i j : Nat} (hn : ∀ a, n ≤ a → tok a = 10) (h : pl_SI G tok i j) : i < j ∧ j ≤ n := by
  obtain ⟨h1, k, r, h2⟩ := h
  exact ⟨h1, mm_pl hn k _ _ h2⟩
theorem tx_fr_in {P : Nat → Bool} : ∀ d i r, tx_fr P d i = some r → i ≤ r ∧ r < i + d ∧ P r = true := by
  intro d
  induction d with
  | zero => intro i r h; cases h
  | succ d ih =>
    intro i r h
    by_cases hP : P i = true
    · have e : tx_fr P (d + 1) i = some i := if_pos hP
      rw [e] at h
      injection h with h
      subst h
      exact ⟨Nat.le_refl _, by omega, hP⟩
    · have e : tx_fr P (d + 1) i = tx_fr P d (i + 1) := if_neg hP
      rw [e] at h
      have := ih _ _ h
      exact ⟨by omega, by omega, this.2.2⟩
theorem nb_m32 {i : Nat} (h : i < 64) : (nI i &&& 31 : Int32) = nI (i % 32) &&& 31 := by
  rw [pk_andN (by omega) 5 (by decide), pk_andN (show i % 32 < 2 ^ 32 by omega) 5 (by decide)]
  exact congrArg nI (by omega)
section YU
variable {G : gg_T} {f_built f_some f_empty f_wn f_nt : Int32} {a_first a_follow a_kind a_val a_len a_word a_reach a_beyond a_way a_known a_bad a_part a_scopes a_inner a_tRule a_tFrom a_tTo a_before : Nat → Int32} {tok : Nat → Nat} {n : Nat}
theorem yu_16 {post : Int32 → Prop} {f a z : Nat} (hf : f < 4) (ha : a < 20) (hz : 1 ≤ z) (hz2 : z ≤ 20) (hn : ∀ a, n ≤ a → tok a = 10) (hn20 : n ≤ 20)
    (hb : ∀ i, i < 20 → ∃ m, a_scopes (20 * f + i) = nI m ∧ m < 2 ^ 20 ∧ ∀ j, m.testBit j = true ↔ pl_SI G tok i (j + 1)) :
    ∀ d i, i + d = a + 1 → post (yu_o (tx_fr (fun i => pl_si G tok i (i + z)) d i)) → wY_around_16 post (nI f) (nI a) (nI z) (nI (gg_np G)) f_built f_some f_empty f_wn f_nt (nA (gg_ru G)) (nA (gg_sc G)) (nA (gg_ln G)) (nA (gg_sy G)) (gg_ro G) a_first a_follow a_kind a_val a_len a_word a_reach a_beyond a_way a_known a_bad a_part a_scopes a_inner a_tRule a_tFrom a_tTo a_before (d + 1) (nI i) := by
  intro d
  induction d with
  | zero =>
    intro i hi hp
    exact br_t (nI_lt (by omega) (by omega)) hp
  | succ d ih =>
    intro i hi hp
    have e2 : (20 : Int32) * nI f + nI i = nI (20 * f + i) := by rw [show (20 : Int32) = nI 20 from rfl, pk_mul, nI_add]
    have e3 : nI i + nI z - 1 = nI (i + z - 1) := by rw [nI_add]; exact pk_sub (b := 1) (by omega)
    obtain ⟨m, m1, m2, m3⟩ := hb i (by omega)
    refine br_f (nI_nlt (by omega) (by omega)) ⟨by rw [e2]; exact pk_in (20 * f + i) 80 (by omega), ?_⟩
    rw [e2, e3, nI_clamp (show 20 * f + i < 2 ^ 31 by omega), m1, nb_m32 (by omega)]
    have key : m.testBit ((i + z - 1) % 32) = true ↔ pl_si G tok i (i + z) = true := by
      rw [m3, pl_si_e]
      by_cases h : i + z - 1 < 32
      · rw [Nat.mod_eq_of_lt h, show i + z - 1 + 1 = i + z by omega]
      · constructor
        · intro hs
          have := (pl_SI_le hn hs).1
          omega
        · intro hs
          have := (pl_SI_le hn hs).2
          omega
    refine nb_b0 m ((i + z - 1) % 32) (fun h => nm_r (nI_1 i) (ih (i + 1) (by omega) ?_)) (fun h => ?_) (by omega) (by omega)
    · have e : tx_fr (fun i => pl_si G tok i (i + z)) (d + 1) i = tx_fr (fun i => pl_si G tok i (i + z)) d (i + 1) := if_neg (fun hx => by rw [key.mpr hx] at h; cases h)
      rw [e] at hp
      exact hp
    · have e : tx_fr (fun i => pl_si G tok i (i + z)) (d + 1) i = some i := if_pos (key.mp h)
      rw [e] at hp
      exact hp
theorem yu_around {post : Int32 → Prop} {f a z : Nat} (hf : f < 4) (ha : a < 20) (hz : 1 ≤ z) (hz2 : z ≤ 20) (hn : ∀ a, n ≤ a → tok a = 10) (hn20 : n ≤ 20)
    (hb : ∀ i, i < 20 → ∃ m, a_scopes (20 * f + i) = nI m ∧ m < 2 ^ 20 ∧ ∀ j, m.testBit j = true ↔ pl_SI G tok i (j + 1))
    (hp : post (yu_o (tx_fr (fun i => pl_si G tok i (i + z)) (a + 1 - (a + 1 - z)) (a + 1 - z)))) : wpY_around post (nI (gg_np G), f_built, f_some, f_empty, f_wn, f_nt, nA (gg_ru G), nA (gg_sc G), nA (gg_ln G), nA (gg_sy G), gg_ro G, a_first, a_follow, a_kind, a_val, a_len, a_word, a_reach, a_beyond, a_way, a_known, a_bad, a_part, a_scopes, a_inner, a_tRule, a_tFrom, a_tTo, a_before) (nI f) (nI a) (nI z) := by
  refine pk_le z a (fun h => ?_) (fun h => ?_)
  · refine nm_r (e' := nI (a + 1 - z)) ?_ ⟨_, yu_16 hf ha hz hz2 hn hn20 hb (a + 1 - (a + 1 - z)) (a + 1 - z) (by omega) hp⟩
    rw [pk_sub h, nI_1]
    exact congrArg nI (by omega)
  · refine ⟨_, yu_16 hf ha hz hz2 hn hn20 hb (a + 1) 0 (by omega) ?_⟩
    rw [show a + 1 - (a + 1 - z) = a + 1 by omega, show a + 1 - z = 0 by omega] at hp
    exact hp
end YU
section YV
variable {G : gg_T} {f_built f_some f_empty f_wn f_nt : Int32} {a_first a_follow a_kind a_val a_len a_word a_reach a_beyond a_way a_known a_bad a_part a_scopes a_inner a_tRule a_tFrom a_tTo a_before : Nat → Int32} {T : tx_T} {f : Nat} {p0 i0 s0 : Nat → Int32}
theorem yu_118 {post : SY → Prop} {J : Int32 → (Nat → Int32) → (Nat → Int32) → (Nat → Int32) → (Nat → Int32) → (Nat → Int32) → (Nat → Int32) → (Nat → Int32) → (Nat → Int32) → (Nat → Int32) → (Nat → Int32) → (Nat → Int32) → (Nat → Int32) → (Nat → Int32) → (Nat → Int32) → (Nat → Int32) → (Nat → Int32) → (Nat → Int32) → (Nat → Int32) → (Nat → Int32) → (Nat → Int32) → (Nat → Int32) → (Nat → Int32) → (Nat → Int32) →  Prop} {q : Nat} {i0 : Nat → Int32} (hf : f < 4) (hle : tx_le T f ≤ 20) (hq : q < 20)
    (hb : ∀ i, i < 20 → ∃ m, a_scopes (20 * f + i) = nI m ∧ m < 2 ^ 20 ∧ ∀ j, m.testBit j = true ↔ pl_SI G (tx_tok T f) i (j + 1))
    (hJ : ∀ a_inner, a_inner (20 * f + q) = tx_inn G T f q → (∀ c, c ≠ 20 * f + q → a_inner c = i0 c) → J (nI (q + 1)) (nA (gg_ru G)) (nA (gg_sc G)) (nA (gg_ln G)) (nA (gg_sy G)) (gg_ro G) a_first a_follow a_kind a_val a_len a_word a_reach a_beyond a_way a_known a_bad a_part a_scopes a_inner a_tRule a_tFrom a_tTo a_before) :
    ∀ z a_inner, z ≤ 20 → a_inner (20 * f + q) = tx_ig G T f q (20 - z) (z + 1) → (∀ c, c ≠ 20 * f + q → a_inner c = i0 c) →
      wY_unfold_118 post J (nI f) (nI q) (nI (gg_np G)) f_built f_some f_empty f_wn f_nt (z + 1) (nI z) (nA (gg_ru G)) (nA (gg_sc G)) (nA (gg_ln G)) (nA (gg_sy G)) (gg_ro G) a_first a_follow a_kind a_val a_len a_word a_reach a_beyond a_way a_known a_bad a_part a_scopes a_inner a_tRule a_tFrom a_tTo a_before := by
  intro z
  induction z with
  | zero =>
    intro a_inner hz h1 h2
    exact br_t (by decide) (nm_r (nI_1 q) (hJ a_inner h1 h2))
  | succ z ih =>
    intro a_inner hz h1 h2
    refine br_f (nI_nle (by omega) (by omega)) ?_
    refine yu_around (tok := tx_tok T f) (n := tx_le T f) hf hq (by omega) hz tx_tokn hle hb ?_
    have ear : tx_fr (fun i => pl_si G (tx_tok T f) i (i + (z + 1))) (q + 1 - (q + 1 - (z + 1))) (q + 1 - (z + 1)) = tx_ar G T f q (z + 1) := rfl
    rw [ear]
    have eig : tx_ig G T f q (20 - z) (z + 1) = match tx_ar G T f q (z + 1) with | some i => nI (tx_cd i (z + 1)) | none => tx_ig G T f q (20 - (z + 1)) (z + 2) := by
      rw [show 20 - z = (20 - (z + 1)) + 1 by omega]; rfl
    cases har : tx_ar G T f q (z + 1) with
    | none =>
      rw [har] at eig
      refine br_t (show yu_o none < 0 by decide) (nm_r (pk_m1 z) (ih a_inner (by omega) ?_ h2))
      rw [eig]; exact h1
    | some i =>
      rw [har] at eig
      have hin := tx_fr_in _ _ _ har
      refine br_f (nI_pos (n := i) (by omega)) ?_
      have e2 : (20 : Int32) * nI f + nI q = nI (20 * f + q) := by rw [show (20 : Int32) = nI 20 from rfl, pk_mul, nI_add]
      have e3 : (32 : Int32) * yu_o (some i) + yu_o (some i) + nI (z + 1) - 1 = nI (tx_cd i (z + 1)) := by
        show (nI 32 * nI i + nI i + nI (z + 1)) - nI 1 = _
        rw [pk_mul, nI_add, nI_add, pk_sub (by omega)]
        rfl
      have hcd : tx_cd i (z + 1) < 32768 := by unfold tx_cd; omega
      rw [e2, e3, nI_clamp (show 20 * f + q < 2 ^ 31 by omega), vs_w hcd]
      refine ⟨pk_in (20 * f + q) 80 (by omega), nm_e (nm_r (pk_m1 z) (ih _ (by omega) ?_ ?_))⟩
      · rw [pk_us, eig]
      · intro c hc
        rw [pk_un hc]
        exact h2 c hc
theorem yu_95 {post : SY → Prop} {i0 : Nat → Int32} (hf : f < 4) (hle : tx_le T f ≤ 20)
    (hb : ∀ i, i < 20 → ∃ m, a_scopes (20 * f + i) = nI m ∧ m < 2 ^ 20 ∧ ∀ j, m.testBit j = true ↔ pl_SI G (tx_tok T f) i (j + 1))
    (hP : ∀ a_inner, (∀ a, a < tx_le T f → a_inner (20 * f + a) = tx_inn G T f a) → yo_fr f a_inner i0 → post (nI (gg_np G), f_built, f_some, f_empty, nI (tx_le T f), f_nt, nA (gg_ru G), nA (gg_sc G), nA (gg_ln G), nA (gg_sy G), gg_ro G, a_first, a_follow, a_kind, a_val, a_len, a_word, a_reach, a_beyond, a_way, a_known, a_bad, a_part, a_scopes, a_inner, a_tRule, a_tFrom, a_tTo, a_before)) :
    ∀ d q a_inner, q + d = tx_le T f → (∀ a, a < q → a_inner (20 * f + a) = tx_inn G T f a) → yo_fr f a_inner i0 →
      wY_unfold_95 post (nI f) (nI (gg_np G)) f_built f_some f_empty (nI (tx_le T f)) f_nt (d + 1) (nI q) (nA (gg_ru G)) (nA (gg_sc G)) (nA (gg_ln G)) (nA (gg_sy G)) (gg_ro G) a_first a_follow a_kind a_val a_len a_word a_reach a_beyond a_way a_known a_bad a_part a_scopes a_inner a_tRule a_tFrom a_tTo a_before := by
  intro d
  induction d with
  | zero =>
    intro q a_inner hq h1 h2
    refine pk_le (tx_le T f) q (fun _ => hP a_inner (fun a ha => h1 a (by omega)) h2) (fun h => absurd h (by omega))
  | succ d ih =>
    intro q a_inner hq h1 h2
    refine pk_le (tx_le T f) q (fun h => absurd h (by omega)) (fun hql => ?_)
    have e2 : (20 : Int32) * nI f + nI q = nI (20 * f + q) := by rw [show (20 : Int32) = nI 20 from rfl, pk_mul, nI_add]
    rw [e2, nI_clamp (show 20 * f + q < 2 ^ 31 by omega), vs_m1]
    refine ⟨pk_in (20 * f + q) 80 (by omega), nm_e ⟨21, ?_⟩⟩
    refine yu_118 (i0 := upd a_inner (20 * f + q) (-1)) hf hle (by omega) hb ?_ 20 _ (by omega) pk_us (fun c _ => rfl)
    intro a_inner' g1 g2
    refine ih (q + 1) a_inner' (by omega) (fun a ha => ?_) (fun c hc => ?_)
    · by_cases e : a = q
      · subst e; exact g1
      · rw [g2 _ (by omega), pk_un (by omega)]
        exact h1 a (by omega)
    · rw [g2 _ (by omega), pk_un (by omega)]
      exact h2 c hc
theorem yu_41 {post : SY → Prop} {re : Nat → Nat → Nat} {be : Nat → Nat} {p0 s0 : Nat → Int32} (hG : gg_ok G) (L : gg_LL G) (hkd : ∀ c, tx_kd T c < 10) (hf : f < 4) (hle : tx_le T f ≤ 20)
    (hI : ys_I G (tx_tok T f) (tx_le T f) 0 re be a_word a_reach a_beyond)
    (hQ : ∀ k a_way a_part a_scopes a_tRule a_tFrom a_tTo, mm_R G (tx_tok T f) true k = some ([], tx_le T f) → yo_p G (tx_tok T f) (tx_le T f) f k p0 a_part → yo_b G (tx_tok T f) (tx_le T f) f k s0 a_scopes →
      ∃ n95, wY_unfold_95 post (nI f) (nI (gg_np G)) f_built f_some f_empty (nI (tx_le T f)) 0 n95 0 (nA (gg_ru G)) (nA (gg_sc G)) (nA (gg_ln G)) (nA (gg_sy G)) (gg_ro G) a_first a_follow a_kind a_val a_len a_word a_reach a_beyond a_way a_known a_bad a_part a_scopes a_inner a_tRule a_tFrom a_tTo a_before) :
    ∀ d k σ a τ a_way a_part a_scopes a_tRule a_tFrom a_tTo, mm_R G (tx_tok T f) true (k + d) = none → mm_R G (tx_tok T f) true k = some (σ, a) → yo_S G (tx_tok T f) (tx_le T f) σ a τ → yo_t a_tRule a_tFrom a_tTo τ →
      yo_p G (tx_tok T f) (tx_le T f) f k p0 a_part → yo_b G (tx_tok T f) (tx_le T f) f k s0 a_scopes → wY_unfold_41 post (nI f) (d + 1) (nI (gg_np G)) f_built f_some f_empty (nI (tx_le T f)) (nI τ.length) (nA (gg_ru G)) (nA (gg_sc G)) (nA (gg_ln G)) (nA (gg_sy G)) (gg_ro G) a_first a_follow a_kind a_val a_len a_word a_reach a_beyond a_way a_known a_bad a_part a_scopes a_inner a_tRule a_tFrom a_tTo a_before := by
  intro d
  induction d with
  | zero => intro k σ a τ _ _ _ _ _ _ h1 h2; rw [Nat.add_zero] at h1; rw [h1] at h2; cases h2
  | succ d ih =>
    intro k σ a τ a_way a_part a_scopes a_tRule a_tFrom a_tTo h1 h2 h3 h4 h5 h6
    have h400 : τ.length ≤ 379 := by
      have := yo_len _ _ _ h3
      have h7 := mm_bd (nt := true) hG L (tx_tok10 hkd) h2 (by have := mm_pl tx_tokn k _ _ h2; omega)
      omega
    obtain ⟨k', k1, k2, k3, k4⟩ := yo_adv σ k a τ h2 h3
    have h5' : yo_p G (tx_tok T f) (tx_le T f) f k' p0 a_part := ⟨fun j c h => h5.1 j c ((k3 j c).mp h), h5.2⟩
    have h6' : yo_b G (tx_tok T f) (tx_le T f) f k' s0 a_scopes := by
      refine ⟨fun i hi => ?_, h6.2⟩
      obtain ⟨m, m1, m2, m3⟩ := h6.1 i hi
      exact ⟨m, m1, m2, fun j => by rw [m3 j, k2]⟩
    rcases k4 with ⟨e1, e2⟩ | ⟨e, σ', i, b, τ', e1, e2, e3, e4, e5, e6⟩
    · subst e1
      exact br_t (by decide) (hQ k' a_way a_part a_scopes a_tRule a_tFrom a_tTo e2 h5' h6')
    · subst e4
      have hl : ((mm_sym G e - 10, i, b) :: τ').length = τ'.length + 1 := rfl
      rw [hl] at h400 ⊢
      obtain ⟨t1, t2, t3, t4⟩ := h4
      refine br_f (nI_nle (by omega) (by omega)) (nm_r (nI_pred τ'.length) ?_)
      rw [nI_clamp (show τ'.length < 2 ^ 31 by omega), t1, t2, t3]
      refine ⟨pk_in τ'.length 400 (by omega), pk_in τ'.length 400 (by omega), pk_in τ'.length 400 (by omega), ?_⟩
      obtain ⟨p, p1, p2, p3⟩ := (de_n e3).mp e5
      rw [List.append_nil] at p3
      refine ⟨gg_np G + 1, yo_6 (p0 := p0) (s0 := s0) hG L (tx_tok10 hkd) tx_tokn hle hf hI e1 e2 e3 e5 e6 h6' h5' t4 ?_ (gg_np G) 0 a_way (by omega) ⟨p, by omega, p1, p2, p3⟩⟩
      intro σ2 a2 τ2 a_way2 a_part2 a_scopes2 a_tR2 a_tF2 a_tT2 g1 g2 g3 g4 g5
      refine ih (k' + 1) σ2 a2 τ2 a_way2 a_part2 a_scopes2 a_tR2 a_tF2 a_tT2 ?_ g1 g2 g3 g4 g5
      have := mm_R_nn h1 (k' - k)
      rw [← this]
      congr 1
      omega
theorem yu_2 {post : SY → Prop} {s0 : Nat → Int32} (hf : f < 4)
    (hQ : ∀ a_scopes, (∀ i, i < 20 → a_scopes (20 * f + i) = 0) → yo_fr f a_scopes s0 → wpY_below (fun u => match u with | (f_np, f_built, f_some, f_empty, f_wn, f_nt, a_pRule, a_pScope, a_pLen, a_sym, a_role, a_first, a_follow, a_kind, a_val, a_len, a_word, a_reach, a_beyond, a_way, a_known, a_bad, a_part, a_scopes, a_inner, a_tRule, a_tFrom, a_tTo, a_before) => (∃ n41 : Nat, wY_unfold_41 post (nI f) n41 f_np f_built f_some f_empty f_wn f_nt a_pRule a_pScope a_pLen a_sym a_role a_first a_follow a_kind a_val a_len a_word a_reach a_beyond a_way a_known a_bad a_part a_scopes a_inner a_tRule a_tFrom a_tTo a_before)) (nI (gg_np G), f_built, f_some, f_empty, f_wn, 0, nA (gg_ru G), nA (gg_sc G), nA (gg_ln G), nA (gg_sy G), gg_ro G, a_first, a_follow, a_kind, a_val, a_len, a_word, a_reach, a_beyond, a_way, a_known, a_bad, a_part, a_scopes, a_inner, a_tRule, a_tFrom, a_tTo, a_before) 0 0 f_wn) :
    ∀ d i a_scopes, i + d = 20 → (∀ j, j < i → a_scopes (20 * f + j) = 0) → yo_fr f a_scopes s0 → wY_unfold_2 post (nI f) (nI (gg_np G)) f_built f_some f_empty f_wn f_nt (d + 1) (nI i) (nA (gg_ru G)) (nA (gg_sc G)) (nA (gg_ln G)) (nA (gg_sy G)) (gg_ro G) a_first a_follow a_kind a_val a_len a_word a_reach a_beyond a_way a_known a_bad a_part a_scopes a_inner a_tRule a_tFrom a_tTo a_before := by
  intro d
  induction d with
  | zero =>
    intro i a_scopes hi h1 h2
    have e : i = 20 := by omega
    subst e
    exact br_t (by decide) (hQ a_scopes h1 h2)
  | succ d ih =>
    intro i a_scopes hi h1 h2
    refine pk_le 20 i (fun h => absurd h (by omega)) (fun hi2 => ?_)
    have e2 : (20 : Int32) * nI f + nI i = nI (20 * f + i) := by rw [show (20 : Int32) = nI 20 from rfl, pk_mul, nI_add]
    rw [e2, nI_clamp (show 20 * f + i < 2 ^ 31 by omega)]
    refine ⟨pk_in (20 * f + i) 80 (by omega), nm_e (nm_r (nI_1 i) (ih (i + 1) _ (by omega) (fun j hj => ?_) (yo_fr_u h2 (by omega) (by omega))))⟩
    by_cases e : j = i
    · subst e; exact pk_us
    · rw [pk_un (by omega)]; exact h1 j (by omega)
theorem yu_unfold {post : SY → Prop} {re : Nat → Nat → Nat} {be : Nat → Nat} (hG : gg_ok G) (L : gg_LL G) (hkd : ∀ c, tx_kd T c < 10) (hf : f < 4) (hle : tx_le T f ≤ 20)
    (hI : ys_I G (tx_tok T f) (tx_le T f) 0 re be a_word a_reach a_beyond) (hE : tx_sen G T f)
    (hP : ∀ f_nt a_way a_part a_scopes a_inner a_tRule a_tFrom a_tTo, (∀ a, a < tx_le T f → a_part (20 * f + a) = pl_rl G (tx_tok T f) a ∧ a_inner (20 * f + a) = tx_inn G T f a) →
      (∀ i, i < 20 → ∃ m, a_scopes (20 * f + i) = nI m ∧ m < 2 ^ 20 ∧ ∀ j, m.testBit j = true ↔ pl_SI G (tx_tok T f) i (j + 1)) →
      yo_fr f a_part p0 → yo_fr f a_inner i0 → yo_fr f a_scopes s0 → post (nI (gg_np G), f_built, f_some, f_empty, nI (tx_le T f), f_nt, nA (gg_ru G), nA (gg_sc G), nA (gg_ln G), nA (gg_sy G), gg_ro G, a_first, a_follow, a_kind, a_val, a_len, a_word, a_reach, a_beyond, a_way, a_known, a_bad, a_part, a_scopes, a_inner, a_tRule, a_tFrom, a_tTo, a_before)) (hp0 : yo_fr f a_part p0) (hi0 : yo_fr f a_inner i0) (hs0 : yo_fr f a_scopes s0) :
    wpY_unfold post (nI (gg_np G), f_built, f_some, f_empty, nI (tx_le T f), f_nt, nA (gg_ru G), nA (gg_sc G), nA (gg_ln G), nA (gg_sy G), gg_ro G, a_first, a_follow, a_kind, a_val, a_len, a_word, a_reach, a_beyond, a_way, a_known, a_bad, a_part, a_scopes, a_inner, a_tRule, a_tFrom, a_tTo, a_before) (nI f) := by
  refine ⟨21, yu_2 (s0 := s0) hf ?_ 20 0 a_scopes (by omega) (fun j hj => by omega) hs0⟩
  intro a_scopes h1 h2
  obtain ⟨K, hK⟩ := mm_halt (nt := true) hG L (tx_tok10 (T := T) (f := f) hkd) tx_tokn
  refine yo_below (A := 0) (i := 0) (j := tx_le T f) (k := 0) (by omega) (by omega) (by omega) (by omega) ?_
  dsimp only
  refine ⟨K + 1, yu_41 (p0 := p0) (s0 := s0) hG L hkd hf hle hI ?_ K 0 [56] 0 [(0, 0, tx_le T f)] _ _ _ _ _ _ (by rw [Nat.zero_add]; exact hK) mm_R_0 ?_ ⟨pk_us, pk_us, pk_us, trivial⟩ ⟨?_, hp0⟩ ⟨?_, h2⟩⟩
  · intro k a_way' a_part' a_scopes' a_tR a_tF a_tT g1 g2 g3
    have hb : ∀ i, i < 20 → ∃ m, a_scopes' (20 * f + i) = nI m ∧ m < 2 ^ 20 ∧ ∀ j, m.testBit j = true ↔ pl_SI G (tx_tok T f) i (j + 1) := by
      intro i hi
      obtain ⟨m, m1, m2, m3⟩ := g3.1 i hi
      exact ⟨m, m1, m2, fun j => by rw [m3 j, pl_M_e hG L (tx_tok10 hkd) tx_tokn hE g1]⟩
    refine ⟨tx_le T f + 1, yu_95 (i0 := i0) hf hle hb ?_ (tx_le T f) 0 a_inner (by omega) (fun a ha => by omega) hi0⟩
    intro a_inner' q1 q2
    refine hP _ a_way' a_part' a_scopes' a_inner' a_tR a_tF a_tT (fun a ha => ⟨?_, q1 a ha⟩) hb g2.2 q2 g3.2
    obtain ⟨c, hc⟩ := pl_Lf_x hG k _ _ g1 a ha
    rw [pl_rl_e hc]
    exact g2.1 a c ((pl_L_e hG L (tx_tok10 hkd) tx_tokn hE g1).mpr hc)
  · refine Or.inr (Or.inr ⟨by omega, by rw [show mm_sym G 56 = 10 from rfl]; omega, tx_le T f, [], rfl, hE, rfl, rfl⟩)
  · intro j c ⟨k', k1, u, r, a, a1, a2, _⟩
    have e : k' = 0 := by omega
    subst e
    rw [mm_R_0] at a1
    injection a1 with a1
    injection a1 with a3 _
    cases u with
    | nil => injection a3 with a4 _; omega
    | cons y u => injection a3 with _ a4; cases u <;> cases a4
  · intro i hi
    refine ⟨0, h1 i hi, by omega, fun j => ⟨fun h => absurd h nb_0_t, fun ⟨_, k', k1, u, r, a, a1, _⟩ => ?_⟩⟩
    have e : k' = 0 := by omega
    subst e
    rw [mm_R_0] at a1
    injection a1 with a1
    injection a1 with a3 _
    cases u with
    | nil => injection a3 with a4 _; omega
    | cons y u => injection a3 with _ a4; cases u <;> cases a4
end YV
end
section
theorem dp_tok {G : gg_T} {tok tok' : Nat → Nat} {k : Nat} (h : ∀ a, a < k → tok a = tok' a) : ∀ n l a, dd_P G tok k n l a → dd_P G tok' k n l a := by
  intro n
  induction n with
  | zero => intro l a h; exact h
  | succ n ih =>
    intro l a hp
    have hle := dp_le _ _ _ hp
    by_cases e : a = k
    · exact Or.inl e
    · rcases hp with hp | ⟨x, l', e1, hp⟩
      · exact absurd hp e
      · refine Or.inr ⟨x, l', e1, ?_⟩
        rcases hp with ⟨h1, h2, h3⟩ | ⟨h1, p, h2, h3, h4⟩
        · exact Or.inl ⟨h1, by rw [← h a (by omega)]; exact h2, ih _ _ h3⟩
        · exact Or.inr ⟨h1, p, h2, h3, ih _ _ h4⟩
theorem dv_tok {G : gg_T} {tok tok' : Nat → Nat} {k a : Nat} {l : List Nat} (h : ∀ a, a < k → tok a = tok' a) : dd_V G tok k l a ↔ dd_V G tok' k l a :=
  ⟨fun ⟨n, hp⟩ => ⟨n, dp_tok h n l a hp⟩, fun ⟨n, hp⟩ => ⟨n, dp_tok (fun a ha => (h a ha).symm) n l a hp⟩⟩
theorem yy_A_fr {G : gg_T} {T : tx_T} {f g : Nat} {bad bad' part part' scopes scopes' inner inner' : Nat → Int32} (hle : tx_le T g ≤ 20) (hg : g ≠ f) (h : yy_A G T g bad part scopes inner)
    (h1 : bad' g = bad g) (h2 : yo_fr f part' part) (h3 : yo_fr f scopes' scopes) (h4 : yo_fr f inner' inner) : yy_A G T g bad' part' scopes' inner' := by
  refine ⟨by rw [h1]; exact h.1, fun hs => ⟨fun a ha => ?_, fun i hi => ?_⟩⟩
  · have := (h.2 hs).1 a ha
    rw [h2 _ (by omega), h4 _ (by omega)]
    exact this
  · have := (h.2 hs).2 i hi
    rw [h3 _ (by omega)]
    exact this
/-- the reference's state, and that the files of kz are known -/
def yf (G : gg_T) (b : Nat) (T : tx_T) (kz kn : Nat → Nat) (a_bad a_part a_scopes a_inner : Nat → Int32) : Prop := yy_F G b T kn a_bad a_part a_scopes a_inner ∧ ∀ g, kz g = 1 → kn g = 1
theorem yf_k {kz kn : Nat → Nat} {f : Nat} (h : ∀ g, kz g = 1 → kn g = 1) : ∀ g, un kz f 1 g = 1 → un kn f 1 g = 1 := by
  intro g hg
  by_cases e : g = f
  · subst e; exact un_s
  · rw [un_n e] at hg ⊢; exact h g hg
theorem yf_k' {kz kn : Nat → Nat} {f : Nat} (h : ∀ g, kz g = 1 → kn g = 1) (hf : kn f = 1) : ∀ g, un kz f 1 g = 1 → kn g = 1 := by
  intro g hg
  by_cases e : g = f
  · subst e; exact hf
  · rw [un_n e] at hg; exact h g hg
section YK
variable {G : gg_T} {b : Nat} {T : tx_T} {f : Nat} {f_some f_empty f_wn f_nt : Int32} {a_first a_follow a_word a_reach a_beyond a_way a_bad a_part a_scopes a_inner a_tRule a_tFrom a_tTo a_before : Nat → Int32} {kn : Nat → Nat}
theorem yk_F (hz : zz_ok G b T) (hb1 : b = 1) (hf : f < 4) (hF : yy_F G b T kn a_bad a_part a_scopes a_inner) {bad' part' scopes' inner' : Nat → Int32} (h1 : ∀ g, g ≠ f → bad' g = a_bad g) (h2 : yo_fr f part' a_part) (h3 : yo_fr f scopes' a_scopes) (h4 : yo_fr f inner' a_inner)
    (hA : yy_A G T f bad' part' scopes' inner') : yy_F G b T (un kn f 1) bad' part' scopes' inner' := by
  refine ⟨fun g => ?_, fun h => absurd h (by omega), fun g hg hk => ?_⟩
  · by_cases e : g = f
    · subst e; rw [un_s]; exact Nat.le_refl 1
    · rw [un_n e]; exact hF.1 g
  · by_cases e : g = f
    · subst e; exact hA
    · rw [un_n e] at hk
      exact yy_A_fr (hz.2.2.2.2.2.1 g) e (hF.2.2 g hg hk) (h1 g e) h2 h3 h4
theorem yk_56 {post : SY → Prop} (hz : zz_ok G b T) (hb1 : b = 1) (hf : f < 4) (hns : ¬ tx_sen G T f) (hF : yy_F G b T kn a_bad a_part a_scopes a_inner) {bad1 : Nat → Int32} (hbad : ∀ g, g ≠ f → bad1 g = a_bad g)
    {kz : Nat → Nat} (hkz : ∀ g, kz g = 1 → kn g = 1) (hP : ∀ (f_wn f_nt : Int32) (a_word a_reach a_beyond a_way a_bad a_part a_scopes a_inner a_tRule a_tFrom a_tTo : Nat → Int32) (kn : Nat → Nat), yf G b T (un kz f 1) kn a_bad a_part a_scopes a_inner → post (nI (gg_np G), nI b, f_some, f_empty, f_wn, f_nt, nA (gg_ru G), nA (gg_sc G), nA (gg_ln G), nA (gg_sy G), gg_ro G, a_first, a_follow, nA (tx_kd T), nA (tx_va T), nA (tx_le T), a_word, a_reach, a_beyond, a_way, nA kn, a_bad, a_part, a_scopes, a_inner, a_tRule, a_tFrom, a_tTo, a_before)) :
    ∀ k f_wn a_word a_reach a_beyond a_way, f_wn = nI k → k ≤ tx_le T f → (∀ q, dd_V G (tx_tok T f) q [10] 0 → q ≤ k) → (∃ re be, ys_I G (fun j => if j < k then tx_kd T (20 * f + j) else 10) k 0 re be a_word a_reach a_beyond) →
      wY_know_56 post (nI f) (k + 1) (nI k) (nI (gg_np G)) (nI b) f_some f_empty f_wn f_nt (nA (gg_ru G)) (nA (gg_sc G)) (nA (gg_ln G)) (nA (gg_sy G)) (gg_ro G) a_first a_follow (nA (tx_kd T)) (nA (tx_va T)) (nA (tx_le T)) a_word a_reach a_beyond a_way (nA (un kn f 1)) bad1 a_part a_scopes a_inner a_tRule a_tFrom a_tTo a_before := by
  obtain ⟨hG, _, hL, hkd, hva, hle20, _⟩ := hz
  have fin : ∀ k f_wn a_word a_reach a_beyond a_way, k ≤ tx_le T f → tx_Q G T f k → post (nI (gg_np G), nI b, f_some, f_empty, f_wn, f_nt, nA (gg_ru G), nA (gg_sc G), nA (gg_ln G), nA (gg_sy G), gg_ro G, a_first, a_follow, nA (tx_kd T), nA (tx_va T), nA (tx_le T), a_word, a_reach, a_beyond, a_way, nA (un kn f 1), upd bad1 f (nI k), a_part, a_scopes, a_inner, a_tRule, a_tFrom, a_tTo, a_before) := by
    intro k f_wn a_word a_reach a_beyond a_way hk hq
    refine hP f_wn f_nt a_word a_reach a_beyond a_way _ a_part a_scopes a_inner a_tRule a_tFrom a_tTo (un kn f 1) ⟨?_, yf_k hkz⟩
    refine yk_F ⟨hG, by omega, hL, hkd, hva, hle20, fun h => absurd h (by omega)⟩ hb1 hf hF (fun g hg => by rw [pk_un hg]; exact hbad g hg) (fun _ _ => rfl) (fun _ _ => rfl) (fun _ _ => rfl) ⟨?_, fun h => absurd h hns⟩
    rw [pk_us]
    exact (tx_err_q hns hq).symm
  intro k
  induction k with
  | zero =>
    intro f_wn a_word a_reach a_beyond a_way hw hk hq hI
    have h20 := hle20 f
    refine br_t (by decide) ?_
    rw [nI_clamp (show f < 2 ^ 31 by omega), vb_w (n := 0) (by omega)]
    exact ⟨pk_in f 4 hf, nm_e (fin 0 f_wn a_word a_reach a_beyond a_way hk ⟨dv_k, hq⟩)⟩
  | succ k ih =>
    intro f_wn a_word a_reach a_beyond a_way hw hk hq ⟨re, be, hI⟩
    have h20 := hle20 f
    have hV : dd_V G (fun j => if j < k + 1 then tx_kd T (20 * f + j) else 10) (k + 1) [10] 0 ↔ dd_V G (tx_tok T f) (k + 1) [10] 0 := by
      refine dv_tok (fun a ha => ?_)
      unfold tx_tok
      rw [if_pos ha, if_pos (by omega)]
    refine br_f (nI_nle (by omega) (by omega)) ?_
    refine yt_goes hI (fun h0 => ?_) (fun h1 => ?_)
    · refine br_t rfl (nm_r (pk_m1 k) ?_)
      refine yt_take (tok := fun j => if j < k then tx_kd T (20 * f + j) else 10) hG hf (by omega) hkd (fun j => rfl) ?_
      intro re' be' a_word' a_way' a_reach' a_beyond' hI'
      dsimp only
      refine ih (nI k) a_word' a_reach' a_beyond' a_way' rfl (by omega) (fun q hqv => ?_) ⟨re', be', hI'⟩
      have := hq q hqv
      by_cases e : q = k + 1
      · subst e; exact absurd (hV.mpr hqv) h0
      · omega
    · refine br_f (by decide) ?_
      rw [nI_clamp (show f < 2 ^ 31 by omega), vb_w (n := k + 1) (by omega)]
      exact ⟨pk_in f 4 hf, nm_e (fin (k + 1) f_wn a_word a_reach a_beyond a_way hk ⟨hV.mp h1, hq⟩)⟩
theorem yk_know {post : SY → Prop} (hz : zz_ok G b T) (hb1 : b = 1) (hf : f < 4) (hF : yy_F G b T kn a_bad a_part a_scopes a_inner)
    {kz : Nat → Nat} (hkz : ∀ g, kz g = 1 → kn g = 1) (hP : ∀ (f_wn f_nt : Int32) (a_word a_reach a_beyond a_way a_bad a_part a_scopes a_inner a_tRule a_tFrom a_tTo : Nat → Int32) (kn : Nat → Nat), yf G b T (un kz f 1) kn a_bad a_part a_scopes a_inner → post (nI (gg_np G), nI b, f_some, f_empty, f_wn, f_nt, nA (gg_ru G), nA (gg_sc G), nA (gg_ln G), nA (gg_sy G), gg_ro G, a_first, a_follow, nA (tx_kd T), nA (tx_va T), nA (tx_le T), a_word, a_reach, a_beyond, a_way, nA kn, a_bad, a_part, a_scopes, a_inner, a_tRule, a_tFrom, a_tTo, a_before)) : wpY_know post (nI (gg_np G), nI b, f_some, f_empty, f_wn, f_nt, nA (gg_ru G), nA (gg_sc G), nA (gg_ln G), nA (gg_sy G), gg_ro G, a_first, a_follow, nA (tx_kd T), nA (tx_va T), nA (tx_le T), a_word, a_reach, a_beyond, a_way, nA kn, a_bad, a_part, a_scopes, a_inner, a_tRule, a_tFrom, a_tTo, a_before) (nI f) := by
  have hz' := hz
  obtain ⟨hG, _, hL, hkd, hva, hle20, _⟩ := hz
  have h20 := hle20 f
  have L := hL hb1
  have hk1 := hF.1 f
  unfold wpY_know
  dsimp only
  rw [nA_cl (show f < 2 ^ 31 by omega), nA_cl (show f < 2 ^ 31 by omega), vo_1, nI_clamp (show f < 2 ^ 31 by omega), nA_upd]
  refine ⟨pk_in f 4 hf, pk_eq (kn f) 0 (fun h0 => ⟨pk_in f 4 hf, nm_e ⟨pk_in f 4 hf, ?_⟩⟩) (fun h0 => ?_)⟩
  · refine yt_take (tok := tx_tok T f) hG hf h20 hkd (fun j => rfl) ?_
    intro re be a_word' a_way' a_reach' a_beyond' hI
    dsimp only
    rw [vb_m1]
    refine ⟨pk_in f 4 hf, nm_e ?_⟩
    refine yt_whole hI (fun hs => ?_) (fun hs => ?_)
    · refine br_t rfl ⟨pk_in f 4 hf, nm_r (e' := nI (tx_le T f)) rfl ⟨tx_le T f + 1, ?_⟩⟩
      refine yk_56 hz' hb1 hf hs hF (fun g hg => pk_un hg) hkz hP (tx_le T f) _ a_word' a_reach' a_beyond' a_way' rfl (Nat.le_refl _) (fun q hq => ?_) ⟨re, be, hI⟩
      obtain ⟨k, σ, hR⟩ := mm_fwd (nt := true) hG L (tx_tok10 hkd) tx_tokn hq
      exact mm_pl tx_tokn k _ _ hR
    · refine br_f (by decide) ?_
      refine yu_unfold (p0 := a_part) (i0 := a_inner) (s0 := a_scopes) hG L hkd hf h20 hI hs ?_ (fun _ _ => rfl) (fun _ _ => rfl) (fun _ _ => rfl)
      intro f_nt' a_way2 a_part2 a_scopes2 a_inner2 a_tR a_tF a_tT g1 g2 g3 g4 g5
      dsimp only
      refine hP _ f_nt' a_word' a_reach' a_beyond' a_way2 _ a_part2 a_scopes2 a_inner2 a_tR a_tF a_tT (un kn f 1) ⟨?_, yf_k hkz⟩
      refine yk_F hz' hb1 hf hF (fun g hg => pk_un hg) g3 g5 g4 ⟨?_, fun _ => ⟨g1, g2⟩⟩
      rw [pk_us]
      exact (tx_err_s hs).symm
  · exact hP f_wn f_nt a_word a_reach a_beyond a_way a_bad a_part a_scopes a_inner a_tRule a_tFrom a_tTo kn ⟨hF, yf_k' hkz (by omega)⟩
end YK
end
section
/-! the reference's is, firstIn, link -/
theorem tx_err_c {G : gg_T} {b : Nat} {T : tx_T} (hz : zz_ok G b T) (hb1 : b = 1) (f : Nat) : (tx_sen G T f ∧ tx_err G T f = -1) ∨ (¬ tx_sen G T f ∧ ∃ q, q ≤ tx_le T f ∧ tx_Q G T f q ∧ tx_err G T f = nI q) := by
  obtain ⟨hG, _, hL, hkd, hva, hle20, _⟩ := hz
  by_cases hs : tx_sen G T f
  · exact Or.inl ⟨hs, tx_err_s hs⟩
  · obtain ⟨K, hK⟩ := mm_halt (nt := true) hG (hL hb1) (tx_tok10 (T := T) (f := f) hkd) tx_tokn
    obtain ⟨k, σ, a, h1, h2⟩ := mm_last K hK
    have := mm_fault hG (hL hb1) (tx_tok10 hkd) tx_tokn h1 h2
    have hq : tx_Q G T f a := ⟨mm_backV hG h1, this.2.2⟩
    exact Or.inr ⟨hs, a, mm_pl tx_tokn k _ _ h1, hq, tx_err_q hs hq⟩
theorem yf_w {G : gg_T} {b : Nat} {T : tx_T} {kz kn : Nat → Nat} {bad part scopes inner : Nat → Int32} {f : Nat} (h : yf G b T (un kz f 1) kn bad part scopes inner) : yf G b T kz kn bad part scopes inner :=
  ⟨h.1, fun g hg => h.2 g (by
    by_cases e : g = f
    · subst e; exact un_s
    · rw [un_n e]; exact hg)⟩
theorem nn_m1 : ¬ (0 : Int32) ≤ -1 := by decide
section YQ
variable {G : gg_T} {b : Nat} {T : tx_T} {f_some f_empty f_wn f_nt : Int32} {a_first a_follow a_word a_reach a_beyond a_way a_bad a_part a_scopes a_inner a_tRule a_tFrom a_tTo a_before : Nat → Int32} {kn : Nat → Nat} {kz : Nat → Nat}
theorem yq_is {post : Int32 → SY → Prop} {f a x : Nat} (hz : zz_ok G b T) (hb1 : b = 1) (hf : f < 4) (ha : a < 20) (hF : yf G b T kz kn a_bad a_part a_scopes a_inner)
    (h0 : tx_is G T f a x = false → ∀ (f_wn f_nt : Int32) (a_word a_reach a_beyond a_way a_bad a_part a_scopes a_inner a_tRule a_tFrom a_tTo : Nat → Int32) (kn : Nat → Nat), yf G b T (un kz f 1) kn a_bad a_part a_scopes a_inner → post 0 (nI (gg_np G), nI b, f_some, f_empty, f_wn, f_nt, nA (gg_ru G), nA (gg_sc G), nA (gg_ln G), nA (gg_sy G), gg_ro G, a_first, a_follow, nA (tx_kd T), nA (tx_va T), nA (tx_le T), a_word, a_reach, a_beyond, a_way, nA kn, a_bad, a_part, a_scopes, a_inner, a_tRule, a_tFrom, a_tTo, a_before))
    (h1 : tx_is G T f a x = true → ∀ (f_wn f_nt : Int32) (a_word a_reach a_beyond a_way a_bad a_part a_scopes a_inner a_tRule a_tFrom a_tTo : Nat → Int32) (kn : Nat → Nat), yf G b T (un kz f 1) kn a_bad a_part a_scopes a_inner → post 1 (nI (gg_np G), nI b, f_some, f_empty, f_wn, f_nt, nA (gg_ru G), nA (gg_sc G), nA (gg_ln G), nA (gg_sy G), gg_ro G, a_first, a_follow, nA (tx_kd T), nA (tx_va T), nA (tx_le T), a_word, a_reach, a_beyond, a_way, nA kn, a_bad, a_part, a_scopes, a_inner, a_tRule, a_tFrom, a_tTo, a_before)) : wpY_is post (nI (gg_np G), nI b, f_some, f_empty, f_wn, f_nt, nA (gg_ru G), nA (gg_sc G), nA (gg_ln G), nA (gg_sy G), gg_ro G, a_first, a_follow, nA (tx_kd T), nA (tx_va T), nA (tx_le T), a_word, a_reach, a_beyond, a_way, nA kn, a_bad, a_part, a_scopes, a_inner, a_tRule, a_tFrom, a_tTo, a_before) (nI f) (nI a) (nI x) := by
  have h20 := hz.2.2.2.2.2.1 f
  refine yk_know hz hb1 hf hF.1 hF.2 ?_
  intro f_wn f_nt a_word a_reach a_beyond a_way a_bad a_part a_scopes a_inner a_tRule a_tFrom a_tTo kn hF
  dsimp only
  have hA := hF.1.2.2 f hf (hF.2 f un_s)
  have e2 : (20 : Int32) * nI f + nI a = nI (20 * f + a) := by rw [show (20 : Int32) = nI 20 from rfl, pk_mul, nI_add]
  rw [nA_cl (show f < 2 ^ 31 by omega), nI_clamp (show f < 2 ^ 31 by omega), hA.1, e2, nI_clamp (show 20 * f + a < 2 ^ 31 by omega)]
  refine ⟨pk_in f 4 hf, ?_⟩
  rcases tx_err_c hz hb1 f with ⟨hs, he⟩ | ⟨hs, q, hq, _, he⟩
  · rw [he]
    refine br_f nn_m1 ⟨pk_in f 4 hf, pk_le (tx_le T f) a (fun hl => ?_) (fun hl => ⟨pk_in (20 * f + a) 80 (by omega), ?_⟩)⟩
    · exact h0 (tx_is_f.mpr (fun h => by omega)) f_wn f_nt a_word a_reach a_beyond a_way a_bad a_part a_scopes a_inner a_tRule a_tFrom a_tTo kn hF
    · rw [((hA.2 hs).1 a hl).1]
      refine br_c (fun hr => ?_) (fun hr => ?_)
      · exact h1 (tx_is_i.mpr ⟨hs, hl, hr⟩) f_wn f_nt a_word a_reach a_beyond a_way a_bad a_part a_scopes a_inner a_tRule a_tFrom a_tTo kn hF
      · exact h0 (tx_is_f.mpr (fun h => hr h.2.2)) f_wn f_nt a_word a_reach a_beyond a_way a_bad a_part a_scopes a_inner a_tRule a_tFrom a_tTo kn hF
  · rw [he]
    refine br_t (nI_pos' (by omega)) ?_
    exact h0 (tx_is_f.mpr (fun h => hs h.1)) f_wn f_nt a_word a_reach a_beyond a_way a_bad a_part a_scopes a_inner a_tRule a_tFrom a_tTo kn hF
theorem yq_fd {post : Int32 → SY → Prop} {f nm : Nat} {sc : Int32} (hz : zz_ok G b T) (hb1 : b = 1) (hf : f < 4) (hnm : nm < 16) :
    ∀ d a c f_wn f_nt a_word a_reach a_beyond a_way a_bad a_part a_scopes a_inner a_tRule a_tFrom a_tTo kn, a + d = 20 → c ≤ a → yf G b T kz kn a_bad a_part a_scopes a_inner →
      (∀ (f_wn f_nt : Int32) (a_word a_reach a_beyond a_way a_bad a_part a_scopes a_inner a_tRule a_tFrom a_tTo : Nat → Int32) (kn : Nat → Nat), yf G b T kz kn a_bad a_part a_scopes a_inner → post (tx_fd G T f sc nm d a c) (nI (gg_np G), nI b, f_some, f_empty, f_wn, f_nt, nA (gg_ru G), nA (gg_sc G), nA (gg_ln G), nA (gg_sy G), gg_ro G, a_first, a_follow, nA (tx_kd T), nA (tx_va T), nA (tx_le T), a_word, a_reach, a_beyond, a_way, nA kn, a_bad, a_part, a_scopes, a_inner, a_tRule, a_tFrom, a_tTo, a_before)) → wY_firstIn_6 post (nI f) sc (nI nm) (d + 1) (nI c) (nI a) (nI (gg_np G)) (nI b) f_some f_empty f_wn f_nt (nA (gg_ru G)) (nA (gg_sc G)) (nA (gg_ln G)) (nA (gg_sy G)) (gg_ro G) a_first a_follow (nA (tx_kd T)) (nA (tx_va T)) (nA (tx_le T)) a_word a_reach a_beyond a_way (nA kn) a_bad a_part a_scopes a_inner a_tRule a_tFrom a_tTo a_before := by
  intro d
  induction d with
  | zero =>
    intro a c f_wn f_nt a_word a_reach a_beyond a_way a_bad a_part a_scopes a_inner a_tRule a_tFrom a_tTo kn ha hc hF hP
    have e : a = 20 := by omega
    subst e
    exact br_t (by decide) (hP f_wn f_nt a_word a_reach a_beyond a_way a_bad a_part a_scopes a_inner a_tRule a_tFrom a_tTo kn hF)
  | succ d ih =>
    intro a c f_wn f_nt a_word a_reach a_beyond a_way a_bad a_part a_scopes a_inner a_tRule a_tFrom a_tTo kn ha hc hF hP
    refine pk_le 20 a (fun h => absurd h (by omega)) (fun ha20 => ?_)
    refine yq_is (x := 1) hz hb1 hf ha20 hF ?_ ?_
    · intro hi f_wn f_nt a_word a_reach a_beyond a_way a_bad a_part a_scopes a_inner a_tRule a_tFrom a_tTo kn hF
      dsimp only
      refine br_t rfl (nm_r (nI_1 a) (ih (a + 1) c f_wn f_nt a_word a_reach a_beyond a_way a_bad a_part a_scopes a_inner a_tRule a_tFrom a_tTo kn (by omega) (by omega) (yf_w hF) ?_))
      have e : tx_fd G T f sc nm (d + 1) a c = tx_fd G T f sc nm d (a + 1) c := if_neg (by rw [hi]; decide)
      rw [e] at hP
      exact hP
    · intro hi f_wn f_nt a_word a_reach a_beyond a_way a_bad a_part a_scopes a_inner a_tRule a_tFrom a_tTo kn hF
      dsimp only
      have hA := hF.1.2.2 f hf (hF.2 f un_s)
      have hi2 := tx_is_i.mp hi
      have hAa := (hA.2 hi2.1).1 a hi2.2.1
      have e2 : (20 : Int32) * nI f + nI a = nI (20 * f + a) := by rw [show (20 : Int32) = nI 20 from rfl, pk_mul, nI_add]
      have hva := hz.2.2.2.2.1 (20 * f + a)
      have efd : tx_fd G T f sc nm (d + 1) a c = if tx_inn G T f a = sc ∧ tx_va T (20 * f + a) = nm then nI (32 * f + c) else tx_fd G T f sc nm d (a + 1) (c + 1) := if_pos hi
      rw [efd] at hP
      refine br_f (by decide) ?_
      rw [e2, nA_cl (show 20 * f + a < 2 ^ 31 by omega), nI_clamp (show 20 * f + a < 2 ^ 31 by omega), hAa.2]
      refine ⟨pk_in (20 * f + a) 80 (by omega), ?_⟩
      refine br_c (fun hin => ⟨pk_in (20 * f + a) 80 (by omega), ?_⟩) (fun hin => ?_)
      · refine pk_eq (tx_va T (20 * f + a)) nm (fun hv => ?_) (fun hv => ?_)
        · rw [if_pos ⟨hin, hv⟩] at hP
          have e3 : (32 : Int32) * nI f + nI c = nI (32 * f + c) := by rw [show (32 : Int32) = nI 32 from rfl, pk_mul, nI_add]
          rw [e3]
          exact hP f_wn f_nt a_word a_reach a_beyond a_way a_bad a_part a_scopes a_inner a_tRule a_tFrom a_tTo kn (yf_w hF)
        · rw [if_neg (fun h => hv h.2)] at hP
          exact nm_r (nI_1 c) (nm_r (nI_1 a) (ih (a + 1) (c + 1) f_wn f_nt a_word a_reach a_beyond a_way a_bad a_part a_scopes a_inner a_tRule a_tFrom a_tTo kn (by omega) (by omega) (yf_w hF) hP))
      · rw [if_neg (fun h => hin h.1)] at hP
        exact nm_r (nI_1 c) (nm_r (nI_1 a) (ih (a + 1) (c + 1) f_wn f_nt a_word a_reach a_beyond a_way a_bad a_part a_scopes a_inner a_tRule a_tFrom a_tTo kn (by omega) (by omega) (yf_w hF) hP))
theorem yq_fi {post : Int32 → SY → Prop} {f nm : Nat} {sc : Int32} (hz : zz_ok G b T) (hb1 : b = 1) (hf : f < 4) (hnm : nm < 16) (hF : yf G b T kz kn a_bad a_part a_scopes a_inner)
    (hP : ∀ (f_wn f_nt : Int32) (a_word a_reach a_beyond a_way a_bad a_part a_scopes a_inner a_tRule a_tFrom a_tTo : Nat → Int32) (kn : Nat → Nat), yf G b T kz kn a_bad a_part a_scopes a_inner → post (tx_fi G T f sc nm) (nI (gg_np G), nI b, f_some, f_empty, f_wn, f_nt, nA (gg_ru G), nA (gg_sc G), nA (gg_ln G), nA (gg_sy G), gg_ro G, a_first, a_follow, nA (tx_kd T), nA (tx_va T), nA (tx_le T), a_word, a_reach, a_beyond, a_way, nA kn, a_bad, a_part, a_scopes, a_inner, a_tRule, a_tFrom, a_tTo, a_before)) : wpY_firstIn post (nI (gg_np G), nI b, f_some, f_empty, f_wn, f_nt, nA (gg_ru G), nA (gg_sc G), nA (gg_ln G), nA (gg_sy G), gg_ro G, a_first, a_follow, nA (tx_kd T), nA (tx_va T), nA (tx_le T), a_word, a_reach, a_beyond, a_way, nA kn, a_bad, a_part, a_scopes, a_inner, a_tRule, a_tFrom, a_tTo, a_before) (nI f) sc (nI nm) :=
  ⟨21, yq_fd hz hb1 hf hnm 20 0 0 f_wn f_nt a_word a_reach a_beyond a_way a_bad a_part a_scopes a_inner a_tRule a_tFrom a_tTo kn (by omega) (by omega) hF hP⟩
/-- what firstIn can answer -/
theorem tx_fd_c {G : gg_T} {T : tx_T} {f nm : Nat} {sc : Int32} : ∀ d a c, tx_fd G T f sc nm d a c = -1 ∨ ∃ c', c ≤ c' ∧ c' < c + d ∧ tx_fd G T f sc nm d a c = nI (32 * f + c') := by
  intro d
  induction d with
  | zero => intro a c; exact Or.inl rfl
  | succ d ih =>
    intro a c
    by_cases hi : tx_is G T f a 1 = true
    · have efd : tx_fd G T f sc nm (d + 1) a c = if tx_inn G T f a = sc ∧ tx_va T (20 * f + a) = nm then nI (32 * f + c) else tx_fd G T f sc nm d (a + 1) (c + 1) := if_pos hi
      rw [efd]
      by_cases hx : tx_inn G T f a = sc ∧ tx_va T (20 * f + a) = nm
      · rw [if_pos hx]; exact Or.inr ⟨c, by omega, by omega, rfl⟩
      · rw [if_neg hx]
        rcases ih (a + 1) (c + 1) with h | ⟨c', h1, h2, h3⟩
        · exact Or.inl h
        · exact Or.inr ⟨c', by omega, by omega, h3⟩
    · have efd : tx_fd G T f sc nm (d + 1) a c = tx_fd G T f sc nm d (a + 1) c := if_neg hi
      rw [efd]
      rcases ih (a + 1) c with h | ⟨c', h1, h2, h3⟩
      · exact Or.inl h
      · exact Or.inr ⟨c', by omega, by omega, h3⟩
theorem tx_fi_c {G : gg_T} {T : tx_T} {f nm : Nat} {sc : Int32} : tx_fi G T f sc nm = -1 ∨ ∃ c', c' < 20 ∧ tx_fi G T f sc nm = nI (32 * f + c') := by
  rcases tx_fd_c (G := G) (T := T) (f := f) (nm := nm) (sc := sc) 20 0 0 with h | ⟨c', _, h2, h3⟩
  · exact Or.inl h
  · exact Or.inr ⟨c', by omega, h3⟩
theorem yq_89 {post : Int32 → SY → Prop} {f nm : Nat} (hz : zz_ok G b T) (hb1 : b = 1) (hf : f < 4) (hnm : nm < 16) :
    ∀ d i x4 f_wn f_nt a_word a_reach a_beyond a_way a_bad a_part a_scopes a_inner a_tRule a_tFrom a_tTo kn, i + d = 20 → yf G b T kz kn a_bad a_part a_scopes a_inner → (x4 = -1 ∨ 0 ≤ x4) →
      (∀ (f_wn f_nt : Int32) (a_word a_reach a_beyond a_way a_bad a_part a_scopes a_inner a_tRule a_tFrom a_tTo : Nat → Int32) (kn : Nat → Nat), yf G b T kz kn a_bad a_part a_scopes a_inner → post (if 0 ≤ x4 then x4 else tx_l3 G T f nm d i) (nI (gg_np G), nI b, f_some, f_empty, f_wn, f_nt, nA (gg_ru G), nA (gg_sc G), nA (gg_ln G), nA (gg_sy G), gg_ro G, a_first, a_follow, nA (tx_kd T), nA (tx_va T), nA (tx_le T), a_word, a_reach, a_beyond, a_way, nA kn, a_bad, a_part, a_scopes, a_inner, a_tRule, a_tFrom, a_tTo, a_before)) → wY_link_89 post (nI f) (nI nm) (d + 1) x4 (nI i) (nI (gg_np G)) (nI b) f_some f_empty f_wn f_nt (nA (gg_ru G)) (nA (gg_sc G)) (nA (gg_ln G)) (nA (gg_sy G)) (gg_ro G) a_first a_follow (nA (tx_kd T)) (nA (tx_va T)) (nA (tx_le T)) a_word a_reach a_beyond a_way (nA kn) a_bad a_part a_scopes a_inner a_tRule a_tFrom a_tTo a_before := by
  intro d
  induction d with
  | zero =>
    intro i x4 f_wn f_nt a_word a_reach a_beyond a_way a_bad a_part a_scopes a_inner a_tRule a_tFrom a_tTo kn hi hF hx hP
    have e : i = 20 := by omega
    subst e
    refine br_t (by decide) ?_
    have := hP f_wn f_nt a_word a_reach a_beyond a_way a_bad a_part a_scopes a_inner a_tRule a_tFrom a_tTo kn hF
    rcases hx with hx | hx
    · rw [if_neg (by rw [hx]; decide)] at this
      rw [hx]; exact this
    · rw [if_pos hx] at this; exact this
  | succ d ih =>
    intro i x4 f_wn f_nt a_word a_reach a_beyond a_way a_bad a_part a_scopes a_inner a_tRule a_tFrom a_tTo kn hi hF hx hP
    refine pk_le 20 i (fun h => absurd h (by omega)) (fun hi20 => ?_)
    rcases hx with hx | hx
    · subst hx
      refine br_f nn_m1 ?_
      rw [if_neg nn_m1] at hP
      refine yq_is (x := 3) hz hb1 hf hi20 hF ?_ ?_
      · intro hi3 f_wn f_nt a_word a_reach a_beyond a_way a_bad a_part a_scopes a_inner a_tRule a_tFrom a_tTo kn hF
        dsimp only
        have e : tx_l3 G T f nm (d + 1) i = tx_l3 G T f nm d (i + 1) := if_neg (by rw [hi3]; decide)
        rw [e] at hP
        exact br_t rfl (nm_r (nI_1 i) (ih (i + 1) (-1) f_wn f_nt a_word a_reach a_beyond a_way a_bad a_part a_scopes a_inner a_tRule a_tFrom a_tTo kn (by omega) (yf_w hF) (Or.inl rfl) (by rw [if_neg nn_m1]; exact hP)))
      · intro hi3 f_wn f_nt a_word a_reach a_beyond a_way a_bad a_part a_scopes a_inner a_tRule a_tFrom a_tTo kn hF
        dsimp only
        have e2 : (20 : Int32) * nI f + nI i = nI (20 * f + i) := by rw [show (20 : Int32) = nI 20 from rfl, pk_mul, nI_add]
        have hva := hz.2.2.2.2.1 (20 * f + i)
        have e3 : (nI (tx_va T (20 * f + i)) &&& 3 : Int32) = nI (tx_va T (20 * f + i) % 4) := pk_andN (by omega) 2 (by decide)
        refine br_f (by decide) ?_
        rw [e2, nA_cl (show 20 * f + i < 2 ^ 31 by omega), e3]
        refine ⟨pk_in (20 * f + i) 80 (by omega), ?_⟩
        refine yq_fi hz hb1 (by omega) hnm (yf_w hF) ?_
        intro f_wn f_nt a_word a_reach a_beyond a_way a_bad a_part a_scopes a_inner a_tRule a_tFrom a_tTo kn hF
        dsimp only
        have e : tx_l3 G T f nm (d + 1) i = if 0 ≤ tx_fi G T (tx_va T (20 * f + i) % 4) (-1) nm then tx_fi G T (tx_va T (20 * f + i) % 4) (-1) nm else tx_l3 G T f nm d (i + 1) := if_pos hi3
        rw [e] at hP
        refine nm_r (nI_1 i) (ih (i + 1) _ f_wn f_nt a_word a_reach a_beyond a_way a_bad a_part a_scopes a_inner a_tRule a_tFrom a_tTo kn (by omega) hF ?_ hP)
        rcases tx_fi_c (G := G) (T := T) (f := tx_va T (20 * f + i) % 4) (nm := nm) (sc := -1) with h | ⟨c, h1, h2⟩
        · exact Or.inl h
        · rw [h2]; exact Or.inr (nI_pos' (by omega))
    · refine br_t hx ?_
      have := hP f_wn f_nt a_word a_reach a_beyond a_way a_bad a_part a_scopes a_inner a_tRule a_tFrom a_tTo kn hF
      rw [if_pos hx] at this
      exact this
theorem yq_72 {post : Int32 → SY → Prop} {f nm : Nat} {x4 : Int32} (hz : zz_ok G b T) (hb1 : b = 1) (hf : f < 4) (hnm : nm < 16) (hF : yf G b T kz kn a_bad a_part a_scopes a_inner) (hx : x4 = -1 ∨ 0 ≤ x4)
    (hP : ∀ (f_wn f_nt : Int32) (a_word a_reach a_beyond a_way a_bad a_part a_scopes a_inner a_tRule a_tFrom a_tTo : Nat → Int32) (kn : Nat → Nat), yf G b T kz kn a_bad a_part a_scopes a_inner → post (if 0 ≤ x4 then x4 else tx_l2 G T f nm) (nI (gg_np G), nI b, f_some, f_empty, f_wn, f_nt, nA (gg_ru G), nA (gg_sc G), nA (gg_ln G), nA (gg_sy G), gg_ro G, a_first, a_follow, nA (tx_kd T), nA (tx_va T), nA (tx_le T), a_word, a_reach, a_beyond, a_way, nA kn, a_bad, a_part, a_scopes, a_inner, a_tRule, a_tFrom, a_tTo, a_before)) : wY_link_72 post (nI f) (nI nm) x4 (nI (gg_np G)) (nI b) f_some f_empty f_wn f_nt (nA (gg_ru G)) (nA (gg_sc G)) (nA (gg_ln G)) (nA (gg_sy G)) (gg_ro G) a_first a_follow (nA (tx_kd T)) (nA (tx_va T)) (nA (tx_le T)) a_word a_reach a_beyond a_way (nA kn) a_bad a_part a_scopes a_inner a_tRule a_tFrom a_tTo a_before := by
  rcases hx with hx | hx
  · subst hx
    refine br_f nn_m1 ?_
    rw [if_neg nn_m1] at hP
    refine yq_fi hz hb1 hf hnm hF ?_
    intro f_wn f_nt a_word a_reach a_beyond a_way a_bad a_part a_scopes a_inner a_tRule a_tFrom a_tTo kn hF
    dsimp only
    refine ⟨21, yq_89 hz hb1 hf hnm 20 0 _ f_wn f_nt a_word a_reach a_beyond a_way a_bad a_part a_scopes a_inner a_tRule a_tFrom a_tTo kn (by omega) hF ?_ hP⟩
    rcases tx_fi_c (G := G) (T := T) (f := f) (nm := nm) (sc := -1) with h | ⟨c, h1, h2⟩
    · exact Or.inl h
    · rw [h2]; exact Or.inr (nI_pos' (by omega))
  · refine br_t hx ⟨21, yq_89 hz hb1 hf hnm 20 0 _ f_wn f_nt a_word a_reach a_beyond a_way a_bad a_part a_scopes a_inner a_tRule a_tFrom a_tTo kn (by omega) hF (Or.inr hx) ?_⟩
    intro f_wn f_nt a_word a_reach a_beyond a_way a_bad a_part a_scopes a_inner a_tRule a_tFrom a_tTo kn hF
    have := hP f_wn f_nt a_word a_reach a_beyond a_way a_bad a_part a_scopes a_inner a_tRule a_tFrom a_tTo kn hF
    rw [if_pos hx] at this ⊢
    exact this
theorem yq_18 {post : Int32 → SY → Prop} {f a nm : Nat} (hz : zz_ok G b T) (hb1 : b = 1) (hf : f < 4) (ha : a < 20) (hnm : nm < 16) (hs : tx_sen G T f) (hkf : kz f = 1) :
    ∀ d z x4 f_wn f_nt a_word a_reach a_beyond a_way a_bad a_part a_scopes a_inner a_tRule a_tFrom a_tTo kn, z + d = 21 → 1 ≤ z → yf G b T kz kn a_bad a_part a_scopes a_inner → (x4 = -1 ∨ 0 ≤ x4) →
      (∀ (f_wn f_nt : Int32) (a_word a_reach a_beyond a_way a_bad a_part a_scopes a_inner a_tRule a_tFrom a_tTo : Nat → Int32) (kn : Nat → Nat), yf G b T kz kn a_bad a_part a_scopes a_inner → post (if 0 ≤ x4 then x4 else if 0 ≤ tx_l1 G T f a nm d z then tx_l1 G T f a nm d z else tx_l2 G T f nm) (nI (gg_np G), nI b, f_some, f_empty, f_wn, f_nt, nA (gg_ru G), nA (gg_sc G), nA (gg_ln G), nA (gg_sy G), gg_ro G, a_first, a_follow, nA (tx_kd T), nA (tx_va T), nA (tx_le T), a_word, a_reach, a_beyond, a_way, nA kn, a_bad, a_part, a_scopes, a_inner, a_tRule, a_tFrom, a_tTo, a_before)) → wY_link_18 post (nI f) (nI a) (nI nm) (d + 1) x4 (nI z) (nI (gg_np G)) (nI b) f_some f_empty f_wn f_nt (nA (gg_ru G)) (nA (gg_sc G)) (nA (gg_ln G)) (nA (gg_sy G)) (gg_ro G) a_first a_follow (nA (tx_kd T)) (nA (tx_va T)) (nA (tx_le T)) a_word a_reach a_beyond a_way (nA kn) a_bad a_part a_scopes a_inner a_tRule a_tFrom a_tTo a_before := by
  intro d
  induction d with
  | zero =>
    intro z x4 f_wn f_nt a_word a_reach a_beyond a_way a_bad a_part a_scopes a_inner a_tRule a_tFrom a_tTo kn hi hz1 hF hx hP
    have e : z = 21 := by omega
    subst e
    refine br_t (by decide) (yq_72 hz hb1 hf hnm hF hx ?_)
    exact hP
  | succ d ih =>
    intro z x4 f_wn f_nt a_word a_reach a_beyond a_way a_bad a_part a_scopes a_inner a_tRule a_tFrom a_tTo kn hi hz1 hF hx hP
    refine pk_lt 20 z (fun h => absurd h (by omega)) (fun hz20 => ?_)
    rcases hx with hx | hx
    · subst hx
      refine br_f nn_m1 ?_
      rw [if_neg nn_m1] at hP
      have hA := hF.1.2.2 f hf (hF.2 f hkf)
      refine yu_around (tok := tx_tok T f) (n := tx_le T f) hf ha hz1 hz20 tx_tokn (hz.2.2.2.2.2.1 f) (hA.2 hs).2 ?_
      have ear : tx_fr (fun i => pl_si G (tx_tok T f) i (i + z)) (a + 1 - (a + 1 - z)) (a + 1 - z) = tx_ar G T f a z := rfl
      rw [ear]
      have el : tx_l1 G T f a nm (d + 1) z = match tx_ar G T f a z with
        | none => tx_l1 G T f a nm d (z + 1)
        | some i => if 0 ≤ tx_fi G T f (nI (tx_cd i z)) nm then tx_fi G T f (nI (tx_cd i z)) nm else tx_l1 G T f a nm d (z + 1) := rfl
      cases har : tx_ar G T f a z with
      | none =>
        rw [har] at el
        rw [el] at hP
        exact br_t (show yu_o none < 0 by decide) (nm_r (nI_1 z) (ih (z + 1) (-1) f_wn f_nt a_word a_reach a_beyond a_way a_bad a_part a_scopes a_inner a_tRule a_tFrom a_tTo kn (by omega) (by omega) hF (Or.inl rfl) (by rw [if_neg nn_m1]; exact hP)))
      | some i =>
        rw [har] at el
        have hin := tx_fr_in _ _ _ har
        have e3 : (32 : Int32) * yu_o (some i) + yu_o (some i) + nI z - 1 = nI (tx_cd i z) := by
          show (nI 32 * nI i + nI i + nI z) - nI 1 = _
          rw [pk_mul, nI_add, nI_add, pk_sub (by omega)]
          rfl
        refine br_f (nI_pos (n := i) (by omega)) ?_
        rw [e3]
        refine yq_fi hz hb1 hf hnm hF ?_
        intro f_wn f_nt a_word a_reach a_beyond a_way a_bad a_part a_scopes a_inner a_tRule a_tFrom a_tTo kn hF
        dsimp only
        refine nm_r (nI_1 z) (ih (z + 1) _ f_wn f_nt a_word a_reach a_beyond a_way a_bad a_part a_scopes a_inner a_tRule a_tFrom a_tTo kn (by omega) (by omega) hF ?_ ?_)
        · rcases tx_fi_c (G := G) (T := T) (f := f) (nm := nm) (sc := nI (tx_cd i z)) with h | ⟨c, h1, h2⟩
          · exact Or.inl h
          · rw [h2]; exact Or.inr (nI_pos' (by omega))
        · intro f_wn f_nt a_word a_reach a_beyond a_way a_bad a_part a_scopes a_inner a_tRule a_tFrom a_tTo kn hF
          have h := hP f_wn f_nt a_word a_reach a_beyond a_way a_bad a_part a_scopes a_inner a_tRule a_tFrom a_tTo kn hF
          rw [el] at h
          by_cases hx : 0 ≤ tx_fi G T f (nI (tx_cd i z)) nm
          · simp only [if_pos hx] at h ⊢
            exact h
          · simp only [if_neg hx] at h ⊢
            exact h
    · refine br_t hx (yq_72 hz hb1 hf hnm hF (Or.inr hx) ?_)
      intro f_wn f_nt a_word a_reach a_beyond a_way a_bad a_part a_scopes a_inner a_tRule a_tFrom a_tTo kn hF
      have := hP f_wn f_nt a_word a_reach a_beyond a_way a_bad a_part a_scopes a_inner a_tRule a_tFrom a_tTo kn hF
      rw [if_pos hx] at this ⊢
      exact this
theorem yq_link {post : Int32 → SY → Prop} {f a : Nat} (hz : zz_ok G b T) (hb1 : b = 1) (hf : f < 4) (ha : a < 20) (hs : tx_sen G T f) (hkf : kz f = 1) (hF : yf G b T kz kn a_bad a_part a_scopes a_inner)
    (hP : ∀ (f_wn f_nt : Int32) (a_word a_reach a_beyond a_way a_bad a_part a_scopes a_inner a_tRule a_tFrom a_tTo : Nat → Int32) (kn : Nat → Nat), yf G b T kz kn a_bad a_part a_scopes a_inner → post (tx_lk G T f a) (nI (gg_np G), nI b, f_some, f_empty, f_wn, f_nt, nA (gg_ru G), nA (gg_sc G), nA (gg_ln G), nA (gg_sy G), gg_ro G, a_first, a_follow, nA (tx_kd T), nA (tx_va T), nA (tx_le T), a_word, a_reach, a_beyond, a_way, nA kn, a_bad, a_part, a_scopes, a_inner, a_tRule, a_tFrom, a_tTo, a_before)) : wpY_link post (nI (gg_np G), nI b, f_some, f_empty, f_wn, f_nt, nA (gg_ru G), nA (gg_sc G), nA (gg_ln G), nA (gg_sy G), gg_ro G, a_first, a_follow, nA (tx_kd T), nA (tx_va T), nA (tx_le T), a_word, a_reach, a_beyond, a_way, nA kn, a_bad, a_part, a_scopes, a_inner, a_tRule, a_tFrom, a_tTo, a_before) (nI f) (nI a) := by
  have e2 : (20 : Int32) * nI f + nI a = nI (20 * f + a) := by rw [show (20 : Int32) = nI 20 from rfl, pk_mul, nI_add]
  unfold wpY_link
  dsimp only
  rw [e2, nA_cl (show 20 * f + a < 2 ^ 31 by omega)]
  refine ⟨pk_in (20 * f + a) 80 (by omega), nm_e ⟨21, yq_18 hz hb1 hf ha (hz.2.2.2.2.1 _) hs hkf 20 1 (-1) f_wn f_nt a_word a_reach a_beyond a_way a_bad a_part a_scopes a_inner a_tRule a_tFrom a_tTo kn (by omega) (by omega) hF (Or.inl rfl) ?_⟩⟩
  rw [if_neg nn_m1]
  exact hP
end YQ
end
section
/-! the reference's public queries -/
noncomputable def tx_pr (G : gg_T) (T : tx_T) (f x a d : Nat) : List Nat := (List.range' a d).filter (fun a => tx_is G T f a x)
theorem tx_pr_ps {G : gg_T} {T : tx_T} {f x : Nat} : tx_pr G T f x 0 20 = tx_ps G T f x := by
  unfold tx_pr tx_ps
  rw [List.range_eq_range']
theorem tx_pr_t {G : gg_T} {T : tx_T} {f x a d : Nat} (h : tx_is G T f a x = true) : tx_pr G T f x a (d + 1) = a :: tx_pr G T f x (a + 1) d := by
  unfold tx_pr
  rw [List.range'_succ, List.filter_cons_of_pos (p := fun a => tx_is G T f a x) h]
theorem tx_pr_f {G : gg_T} {T : tx_T} {f x a d : Nat} (h : tx_is G T f a x = false) : tx_pr G T f x a (d + 1) = tx_pr G T f x (a + 1) d := by
  unfold tx_pr
  rw [List.range'_succ, List.filter_cons_of_neg (by rw [h]; decide)]
theorem tx_pr_l {G : gg_T} {T : tx_T} {f x a d : Nat} : (tx_pr G T f x a d).length ≤ d := by
  have := List.length_filter_le (fun a => tx_is G T f a x) (List.range' a d)
  rw [List.length_range'] at this
  exact this
theorem tx_pr_m {G : gg_T} {T : tx_T} {f x a d q : Nat} (h : q ∈ tx_pr G T f x a d) : a ≤ q ∧ q < a + d ∧ tx_is G T f q x = true := by
  unfold tx_pr at h
  have := List.mem_filter.mp h
  have h2 := List.mem_range'_1.mp this.1
  exact ⟨h2.1, h2.2, this.2⟩
/-- what may be first behind the first n kinds -/
def tx_w0 (T : tx_T) (f n : Nat) : Nat → Nat := fun j => if j < n then tx_kd T (20 * f + j) else 10
def tx_wt (T : tx_T) (f n t : Nat) : Nat → Nat := fun j => if j < n then tx_kd T (20 * f + j) else if j = n then t else 10
def tx_xp (G : gg_T) (T : tx_T) (f n t : Nat) : Prop := (t < 10 ∧ dd_V G (tx_wt T f n t) (n + 1) [10] 0) ∨ (t = 10 ∧ dd_E G (tx_w0 T f n) [10] 0 n)
section YQ2
variable {G : gg_T} {b : Nat} {T : tx_T} {f_some f_empty f_wn f_nt : Int32} {a_first a_follow a_word a_reach a_beyond a_way a_bad a_part a_scopes a_inner a_tRule a_tFrom a_tTo a_before : Nat → Int32} {kn : Nat → Nat} {kz : Nat → Nat}
theorem yq_nf {post : Int32 → Prop} {v : SY} {x : Int32} (h : x < 0 ∨ nI 4 ≤ x) (hp : post 0) : wpY_isFile post v x := by
  rcases h with h | h
  · exact br_t h hp
  · by_cases h0 : x < 0
    · exact br_t h0 hp
    · exact br_f h0 (br_t h hp)
theorem yq_f {post : Int32 → Prop} {v : SY} {f : Nat} (hf : f < 4) (hp : post 1) : wpY_isFile post v (nI f) :=
  br_f (nI_pos (by omega)) (br_f (nI_ge (b := 4) hf (by omega)) hp)
theorem yq_error {post : Int32 → SY → Prop} {f : Nat} (hz : zz_ok G b T) (hb1 : b = 1) (hf : f < 4) (hF : yf G b T kz kn a_bad a_part a_scopes a_inner)
    (hP : ∀ (f_wn f_nt : Int32) (a_word a_reach a_beyond a_way a_bad a_part a_scopes a_inner a_tRule a_tFrom a_tTo : Nat → Int32) (kn : Nat → Nat), yf G b T kz kn a_bad a_part a_scopes a_inner → post (tx_err G T f) (nI (gg_np G), nI b, f_some, f_empty, f_wn, f_nt, nA (gg_ru G), nA (gg_sc G), nA (gg_ln G), nA (gg_sy G), gg_ro G, a_first, a_follow, nA (tx_kd T), nA (tx_va T), nA (tx_le T), a_word, a_reach, a_beyond, a_way, nA kn, a_bad, a_part, a_scopes, a_inner, a_tRule, a_tFrom, a_tTo, a_before)) : wpY_errorAt post (nI (gg_np G), nI b, f_some, f_empty, f_wn, f_nt, nA (gg_ru G), nA (gg_sc G), nA (gg_ln G), nA (gg_sy G), gg_ro G, a_first, a_follow, nA (tx_kd T), nA (tx_va T), nA (tx_le T), a_word, a_reach, a_beyond, a_way, nA kn, a_bad, a_part, a_scopes, a_inner, a_tRule, a_tFrom, a_tTo, a_before) (nI f) := by
  subst hb1
  refine br_f (by decide) (yq_f hf (br_f (by decide) ?_))
  refine yk_know hz rfl hf hF.1 hF.2 ?_
  intro f_wn f_nt a_word a_reach a_beyond a_way a_bad a_part a_scopes a_inner a_tRule a_tFrom a_tTo kn hF
  dsimp only
  have hA := hF.1.2.2 f hf (hF.2 f un_s)
  rw [nI_clamp (show f < 2 ^ 31 by omega), hA.1]
  exact ⟨pk_in f 4 hf, hP f_wn f_nt a_word a_reach a_beyond a_way a_bad a_part a_scopes a_inner a_tRule a_tFrom a_tTo kn (yf_w hF)⟩
theorem yq_scope {post : Int32 → SY → Prop} {f a : Nat} (hz : zz_ok G b T) (hb1 : b = 1) (hf : f < 4) (ha : a < tx_le T f) (hF : yf G b T kz kn a_bad a_part a_scopes a_inner)
    (hP1 : tx_sen G T f → ∀ (f_wn f_nt : Int32) (a_word a_reach a_beyond a_way a_bad a_part a_scopes a_inner a_tRule a_tFrom a_tTo : Nat → Int32) (kn : Nat → Nat), yf G b T kz kn a_bad a_part a_scopes a_inner → post (tx_inn G T f a) (nI (gg_np G), nI b, f_some, f_empty, f_wn, f_nt, nA (gg_ru G), nA (gg_sc G), nA (gg_ln G), nA (gg_sy G), gg_ro G, a_first, a_follow, nA (tx_kd T), nA (tx_va T), nA (tx_le T), a_word, a_reach, a_beyond, a_way, nA kn, a_bad, a_part, a_scopes, a_inner, a_tRule, a_tFrom, a_tTo, a_before))
    (hP0 : ¬ tx_sen G T f → ∀ (f_wn f_nt : Int32) (a_word a_reach a_beyond a_way a_bad a_part a_scopes a_inner a_tRule a_tFrom a_tTo : Nat → Int32) (kn : Nat → Nat), yf G b T kz kn a_bad a_part a_scopes a_inner → post (-2) (nI (gg_np G), nI b, f_some, f_empty, f_wn, f_nt, nA (gg_ru G), nA (gg_sc G), nA (gg_ln G), nA (gg_sy G), gg_ro G, a_first, a_follow, nA (tx_kd T), nA (tx_va T), nA (tx_le T), a_word, a_reach, a_beyond, a_way, nA kn, a_bad, a_part, a_scopes, a_inner, a_tRule, a_tFrom, a_tTo, a_before)) : wpY_scope post (nI (gg_np G), nI b, f_some, f_empty, f_wn, f_nt, nA (gg_ru G), nA (gg_sc G), nA (gg_ln G), nA (gg_sy G), gg_ro G, a_first, a_follow, nA (tx_kd T), nA (tx_va T), nA (tx_le T), a_word, a_reach, a_beyond, a_way, nA kn, a_bad, a_part, a_scopes, a_inner, a_tRule, a_tFrom, a_tTo, a_before) (nI f) (nI a) := by
  have h20 := hz.2.2.2.2.2.1 f
  unfold wpY_scope
  dsimp only
  refine yq_f hf ?_
  refine br_f (by decide) ?_
  have e2 : (20 : Int32) * nI f + nI a = nI (20 * f + a) := by rw [show (20 : Int32) = nI 20 from rfl, pk_mul, nI_add]
  rw [nA_cl (show f < 2 ^ 31 by omega)]
  refine br_f (nI_pos (by omega)) ⟨pk_in f 4 hf, pk_lt a (tx_le T f) (fun _ => ?_) (fun h => absurd h (by omega))⟩
  refine yk_know hz hb1 hf hF.1 hF.2 ?_
  intro f_wn f_nt a_word a_reach a_beyond a_way a_bad a_part a_scopes a_inner a_tRule a_tFrom a_tTo kn hF
  dsimp only
  have hA := hF.1.2.2 f hf (hF.2 f un_s)
  rw [nI_clamp (show f < 2 ^ 31 by omega), hA.1, e2, nI_clamp (show 20 * f + a < 2 ^ 31 by omega)]
  refine ⟨pk_in f 4 hf, ?_⟩
  rcases tx_err_c hz hb1 f with ⟨hs, he⟩ | ⟨hs, q, hq, _, he⟩
  · rw [he, ((hA.2 hs).1 a ha).2]
    exact br_f nn_m1 ⟨pk_in (20 * f + a) 80 (by omega), hP1 hs f_wn f_nt a_word a_reach a_beyond a_way a_bad a_part a_scopes a_inner a_tRule a_tFrom a_tTo kn (yf_w hF)⟩
  · rw [he]
    exact br_t (nI_pos' (by omega)) (hP0 hs f_wn f_nt a_word a_reach a_beyond a_way a_bad a_part a_scopes a_inner a_tRule a_tFrom a_tTo kn (yf_w hF))
theorem yq_20 {post : Int32 → SY → Prop} {f x : Nat} (hz : zz_ok G b T) (hb1 : b = 1) (hf : f < 4) :
    ∀ d a c f_wn f_nt a_word a_reach a_beyond a_way a_bad a_part a_scopes a_inner a_tRule a_tFrom a_tTo kn, a + d = 20 → yf G b T kz kn a_bad a_part a_scopes a_inner →
      (∀ (f_wn f_nt : Int32) (a_word a_reach a_beyond a_way a_bad a_part a_scopes a_inner a_tRule a_tFrom a_tTo : Nat → Int32) (kn : Nat → Nat), yf G b T kz kn a_bad a_part a_scopes a_inner → post (nI (c + (tx_pr G T f x a d).length)) (nI (gg_np G), nI b, f_some, f_empty, f_wn, f_nt, nA (gg_ru G), nA (gg_sc G), nA (gg_ln G), nA (gg_sy G), gg_ro G, a_first, a_follow, nA (tx_kd T), nA (tx_va T), nA (tx_le T), a_word, a_reach, a_beyond, a_way, nA kn, a_bad, a_part, a_scopes, a_inner, a_tRule, a_tFrom, a_tTo, a_before)) → wY_count_20 post (nI f) (nI x) (d + 1) (nI c) (nI a) (nI (gg_np G)) (nI b) f_some f_empty f_wn f_nt (nA (gg_ru G)) (nA (gg_sc G)) (nA (gg_ln G)) (nA (gg_sy G)) (gg_ro G) a_first a_follow (nA (tx_kd T)) (nA (tx_va T)) (nA (tx_le T)) a_word a_reach a_beyond a_way (nA kn) a_bad a_part a_scopes a_inner a_tRule a_tFrom a_tTo a_before := by
  intro d
  induction d with
  | zero =>
    intro a c f_wn f_nt a_word a_reach a_beyond a_way a_bad a_part a_scopes a_inner a_tRule a_tFrom a_tTo kn ha hF hP
    have e : a = 20 := by omega
    subst e
    exact br_t (by decide) (hP f_wn f_nt a_word a_reach a_beyond a_way a_bad a_part a_scopes a_inner a_tRule a_tFrom a_tTo kn hF)
  | succ d ih =>
    intro a c f_wn f_nt a_word a_reach a_beyond a_way a_bad a_part a_scopes a_inner a_tRule a_tFrom a_tTo kn ha hF hP
    refine pk_le 20 a (fun h => absurd h (by omega)) (fun ha20 => ?_)
    refine yq_is (x := x) hz hb1 hf ha20 hF ?_ ?_
    · intro hi f_wn f_nt a_word a_reach a_beyond a_way a_bad a_part a_scopes a_inner a_tRule a_tFrom a_tTo kn hF
      dsimp only
      rw [tx_pr_f hi] at hP
      exact br_t rfl (nm_r (nI_1 a) (ih (a + 1) c f_wn f_nt a_word a_reach a_beyond a_way a_bad a_part a_scopes a_inner a_tRule a_tFrom a_tTo kn (by omega) (yf_w hF) hP))
    · intro hi f_wn f_nt a_word a_reach a_beyond a_way a_bad a_part a_scopes a_inner a_tRule a_tFrom a_tTo kn hF
      dsimp only
      rw [tx_pr_t hi] at hP
      refine br_f (by decide) (nm_r (nI_1 c) (nm_r (nI_1 a) (ih (a + 1) (c + 1) f_wn f_nt a_word a_reach a_beyond a_way a_bad a_part a_scopes a_inner a_tRule a_tFrom a_tTo kn (by omega) (yf_w hF) ?_)))
      rw [show c + 1 + (tx_pr G T f x (a + 1) d).length = c + (a :: tx_pr G T f x (a + 1) d).length by rw [List.length_cons]; omega]
      exact hP
theorem yq_count {post : Int32 → SY → Prop} {f x : Nat} (hz : zz_ok G b T) (hb1 : b = 1) (hf : f < 4) (hF : yf G b T kz kn a_bad a_part a_scopes a_inner)
    (hP : ∀ (f_wn f_nt : Int32) (a_word a_reach a_beyond a_way a_bad a_part a_scopes a_inner a_tRule a_tFrom a_tTo : Nat → Int32) (kn : Nat → Nat), yf G b T kz kn a_bad a_part a_scopes a_inner → post (nI (tx_ps G T f x).length) (nI (gg_np G), nI b, f_some, f_empty, f_wn, f_nt, nA (gg_ru G), nA (gg_sc G), nA (gg_ln G), nA (gg_sy G), gg_ro G, a_first, a_follow, nA (tx_kd T), nA (tx_va T), nA (tx_le T), a_word, a_reach, a_beyond, a_way, nA kn, a_bad, a_part, a_scopes, a_inner, a_tRule, a_tFrom, a_tTo, a_before)) : wpY_count post (nI (gg_np G), nI b, f_some, f_empty, f_wn, f_nt, nA (gg_ru G), nA (gg_sc G), nA (gg_ln G), nA (gg_sy G), gg_ro G, a_first, a_follow, nA (tx_kd T), nA (tx_va T), nA (tx_le T), a_word, a_reach, a_beyond, a_way, nA kn, a_bad, a_part, a_scopes, a_inner, a_tRule, a_tFrom, a_tTo, a_before) (nI f) (nI x) := by
  subst hb1
  refine br_f (by decide) (yq_f hf (br_f (by decide) ⟨21, yq_20 hz rfl hf 20 0 0 f_wn f_nt a_word a_reach a_beyond a_way a_bad a_part a_scopes a_inner a_tRule a_tFrom a_tTo kn (by omega) hF ?_⟩))
  rw [tx_pr_ps, Nat.zero_add]
  exact hP
theorem yq_pl6 {post : Int32 → SY → Prop} {f x j : Nat} (hz : zz_ok G b T) (hb1 : b = 1) (hf : f < 4) (hj : j < 2 ^ 31) :
    ∀ d a l f_wn f_nt a_word a_reach a_beyond a_way a_bad a_part a_scopes a_inner a_tRule a_tFrom a_tTo kn, a + d = 20 → l < 2 ^ 31 → yf G b T kz kn a_bad a_part a_scopes a_inner →
      (∀ (f_wn f_nt : Int32) (a_word a_reach a_beyond a_way a_bad a_part a_scopes a_inner a_tRule a_tFrom a_tTo : Nat → Int32) (kn : Nat → Nat), yf G b T kz kn a_bad a_part a_scopes a_inner → ((tx_pr G T f x a d)[l]? ≠ none → kn f = 1) → post (yu_o (tx_pr G T f x a d)[l]?) (nI (gg_np G), nI b, f_some, f_empty, f_wn, f_nt, nA (gg_ru G), nA (gg_sc G), nA (gg_ln G), nA (gg_sy G), gg_ro G, a_first, a_follow, nA (tx_kd T), nA (tx_va T), nA (tx_le T), a_word, a_reach, a_beyond, a_way, nA kn, a_bad, a_part, a_scopes, a_inner, a_tRule, a_tFrom, a_tTo, a_before)) → wY_placeOf_6 post (nI f) (nI x) (nI j) (d + 1) (nI l) (nI a) (nI (gg_np G)) (nI b) f_some f_empty f_wn f_nt (nA (gg_ru G)) (nA (gg_sc G)) (nA (gg_ln G)) (nA (gg_sy G)) (gg_ro G) a_first a_follow (nA (tx_kd T)) (nA (tx_va T)) (nA (tx_le T)) a_word a_reach a_beyond a_way (nA kn) a_bad a_part a_scopes a_inner a_tRule a_tFrom a_tTo a_before := by
  intro d
  induction d with
  | zero =>
    intro a l f_wn f_nt a_word a_reach a_beyond a_way a_bad a_part a_scopes a_inner a_tRule a_tFrom a_tTo kn ha hl hF hP
    have e : a = 20 := by omega
    subst e
    exact br_t (by decide) (hP f_wn f_nt a_word a_reach a_beyond a_way a_bad a_part a_scopes a_inner a_tRule a_tFrom a_tTo kn hF (fun h => absurd rfl h))
  | succ d ih =>
    intro a l f_wn f_nt a_word a_reach a_beyond a_way a_bad a_part a_scopes a_inner a_tRule a_tFrom a_tTo kn ha hl hF hP
    refine pk_le 20 a (fun h => absurd h (by omega)) (fun ha20 => ?_)
    refine br_f (nI_pos hj) ?_
    refine yq_is (x := x) hz hb1 hf ha20 hF ?_ ?_
    · intro hi f_wn f_nt a_word a_reach a_beyond a_way a_bad a_part a_scopes a_inner a_tRule a_tFrom a_tTo kn hF
      dsimp only
      rw [tx_pr_f hi] at hP
      exact br_t rfl (nm_r (nI_1 a) (ih (a + 1) l f_wn f_nt a_word a_reach a_beyond a_way a_bad a_part a_scopes a_inner a_tRule a_tFrom a_tTo kn (by omega) hl (yf_w hF) hP))
    · intro hi f_wn f_nt a_word a_reach a_beyond a_way a_bad a_part a_scopes a_inner a_tRule a_tFrom a_tTo kn hF
      dsimp only
      rw [tx_pr_t hi] at hP
      refine br_f (by decide) ?_
      cases l with
      | zero => exact nm_e (br_t rfl (hP f_wn f_nt a_word a_reach a_beyond a_way a_bad a_part a_scopes a_inner a_tRule a_tFrom a_tTo kn (yf_w hF) (fun _ => hF.2 f un_s)))
      | succ l =>
        refine nm_r (pk_m1 l) (br_f (nI_ne0 (by omega) hl) (nm_r (nI_1 a) (ih (a + 1) l f_wn f_nt a_word a_reach a_beyond a_way a_bad a_part a_scopes a_inner a_tRule a_tFrom a_tTo kn (by omega) (by omega) (yf_w hF) hP)))
theorem yq_place {post : Int32 → SY → Prop} {f x j : Nat} (hz : zz_ok G b T) (hb1 : b = 1) (hf : f < 4) (hj : j < 2 ^ 31) (hF : yf G b T kz kn a_bad a_part a_scopes a_inner)
    (hP : ∀ (f_wn f_nt : Int32) (a_word a_reach a_beyond a_way a_bad a_part a_scopes a_inner a_tRule a_tFrom a_tTo : Nat → Int32) (kn : Nat → Nat), yf G b T kz kn a_bad a_part a_scopes a_inner → ((tx_ps G T f x)[j]? ≠ none → kn f = 1) → post (yu_o (tx_ps G T f x)[j]?) (nI (gg_np G), nI b, f_some, f_empty, f_wn, f_nt, nA (gg_ru G), nA (gg_sc G), nA (gg_ln G), nA (gg_sy G), gg_ro G, a_first, a_follow, nA (tx_kd T), nA (tx_va T), nA (tx_le T), a_word, a_reach, a_beyond, a_way, nA kn, a_bad, a_part, a_scopes, a_inner, a_tRule, a_tFrom, a_tTo, a_before)) : wpY_placeOf post (nI (gg_np G), nI b, f_some, f_empty, f_wn, f_nt, nA (gg_ru G), nA (gg_sc G), nA (gg_ln G), nA (gg_sy G), gg_ro G, a_first, a_follow, nA (tx_kd T), nA (tx_va T), nA (tx_le T), a_word, a_reach, a_beyond, a_way, nA kn, a_bad, a_part, a_scopes, a_inner, a_tRule, a_tFrom, a_tTo, a_before) (nI f) (nI x) (nI j) := by
  refine ⟨21, yq_pl6 hz hb1 hf hj 20 0 j f_wn f_nt a_word a_reach a_beyond a_way a_bad a_part a_scopes a_inner a_tRule a_tFrom a_tTo kn (by omega) hj hF ?_⟩
  rw [tx_pr_ps]
  exact hP
theorem yq_placeN {post : Int32 → SY → Prop} {f x : Nat} {k : Int32} (hk : k < 0) (hP : post (-1) (nI (gg_np G), nI b, f_some, f_empty, f_wn, f_nt, nA (gg_ru G), nA (gg_sc G), nA (gg_ln G), nA (gg_sy G), gg_ro G, a_first, a_follow, nA (tx_kd T), nA (tx_va T), nA (tx_le T), a_word, a_reach, a_beyond, a_way, nA kn, a_bad, a_part, a_scopes, a_inner, a_tRule, a_tFrom, a_tTo, a_before)) : wpY_placeOf post (nI (gg_np G), nI b, f_some, f_empty, f_wn, f_nt, nA (gg_ru G), nA (gg_sc G), nA (gg_ln G), nA (gg_sy G), gg_ro G, a_first, a_follow, nA (tx_kd T), nA (tx_va T), nA (tx_le T), a_word, a_reach, a_beyond, a_way, nA kn, a_bad, a_part, a_scopes, a_inner, a_tRule, a_tFrom, a_tTo, a_before) (nI f) (nI x) k :=
  ⟨1, br_f (by decide) (br_t hk hP)⟩
/-- the place of number j among those of role x -/
theorem tx_ps_m {G : gg_T} {T : tx_T} {f x j a : Nat} (h : (tx_ps G T f x)[j]? = some a) : a < 20 ∧ tx_is G T f a x = true := by
  rw [← tx_pr_ps] at h
  have := tx_pr_m (List.mem_of_getElem? h)
  exact ⟨by omega, this.2.2⟩
theorem yq_target {post : Int32 → SY → Prop} {f j : Nat} (hz : zz_ok G b T) (hb1 : b = 1) (hf : f < 4) (hj : j < 2 ^ 31) (hF : yf G b T kz kn a_bad a_part a_scopes a_inner)
    (hP0 : (tx_ps G T f 2)[j]? = none → ∀ (f_wn f_nt : Int32) (a_word a_reach a_beyond a_way a_bad a_part a_scopes a_inner a_tRule a_tFrom a_tTo : Nat → Int32) (kn : Nat → Nat), yf G b T kz kn a_bad a_part a_scopes a_inner → post (-2) (nI (gg_np G), nI b, f_some, f_empty, f_wn, f_nt, nA (gg_ru G), nA (gg_sc G), nA (gg_ln G), nA (gg_sy G), gg_ro G, a_first, a_follow, nA (tx_kd T), nA (tx_va T), nA (tx_le T), a_word, a_reach, a_beyond, a_way, nA kn, a_bad, a_part, a_scopes, a_inner, a_tRule, a_tFrom, a_tTo, a_before))
    (hP1 : ∀ a, (tx_ps G T f 2)[j]? = some a → ∀ (f_wn f_nt : Int32) (a_word a_reach a_beyond a_way a_bad a_part a_scopes a_inner a_tRule a_tFrom a_tTo : Nat → Int32) (kn : Nat → Nat), yf G b T kz kn a_bad a_part a_scopes a_inner → post (tx_lk G T f a) (nI (gg_np G), nI b, f_some, f_empty, f_wn, f_nt, nA (gg_ru G), nA (gg_sc G), nA (gg_ln G), nA (gg_sy G), gg_ro G, a_first, a_follow, nA (tx_kd T), nA (tx_va T), nA (tx_le T), a_word, a_reach, a_beyond, a_way, nA kn, a_bad, a_part, a_scopes, a_inner, a_tRule, a_tFrom, a_tTo, a_before)) : wpY_target post (nI (gg_np G), nI b, f_some, f_empty, f_wn, f_nt, nA (gg_ru G), nA (gg_sc G), nA (gg_ln G), nA (gg_sy G), gg_ro G, a_first, a_follow, nA (tx_kd T), nA (tx_va T), nA (tx_le T), a_word, a_reach, a_beyond, a_way, nA kn, a_bad, a_part, a_scopes, a_inner, a_tRule, a_tFrom, a_tTo, a_before) (nI f) (nI j) := by
  subst hb1
  refine br_f (by decide) (yq_f hf (br_f (by decide) ?_))
  refine yq_place (x := 2) hz rfl hf hj hF ?_
  intro f_wn f_nt a_word a_reach a_beyond a_way a_bad a_part a_scopes a_inner a_tRule a_tFrom a_tTo kn hF hk
  dsimp only
  unfold wY_target_26
  cases h : (tx_ps G T f 2)[j]? with
  | none => exact br_f nn_m1 (hP0 h f_wn f_nt a_word a_reach a_beyond a_way a_bad a_part a_scopes a_inner a_tRule a_tFrom a_tTo kn hF)
  | some a =>
    have hm := tx_ps_m h
    have hi := tx_is_i.mp hm.2
    refine br_t (nI_pos' (n := a) (by omega)) ?_
    refine yq_link (a := a) (kz := un kz f 1) hz rfl hf hm.1 hi.1 un_s ⟨hF.1, yf_k' hF.2 (hk (by rw [h]; intro h; cases h))⟩ ?_
    intro f_wn f_nt a_word a_reach a_beyond a_way a_bad a_part a_scopes a_inner a_tRule a_tFrom a_tTo kn hF
    exact hP1 a h f_wn f_nt a_word a_reach a_beyond a_way a_bad a_part a_scopes a_inner a_tRule a_tFrom a_tTo kn (yf_w hF)
theorem yq_targetN {post : Int32 → SY → Prop} {f : Nat} {k : Int32} (hb1 : b = 1) (hf : f < 4) (hk : k < 0) (hP : post (-2) (nI (gg_np G), nI b, f_some, f_empty, f_wn, f_nt, nA (gg_ru G), nA (gg_sc G), nA (gg_ln G), nA (gg_sy G), gg_ro G, a_first, a_follow, nA (tx_kd T), nA (tx_va T), nA (tx_le T), a_word, a_reach, a_beyond, a_way, nA kn, a_bad, a_part, a_scopes, a_inner, a_tRule, a_tFrom, a_tTo, a_before)) : wpY_target post (nI (gg_np G), nI b, f_some, f_empty, f_wn, f_nt, nA (gg_ru G), nA (gg_sc G), nA (gg_ln G), nA (gg_sy G), gg_ro G, a_first, a_follow, nA (tx_kd T), nA (tx_va T), nA (tx_le T), a_word, a_reach, a_beyond, a_way, nA kn, a_bad, a_part, a_scopes, a_inner, a_tRule, a_tFrom, a_tTo, a_before) (nI f) k := by
  subst hb1
  refine br_f (by decide) (yq_f hf (br_f (by decide) ?_))
  refine yq_placeN (x := 2) hk ?_
  exact br_f nn_m1 hP
theorem yq_du {post : Int32 → SY → Prop} {f : Nat} (hz : zz_ok G b T) (hb1 : b = 1) (hf : f < 4) :
    ∀ d a c m f_wn f_nt a_word a_reach a_beyond a_way a_bad a_part a_scopes a_inner a_tRule a_tFrom a_tTo kn, a + d = 20 → c ≤ a → yf G b T kz kn a_bad a_part a_scopes a_inner →
      (∀ (f_wn f_nt : Int32) (a_word a_reach a_beyond a_way a_bad a_part a_scopes a_inner a_tRule a_tFrom a_tTo : Nat → Int32) (kn : Nat → Nat), yf G b T kz kn a_bad a_part a_scopes a_inner → post (nI (m + tx_du G T f d a c)) (nI (gg_np G), nI b, f_some, f_empty, f_wn, f_nt, nA (gg_ru G), nA (gg_sc G), nA (gg_ln G), nA (gg_sy G), gg_ro G, a_first, a_follow, nA (tx_kd T), nA (tx_va T), nA (tx_le T), a_word, a_reach, a_beyond, a_way, nA kn, a_bad, a_part, a_scopes, a_inner, a_tRule, a_tFrom, a_tTo, a_before)) → wY_duplicates_7 post (nI f) (d + 1) (nI m) (nI c) (nI a) (nI (gg_np G)) (nI b) f_some f_empty f_wn f_nt (nA (gg_ru G)) (nA (gg_sc G)) (nA (gg_ln G)) (nA (gg_sy G)) (gg_ro G) a_first a_follow (nA (tx_kd T)) (nA (tx_va T)) (nA (tx_le T)) a_word a_reach a_beyond a_way (nA kn) a_bad a_part a_scopes a_inner a_tRule a_tFrom a_tTo a_before := by
  intro d
  induction d with
  | zero =>
    intro a c m f_wn f_nt a_word a_reach a_beyond a_way a_bad a_part a_scopes a_inner a_tRule a_tFrom a_tTo kn ha hc hF hP
    have e : a = 20 := by omega
    subst e
    exact br_t (by decide) (hP f_wn f_nt a_word a_reach a_beyond a_way a_bad a_part a_scopes a_inner a_tRule a_tFrom a_tTo kn hF)
  | succ d ih =>
    intro a c m f_wn f_nt a_word a_reach a_beyond a_way a_bad a_part a_scopes a_inner a_tRule a_tFrom a_tTo kn ha hc hF hP
    refine pk_le 20 a (fun h => absurd h (by omega)) (fun ha20 => ?_)
    refine br_f (by rw [hb1]; decide) (yq_f hf (br_f (by decide) ?_))
    refine yq_is (x := 1) hz hb1 hf ha20 hF ?_ ?_
    · intro hi f_wn f_nt a_word a_reach a_beyond a_way a_bad a_part a_scopes a_inner a_tRule a_tFrom a_tTo kn hF
      dsimp only
      have e : tx_du G T f (d + 1) a c = tx_du G T f d (a + 1) c := if_neg (by rw [hi]; decide)
      rw [e] at hP
      exact br_t rfl (nm_r (nI_1 a) (ih (a + 1) c m f_wn f_nt a_word a_reach a_beyond a_way a_bad a_part a_scopes a_inner a_tRule a_tFrom a_tTo kn (by omega) (by omega) (yf_w hF) hP))
    · intro hi f_wn f_nt a_word a_reach a_beyond a_way a_bad a_part a_scopes a_inner a_tRule a_tFrom a_tTo kn hF
      dsimp only
      have hA := hF.1.2.2 f hf (hF.2 f un_s)
      have hi2 := tx_is_i.mp hi
      have hAa := (hA.2 hi2.1).1 a hi2.2.1
      have e2 : (20 : Int32) * nI f + nI a = nI (20 * f + a) := by rw [show (20 : Int32) = nI 20 from rfl, pk_mul, nI_add]
      have e3 : (32 : Int32) * nI f + nI c = nI (32 * f + c) := by rw [show (32 : Int32) = nI 32 from rfl, pk_mul, nI_add]
      have hva := hz.2.2.2.2.1 (20 * f + a)
      have e : tx_du G T f (d + 1) a c = (if tx_fi G T f (tx_inn G T f a) (tx_va T (20 * f + a)) = nI (32 * f + c) then 0 else 1) + tx_du G T f d (a + 1) (c + 1) := if_pos hi
      rw [e] at hP
      refine br_f (by decide) ?_
      rw [e2, e3, nA_cl (show 20 * f + a < 2 ^ 31 by omega), nI_clamp (show 20 * f + a < 2 ^ 31 by omega), hAa.2]
      refine ⟨pk_in (20 * f + a) 80 (by omega), pk_in (20 * f + a) 80 (by omega), ?_⟩
      refine yq_fi hz hb1 hf hva (yf_w hF) ?_
      intro f_wn f_nt a_word a_reach a_beyond a_way a_bad a_part a_scopes a_inner a_tRule a_tFrom a_tTo kn hF
      dsimp only
      refine br_c (fun hr => ?_) (fun hr => ?_)
      · rw [if_pos hr, Nat.zero_add] at hP
        exact nm_r (nI_1 c) (nm_r (nI_1 a) (ih (a + 1) (c + 1) m f_wn f_nt a_word a_reach a_beyond a_way a_bad a_part a_scopes a_inner a_tRule a_tFrom a_tTo kn (by omega) (by omega) hF hP))
      · rw [if_neg hr, ← Nat.add_assoc] at hP
        exact nm_r (nI_1 m) (nm_r (nI_1 c) (nm_r (nI_1 a) (ih (a + 1) (c + 1) (m + 1) f_wn f_nt a_word a_reach a_beyond a_way a_bad a_part a_scopes a_inner a_tRule a_tFrom a_tTo kn (by omega) (by omega) hF hP)))
theorem yq_dup {post : Int32 → SY → Prop} {f : Nat} (hz : zz_ok G b T) (hb1 : b = 1) (hf : f < 4) (hF : yf G b T kz kn a_bad a_part a_scopes a_inner)
    (hP : ∀ (f_wn f_nt : Int32) (a_word a_reach a_beyond a_way a_bad a_part a_scopes a_inner a_tRule a_tFrom a_tTo : Nat → Int32) (kn : Nat → Nat), yf G b T kz kn a_bad a_part a_scopes a_inner → post (nI (tx_dup G T f)) (nI (gg_np G), nI b, f_some, f_empty, f_wn, f_nt, nA (gg_ru G), nA (gg_sc G), nA (gg_ln G), nA (gg_sy G), gg_ro G, a_first, a_follow, nA (tx_kd T), nA (tx_va T), nA (tx_le T), a_word, a_reach, a_beyond, a_way, nA kn, a_bad, a_part, a_scopes, a_inner, a_tRule, a_tFrom, a_tTo, a_before)) : wpY_duplicates post (nI (gg_np G), nI b, f_some, f_empty, f_wn, f_nt, nA (gg_ru G), nA (gg_sc G), nA (gg_ln G), nA (gg_sy G), gg_ro G, a_first, a_follow, nA (tx_kd T), nA (tx_va T), nA (tx_le T), a_word, a_reach, a_beyond, a_way, nA kn, a_bad, a_part, a_scopes, a_inner, a_tRule, a_tFrom, a_tTo, a_before) (nI f) := by
  refine ⟨21, yq_du hz hb1 hf 20 0 0 0 f_wn f_nt a_word a_reach a_beyond a_way a_bad a_part a_scopes a_inner a_tRule a_tFrom a_tTo kn (by omega) (by omega) hF ?_⟩
  rw [Nat.zero_add]
  exact hP
theorem yq_u18 {post : Int32 → SY → Prop} {J : Int32 → Int32 → Int32 → Int32 → Int32 → Int32 → Int32 → Int32 → (Nat → Int32) → (Nat → Int32) → (Nat → Int32) → (Nat → Int32) → (Nat → Int32) → (Nat → Int32) → (Nat → Int32) → (Nat → Int32) → (Nat → Int32) → (Nat → Int32) → (Nat → Int32) → (Nat → Int32) → (Nat → Int32) → (Nat → Int32) → (Nat → Int32) → (Nat → Int32) → (Nat → Int32) → (Nat → Int32) → (Nat → Int32) → (Nat → Int32) → (Nat → Int32) → (Nat → Int32) → (Nat → Int32) →  Prop} {f : Nat} (hz : zz_ok G b T) (hb1 : b = 1) (hf : f < 4) :
    ∀ d a m f_wn f_nt a_word a_reach a_beyond a_way a_bad a_part a_scopes a_inner a_tRule a_tFrom a_tTo kn, a + d = 20 → yf G b T kz kn a_bad a_part a_scopes a_inner →
      (∀ (f_wn f_nt : Int32) (a_word a_reach a_beyond a_way a_bad a_part a_scopes a_inner a_tRule a_tFrom a_tTo : Nat → Int32) (kn : Nat → Nat), yf G b T kz kn a_bad a_part a_scopes a_inner → J (nI (m + tx_ug G T f d a)) (nI (f + 1)) (nI (gg_np G)) (nI b) f_some f_empty f_wn f_nt (nA (gg_ru G)) (nA (gg_sc G)) (nA (gg_ln G)) (nA (gg_sy G)) (gg_ro G) a_first a_follow (nA (tx_kd T)) (nA (tx_va T)) (nA (tx_le T)) a_word a_reach a_beyond a_way (nA kn) a_bad a_part a_scopes a_inner a_tRule a_tFrom a_tTo a_before) → wY_unresolved_18 post J (nI f) (d + 1) (nI m) (nI a) (nI (gg_np G)) (nI b) f_some f_empty f_wn f_nt (nA (gg_ru G)) (nA (gg_sc G)) (nA (gg_ln G)) (nA (gg_sy G)) (gg_ro G) a_first a_follow (nA (tx_kd T)) (nA (tx_va T)) (nA (tx_le T)) a_word a_reach a_beyond a_way (nA kn) a_bad a_part a_scopes a_inner a_tRule a_tFrom a_tTo a_before := by
  intro d
  induction d with
  | zero =>
    intro a m f_wn f_nt a_word a_reach a_beyond a_way a_bad a_part a_scopes a_inner a_tRule a_tFrom a_tTo kn ha hF hP
    have e : a = 20 := by omega
    subst e
    exact br_t (by decide) (nm_r (nI_1 f) (hP f_wn f_nt a_word a_reach a_beyond a_way a_bad a_part a_scopes a_inner a_tRule a_tFrom a_tTo kn hF))
  | succ d ih =>
    intro a m f_wn f_nt a_word a_reach a_beyond a_way a_bad a_part a_scopes a_inner a_tRule a_tFrom a_tTo kn ha hF hP
    refine pk_le 20 a (fun h => absurd h (by omega)) (fun ha20 => ?_)
    refine yq_is (x := 2) hz hb1 hf ha20 hF ?_ ?_
    · intro hi f_wn f_nt a_word a_reach a_beyond a_way a_bad a_part a_scopes a_inner a_tRule a_tFrom a_tTo kn hF
      dsimp only
      have e : tx_ug G T f (d + 1) a = tx_ug G T f d (a + 1) := if_neg (by rw [hi]; decide)
      rw [e] at hP
      exact br_t rfl (nm_r (nI_1 a) (ih (a + 1) m f_wn f_nt a_word a_reach a_beyond a_way a_bad a_part a_scopes a_inner a_tRule a_tFrom a_tTo kn (by omega) (yf_w hF) hP))
    · intro hi f_wn f_nt a_word a_reach a_beyond a_way a_bad a_part a_scopes a_inner a_tRule a_tFrom a_tTo kn hF
      dsimp only
      have hi2 := tx_is_i.mp hi
      have e : tx_ug G T f (d + 1) a = (if 0 ≤ tx_lk G T f a then 0 else 1) + tx_ug G T f d (a + 1) := if_pos hi
      rw [e] at hP
      refine br_f (by decide) ?_
      refine yq_link (kz := un kz f 1) hz hb1 hf ha20 hi2.1 un_s hF ?_
      intro f_wn f_nt a_word a_reach a_beyond a_way a_bad a_part a_scopes a_inner a_tRule a_tFrom a_tTo kn hF
      dsimp only
      refine br_c (fun hr => ?_) (fun hr => ?_)
      · rw [if_pos hr, Nat.zero_add] at hP
        exact nm_r (nI_1 a) (ih (a + 1) m f_wn f_nt a_word a_reach a_beyond a_way a_bad a_part a_scopes a_inner a_tRule a_tFrom a_tTo kn (by omega) (yf_w hF) hP)
      · rw [if_neg hr, ← Nat.add_assoc] at hP
        exact nm_r (nI_1 m) (nm_r (nI_1 a) (ih (a + 1) (m + 1) f_wn f_nt a_word a_reach a_beyond a_way a_bad a_part a_scopes a_inner a_tRule a_tFrom a_tTo kn (by omega) (yf_w hF) hP))
theorem yq_unres {post : Int32 → SY → Prop} (hz : zz_ok G b T) (hb1 : b = 1) (hF : yf G b T kz kn a_bad a_part a_scopes a_inner)
    (hP : ∀ (f_wn f_nt : Int32) (a_word a_reach a_beyond a_way a_bad a_part a_scopes a_inner a_tRule a_tFrom a_tTo : Nat → Int32) (kn : Nat → Nat), yf G b T kz kn a_bad a_part a_scopes a_inner → post (nI (tx_un G T 0 + tx_un G T 1 + tx_un G T 2 + tx_un G T 3)) (nI (gg_np G), nI b, f_some, f_empty, f_wn, f_nt, nA (gg_ru G), nA (gg_sc G), nA (gg_ln G), nA (gg_sy G), gg_ro G, a_first, a_follow, nA (tx_kd T), nA (tx_va T), nA (tx_le T), a_word, a_reach, a_beyond, a_way, nA kn, a_bad, a_part, a_scopes, a_inner, a_tRule, a_tFrom, a_tTo, a_before)) : wpY_unresolved post (nI (gg_np G), nI b, f_some, f_empty, f_wn, f_nt, nA (gg_ru G), nA (gg_sc G), nA (gg_ln G), nA (gg_sy G), gg_ro G, a_first, a_follow, nA (tx_kd T), nA (tx_va T), nA (tx_le T), a_word, a_reach, a_beyond, a_way, nA kn, a_bad, a_part, a_scopes, a_inner, a_tRule, a_tFrom, a_tTo, a_before) := by
  refine br_f (by rw [hb1]; decide) ⟨5, br_f (by decide) ⟨21, yq_u18 (f := 0) hz hb1 (by omega) 20 0 0 f_wn f_nt a_word a_reach a_beyond a_way a_bad a_part a_scopes a_inner a_tRule a_tFrom a_tTo kn (by omega) hF ?_⟩⟩
  rw [Nat.zero_add]
  intro f_wn f_nt a_word a_reach a_beyond a_way a_bad a_part a_scopes a_inner a_tRule a_tFrom a_tTo kn hF
  refine br_f (by decide) ⟨21, yq_u18 (f := 1) hz hb1 (by omega) 20 0 _ f_wn f_nt a_word a_reach a_beyond a_way a_bad a_part a_scopes a_inner a_tRule a_tFrom a_tTo kn (by omega) hF ?_⟩
  intro f_wn f_nt a_word a_reach a_beyond a_way a_bad a_part a_scopes a_inner a_tRule a_tFrom a_tTo kn hF
  refine br_f (by decide) ⟨21, yq_u18 (f := 2) hz hb1 (by omega) 20 0 _ f_wn f_nt a_word a_reach a_beyond a_way a_bad a_part a_scopes a_inner a_tRule a_tFrom a_tTo kn (by omega) hF ?_⟩
  intro f_wn f_nt a_word a_reach a_beyond a_way a_bad a_part a_scopes a_inner a_tRule a_tFrom a_tTo kn hF
  refine br_f (by decide) ⟨21, yq_u18 (f := 3) hz hb1 (by omega) 20 0 _ f_wn f_nt a_word a_reach a_beyond a_way a_bad a_part a_scopes a_inner a_tRule a_tFrom a_tTo kn (by omega) hF ?_⟩
  intro f_wn f_nt a_word a_reach a_beyond a_way a_bad a_part a_scopes a_inner a_tRule a_tFrom a_tTo kn hF
  exact br_t (by decide) (hP f_wn f_nt a_word a_reach a_beyond a_way a_bad a_part a_scopes a_inner a_tRule a_tFrom a_tTo kn hF)
theorem yq_x56 {post : Int32 → SY → Prop} {f n : Nat} (hz : zz_ok G b T) (hf : f < 4) (hn : n ≤ 20) (hF : yy_F G b T kn a_bad a_part a_scopes a_inner)
    (hP : ∀ m f_wn a_word a_way a_reach a_beyond, m < 2 ^ 11 → (∀ t, m.testBit t = true ↔ tx_xp G T f n t) → post (nI m) (nI (gg_np G), nI b, f_some, f_empty, f_wn, f_nt, nA (gg_ru G), nA (gg_sc G), nA (gg_ln G), nA (gg_sy G), gg_ro G, a_first, a_follow, nA (tx_kd T), nA (tx_va T), nA (tx_le T), a_word, a_reach, a_beyond, a_way, nA kn, a_bad, a_part, a_scopes, a_inner, a_tRule, a_tFrom, a_tTo, a_before)) :
    ∀ d t m f_wn a_word a_way a_reach a_beyond, t + d = 10 → m < 2 ^ 11 → (∀ t', m.testBit t' = true ↔ (t' < t ∨ t' = 10) ∧ tx_xp G T f n t') → wY_expected_56 post (nI f) (nI n) (d + 1) (nI m) (nI t) (nI (gg_np G)) (nI b) f_some f_empty f_wn f_nt (nA (gg_ru G)) (nA (gg_sc G)) (nA (gg_ln G)) (nA (gg_sy G)) (gg_ro G) a_first a_follow (nA (tx_kd T)) (nA (tx_va T)) (nA (tx_le T)) a_word a_reach a_beyond a_way (nA kn) a_bad a_part a_scopes a_inner a_tRule a_tFrom a_tTo a_before := by
  intro d
  induction d with
  | zero =>
    intro t m f_wn a_word a_way a_reach a_beyond ht hm hb
    have e : t = 10 := by omega
    subst e
    refine br_t (by decide) (hP m f_wn a_word a_way a_reach a_beyond hm (fun t => ?_))
    rw [hb t]
    refine ⟨fun h => h.2, fun h => ⟨?_, h⟩⟩
    rcases h with ⟨h, _⟩ | ⟨h, _⟩ <;> omega
  | succ d ih =>
    intro t m f_wn a_word a_way a_reach a_beyond ht hm hb
    refine pk_le 10 t (fun h => absurd h (by omega)) (fun ht10 => ?_)
    refine yt_takeT (tok := tx_wt T f n t) hz.1 hf hn ht10 hz.2.2.2.1 (fun j => rfl) ?_
    intro re be a_word a_way a_reach a_beyond hI
    dsimp only
    refine yt_goes hI (fun h0 => ?_) (fun h1 => ?_)
    · refine br_t rfl (nm_r (nI_1 t) (ih (t + 1) m _ a_word a_way a_reach a_beyond (by omega) hm (fun t' => ?_)))
      rw [hb t']
      refine ⟨fun ⟨x, y⟩ => ⟨by omega, y⟩, fun ⟨x, y⟩ => ⟨?_, y⟩⟩
      by_cases e : t' = t
      · subst e
        rcases y with ⟨_, y⟩ | ⟨y, _⟩
        · exact absurd y h0
        · omega
      · omega
    · refine br_f (by decide) ?_
      rw [nb_sh (by omega), nb_or]
      refine nm_e (nm_r (nI_1 t) (ih (t + 1) _ _ a_word a_way a_reach a_beyond (by omega) (nb_orlt hm (Nat.pow_lt_pow_right (by omega) (by omega))) (fun t' => ?_)))
      rw [nb_or_t, nb_p_t, hb t']
      constructor
      · intro h
        rcases h with ⟨x, y⟩ | h
        · exact ⟨by omega, y⟩
        · subst h; exact ⟨by omega, Or.inl ⟨by omega, h1⟩⟩
      · intro ⟨x, y⟩
        by_cases e : t' = t
        · exact Or.inr e
        · exact Or.inl ⟨by omega, y⟩
theorem yq_expected {post : Int32 → SY → Prop} {f n : Nat} (hz : zz_ok G b T) (hb1 : b = 1) (hf : f < 4) (hn : n ≤ tx_le T f) (hF : yy_F G b T kn a_bad a_part a_scopes a_inner)
    (hP : ∀ m f_wn a_word a_way a_reach a_beyond, m < 2 ^ 11 → (∀ t, m.testBit t = true ↔ tx_xp G T f n t) → post (nI m) (nI (gg_np G), nI b, f_some, f_empty, f_wn, f_nt, nA (gg_ru G), nA (gg_sc G), nA (gg_ln G), nA (gg_sy G), gg_ro G, a_first, a_follow, nA (tx_kd T), nA (tx_va T), nA (tx_le T), a_word, a_reach, a_beyond, a_way, nA kn, a_bad, a_part, a_scopes, a_inner, a_tRule, a_tFrom, a_tTo, a_before)) : wpY_expected post (nI (gg_np G), nI b, f_some, f_empty, f_wn, f_nt, nA (gg_ru G), nA (gg_sc G), nA (gg_ln G), nA (gg_sy G), gg_ro G, a_first, a_follow, nA (tx_kd T), nA (tx_va T), nA (tx_le T), a_word, a_reach, a_beyond, a_way, nA kn, a_bad, a_part, a_scopes, a_inner, a_tRule, a_tFrom, a_tTo, a_before) (nI f) (nI n) := by
  have h20 := hz.2.2.2.2.2.1 f
  refine br_f (by rw [hb1]; decide) (yq_f hf (br_f (by decide) (br_f (nI_pos (by omega)) ⟨pk_in f 4 hf, ?_⟩)))
  rw [nA_cl (show f < 2 ^ 31 by omega)]
  refine pk_le n (tx_le T f) (fun _ => ?_) (fun h => absurd h (by omega))
  refine yt_take (tok := tx_w0 T f n) hz.1 hf (by omega) hz.2.2.2.1 (fun j => rfl) ?_
  intro re be a_word a_way a_reach a_beyond hI
  dsimp only
  refine yt_whole hI (fun h0 => ?_) (fun h1 => ?_)
  · refine br_t rfl ⟨11, yq_x56 hz hf (by omega) hF hP 10 0 0 _ a_word a_way a_reach a_beyond (by omega) (by omega) (fun t' => ⟨fun h => absurd h nb_0_t, fun ⟨x, y⟩ => ?_⟩)⟩
    rcases y with ⟨y, _⟩ | ⟨_, y⟩
    · omega
    · exact absurd y h0
  · refine br_f (by decide) ⟨11, yq_x56 hz hf (by omega) hF hP 10 0 1024 _ a_word a_way a_reach a_beyond (by omega) (by omega) (fun t' => ?_)⟩
    rw [show (1024 : Nat) = 2 ^ 10 from rfl, nb_p_t]
    refine ⟨fun h => ⟨by omega, Or.inr ⟨h, h1⟩⟩, fun ⟨x, y⟩ => by omega⟩
end YQ2
end
section
/-! the reference's sets of the grammar -/
theorem gg_fl_lt2 {N M Q R : Nat → Prop} {t : Nat} : ∀ l : List Nat, (∀ x, x ∈ l → x < 16) → (∀ A, A < 6 → N A → M A) → (∀ A, A < 6 → Q A → R A) → gg_fl N Q t l → gg_fl M R t l := by
  intro l
  induction l with
  | nil => intro _ _ _ h; exact h
  | cons x l ih =>
    intro hl hN h h1
    have := hl x (List.mem_cons_self ..)
    rcases h1 with h1 | ⟨h1, h2⟩ | ⟨⟨h1, h1'⟩, h2⟩
    · exact Or.inl h1
    · exact Or.inr (Or.inl ⟨h1, h _ (by omega) h2⟩)
    · exact Or.inr (Or.inr ⟨⟨h1, hN _ (by omega) h1'⟩, ih (fun y hy => hl y (List.mem_cons_of_mem _ hy)) hN h h2⟩)
theorem gg_fl_10 {N : Nat → Prop} {F : Nat → Prop} {t : Nat} (hF : ∀ A, F A → t < 10) : ∀ l, gg_fl N F t l → t < 10 := by
  intro l
  induction l with
  | nil => intro h; exact h.elim
  | cons x l ih =>
    intro h
    rcases h with h | h | h
    · exact h.1
    · exact hF _ h.2
    · exact ih h.2
theorem gg_sF_lt {G : gg_T} {t : Nat} : ∀ k A, gg_sF G t k A → t < 10 := by
  intro k
  induction k with
  | zero => intro A h; exact h.elim
  | succ k ih => intro A ⟨p, _, _, h⟩; exact gg_fl_10 ih _ h
theorem gg_Fi_lt {G : gg_T} {t A : Nat} (h : gg_Fi G t A) : t < 10 := h.elim (fun k h => gg_sF_lt k A h)
theorem gg_FL_lt {G : gg_T} {t : Nat} {l : List Nat} (h : gg_FL G t l) : t < 10 := gg_fl_10 (fun _ h => gg_Fi_lt h) l h
theorem gg_sW_le {G : gg_T} {t : Nat} : ∀ k A, gg_sW G t k A → t ≤ 10 := by
  intro k
  induction k with
  | zero => intro A h; exact h.elim
  | succ k ih =>
    intro A h
    rcases h with h | ⟨p, m, _, _, _, h | h⟩
    · omega
    · exact Nat.le_of_lt (gg_FL_lt h)
    · exact ih _ h.2
theorem gg_Fo_le {G : gg_T} {t A : Nat} (h : gg_Fo G t A) : t ≤ 10 := h.elim (fun k h => gg_sW_le k A h)
/-- the sets as masks: rules that derive something, nullable ones, FIRST and FOLLOW by rule -/
def yl_em (em : Nat) : Nat → Prop := fun A => em.testBit A = true
def yl_fi (fi : Nat → Nat) (t : Nat) : Nat → Prop := fun A => (fi A).testBit t = true
section YL
variable {G : gg_T} {f_built f_some f_empty f_wn f_nt : Int32} {a_first a_follow a_kind a_val a_len a_word a_reach a_beyond a_way a_known a_bad a_part a_scopes a_inner a_tRule a_tFrom a_tTo a_before : Nat → Int32} {em : Nat} {fi : Nat → Nat}
theorem yl_ff {post : Int32 → Prop} {p : Nat} (hG : gg_ok G) (hp : p < 14) (hem : em < 2 ^ 6) (hfi : ∀ A, A < 6 → a_first A = nI (fi A) ∧ fi A < 2 ^ 10) :
    ∀ d m acc, m + d = gg_ln G p → acc < 2 ^ 10 → (∀ r, r < 2 ^ 10 → (∀ t, r.testBit t = true ↔ acc.testBit t = true ∨ gg_fl (yl_em em) (yl_fi fi t) t (gg_sl G p m)) → post (nI r)) →
      wY_firstFrom_5 post (nI p) (nI (gg_np G)) f_built f_some (nI em) f_wn f_nt (nA (gg_ru G)) (nA (gg_sc G)) (nA (gg_ln G)) (nA (gg_sy G)) (gg_ro G) a_first a_follow a_kind a_val a_len a_word a_reach a_beyond a_way a_known a_bad a_part a_scopes a_inner a_tRule a_tFrom a_tTo a_before (d + 1) (nI acc) (nI m) := by
  intro d
  induction d with
  | zero =>
    intro m acc hm ha hP
    have hl := hG.2.2.1 p
    refine ⟨pk_in p 14 hp, ?_⟩
    rw [nA_cl (show p < 2 ^ 31 by omega)]
    refine pk_le (gg_ln G p) m (fun _ => hP acc ha (fun t => ?_)) (fun h => absurd h (by omega))
    rw [gg_sl_n (by omega)]
    exact ⟨Or.inl, fun h => h.elim (fun h => h) (fun h => h.elim)⟩
  | succ d ih =>
    intro m acc hm ha hP
    have hl := hG.2.2.1 p
    have h16 := hG.2.2.2.1 (4 * p + m)
    refine ⟨pk_in p 14 hp, ?_⟩
    rw [nA_cl (show p < 2 ^ 31 by omega)]
    refine pk_le (gg_ln G p) m (fun h => absurd h (by omega)) (fun hml => ?_)
    have e1 : (4 : Int32) * nI p + nI m = nI (4 * p + m) := by rw [show (4 : Int32) = nI 4 from rfl, pk_mul, nI_add]
    rw [e1, nA_cl (show 4 * p + m < 2 ^ 31 by omega)]
    refine ⟨pk_in (4 * p + m) 56 (by omega), nm_e ?_⟩
    rw [gg_sl_c hml] at hP
    refine pk_le 10 (gg_sy G (4 * p + m)) (fun hx => ?_) (fun hx => ?_)
    · have es : nI (gg_sy G (4 * p + m)) - 10 = nI (gg_sy G (4 * p + m) - 10) := pk_sub (b := 10) (by omega)
      have hf := hfi (gg_sy G (4 * p + m) - 10) (by omega)
      unfold wY_firstFrom_54
      rw [es, nI_clamp (show gg_sy G (4 * p + m) - 10 < 2 ^ 31 by omega), hf.1, nb_or]
      refine ⟨pk_in (gg_sy G (4 * p + m) - 10) 6 (by omega), nm_e ?_⟩
      have hr := nb_orlt ha hf.2
      refine pk_lt (gg_sy G (4 * p + m)) 10 (fun h => absurd h (by omega)) (fun _ => ?_)
      refine nb_b0 em (gg_sy G (4 * p + m) - 10) (fun hb => hP _ hr (fun t => ?_)) (fun hb => nm_r (nI_1 m) (ih (m + 1) _ (by omega) hr (fun r h1 h2 => hP r h1 (fun t => ?_)))) (by omega) (by omega)
      · rw [nb_or_t]
        constructor
        · intro h
          rcases h with h | h
          · exact Or.inl h
          · exact Or.inr (Or.inr (Or.inl ⟨hx, h⟩))
        · intro h
          rcases h with h | h | h | h
          · exact Or.inl h
          · omega
          · exact Or.inr h.2
          · have := h.1.2
            unfold yl_em at this
            rw [hb] at this
            cases this
      · rw [h2 t, nb_or_t]
        constructor
        · intro h
          rcases h with (h | h) | h
          · exact Or.inl h
          · exact Or.inr (Or.inr (Or.inl ⟨hx, h⟩))
          · exact Or.inr (Or.inr (Or.inr ⟨⟨hx, hb⟩, h⟩))
        · intro h
          rcases h with h | h | h | h
          · exact Or.inl (Or.inl h)
          · omega
          · exact Or.inl (Or.inr h.2)
          · exact Or.inr h.2
    · unfold wY_firstFrom_54
      rw [nb_sh (by omega), nb_or]
      refine nm_e (pk_lt (gg_sy G (4 * p + m)) 10 (fun _ => hP _ (nb_orlt ha (Nat.pow_lt_pow_right (by omega) hx)) (fun t => ?_)) (fun h => absurd h (by omega)))
      rw [nb_or_t, nb_p_t]
      constructor
      · intro h
        rcases h with h | h
        · exact Or.inl h
        · exact Or.inr (Or.inl ⟨by omega, by omega⟩)
      · intro h
        rcases h with h | h | h | h
        · exact Or.inl h
        · exact Or.inr (by omega)
        · omega
        · omega
theorem yl_first {post : Int32 → Prop} {p m : Nat} (hG : gg_ok G) (hp : p < 14) (hm : m ≤ gg_ln G p) (hem : em < 2 ^ 6) (hfi : ∀ A, A < 6 → a_first A = nI (fi A) ∧ fi A < 2 ^ 10)
    (hP : ∀ r, r < 2 ^ 10 → (∀ t, r.testBit t = true ↔ gg_fl (yl_em em) (yl_fi fi t) t (gg_sl G p m)) → post (nI r)) : wpY_firstFrom post (nI (gg_np G), f_built, f_some, nI em, f_wn, f_nt, nA (gg_ru G), nA (gg_sc G), nA (gg_ln G), nA (gg_sy G), gg_ro G, a_first, a_follow, a_kind, a_val, a_len, a_word, a_reach, a_beyond, a_way, a_known, a_bad, a_part, a_scopes, a_inner, a_tRule, a_tFrom, a_tTo, a_before) (nI p) (nI m) :=
  ⟨_, yl_ff hG hp hem hfi (gg_ln G p - m) m 0 (by omega) (by omega) (fun r h1 h2 => hP r h1 (fun t => (h2 t).trans ⟨fun h => h.elim (fun h => absurd h nb_0_t) (fun h => h), Or.inr⟩))⟩
theorem yl_ef {post : Int32 → Prop} {p : Nat} (hG : gg_ok G) (hp : p < 14) (hem : em < 2 ^ 6) :
    ∀ d m, m + d = gg_ln G p → (gg_nl (yl_em em) (gg_sl G p m) → post 1) → (¬ gg_nl (yl_em em) (gg_sl G p m) → post 0) → wY_emptyFrom_2 post (nI p) (nI (gg_np G)) f_built f_some (nI em) f_wn f_nt (nA (gg_ru G)) (nA (gg_sc G)) (nA (gg_ln G)) (nA (gg_sy G)) (gg_ro G) a_first a_follow a_kind a_val a_len a_word a_reach a_beyond a_way a_known a_bad a_part a_scopes a_inner a_tRule a_tFrom a_tTo a_before (d + 1) (nI m) := by
  intro d
  induction d with
  | zero =>
    intro m hm h1 h0
    have hl := hG.2.2.1 p
    refine ⟨pk_in p 14 hp, ?_⟩
    rw [nA_cl (show p < 2 ^ 31 by omega)]
    refine pk_le (gg_ln G p) m (fun _ => h1 ?_) (fun h => absurd h (by omega))
    rw [gg_sl_n (by omega)]
    trivial
  | succ d ih =>
    intro m hm h1 h0
    have hl := hG.2.2.1 p
    have h16 := hG.2.2.2.1 (4 * p + m)
    refine ⟨pk_in p 14 hp, ?_⟩
    rw [nA_cl (show p < 2 ^ 31 by omega)]
    refine pk_le (gg_ln G p) m (fun h => absurd h (by omega)) (fun hml => ?_)
    have e1 : (4 : Int32) * nI p + nI m = nI (4 * p + m) := by rw [show (4 : Int32) = nI 4 from rfl, pk_mul, nI_add]
    rw [e1, nA_cl (show 4 * p + m < 2 ^ 31 by omega)]
    rw [gg_sl_c hml] at h1 h0
    refine ⟨pk_in (4 * p + m) 56 (by omega), pk_lt (gg_sy G (4 * p + m)) 10 (fun hx => h0 (fun h => absurd h.1.1 (by omega))) (fun hx => ⟨pk_in (4 * p + m) 56 (by omega), ?_⟩)⟩
    have es : nI (gg_sy G (4 * p + m)) - 10 = nI (gg_sy G (4 * p + m) - 10) := pk_sub (b := 10) (by omega)
    rw [es]
    refine nb_b0 em (gg_sy G (4 * p + m) - 10) (fun hb => h0 (fun h => ?_)) (fun hb => nm_r (nI_1 m) (ih (m + 1) (by omega) (fun h => h1 ⟨⟨hx, hb⟩, h⟩) (fun h => h0 (fun h' => h h'.2)))) (by omega) (by omega)
    have := h.1.2
    unfold yl_em at this
    rw [hb] at this
    cases this
theorem yl_empty {post : Int32 → Prop} {p m : Nat} (hG : gg_ok G) (hp : p < 14) (hm : m ≤ gg_ln G p) (hem : em < 2 ^ 6)
    (h1 : gg_nl (yl_em em) (gg_sl G p m) → post 1) (h0 : ¬ gg_nl (yl_em em) (gg_sl G p m) → post 0) : wpY_emptyFrom post (nI (gg_np G), f_built, f_some, nI em, f_wn, f_nt, nA (gg_ru G), nA (gg_sc G), nA (gg_ln G), nA (gg_sy G), gg_ro G, a_first, a_follow, a_kind, a_val, a_len, a_word, a_reach, a_beyond, a_way, a_known, a_bad, a_part, a_scopes, a_inner, a_tRule, a_tFrom, a_tTo, a_before) (nI p) (nI m) :=
  ⟨_, yl_ef hG hp hem (gg_ln G p - m) m (by omega) h1 h0⟩
end YL
/-- the four sets: masks, sound -/
def yl_S (G : gg_T) (so em : Nat) (fi fo : Nat → Nat) : Prop :=
  (so < 2 ^ 6 ∧ ∀ A, so.testBit A = true → gg_Pr G A) ∧ (em < 2 ^ 6 ∧ ∀ A, em.testBit A = true → gg_Nu G A) ∧ (∀ A, A < 6 → fi A < 2 ^ 10 ∧ ∀ t, (fi A).testBit t = true → gg_Fi G t A) ∧ (∀ A, A < 6 → fo A < 2 ^ 11 ∧ ∀ t, (fo A).testBit t = true → gg_Fo G t A)
def yl_le (so em : Nat) (fi fo : Nat → Nat) (so' em' : Nat) (fi' fo' : Nat → Nat) : Prop :=
  (∀ A, so.testBit A = true → so'.testBit A = true) ∧ (∀ A, em.testBit A = true → em'.testBit A = true) ∧ (∀ A t, A < 6 → (fi A).testBit t = true → (fi' A).testBit t = true) ∧ (∀ A t, A < 6 → (fo A).testBit t = true → (fo' A).testBit t = true)
/-- what production p adds -/
def yl_G (G : gg_T) (p : Nat) (so em : Nat) (fi fo : Nat → Nat) (so' em' : Nat) (fi' fo' : Nat → Nat) : Prop :=
  (gg_pl (yl_em so) (gg_sl G p 0) → so'.testBit (gg_ru G p) = true) ∧ (gg_nl (yl_em em) (gg_sl G p 0) → em'.testBit (gg_ru G p) = true) ∧
  (∀ t, gg_fl (yl_em em) (yl_fi fi t) t (gg_sl G p 0) → (fi' (gg_ru G p)).testBit t = true) ∧
  (∀ m A t, m < gg_ln G p → gg_sy G (4 * p + m) = A + 10 → (gg_fl (yl_em em) (yl_fi fi t) t (gg_sl G p (m + 1)) → (fo' A).testBit t = true) ∧ (gg_nl (yl_em em) (gg_sl G p (m + 1)) → (fo (gg_ru G p)).testBit t = true → (fo' A).testBit t = true))
section YM
variable {G : gg_T} {so em so1 em1 so2 em2 so3 em3 : Nat} {fi fo fi1 fo1 fi2 fo2 fi3 fo3 : Nat → Nat}
theorem yl_le_r : yl_le so em fi fo so em fi fo := ⟨fun _ h => h, fun _ h => h, fun _ _ _ h => h, fun _ _ _ h => h⟩
theorem yl_le_t (h : yl_le so em fi fo so1 em1 fi1 fo1) (h' : yl_le so1 em1 fi1 fo1 so2 em2 fi2 fo2) : yl_le so em fi fo so2 em2 fi2 fo2 :=
  ⟨fun A x => h'.1 A (h.1 A x), fun A x => h'.2.1 A (h.2.1 A x), fun A t a x => h'.2.2.1 A t a (h.2.2.1 A t a x), fun A t a x => h'.2.2.2 A t a (h.2.2.2 A t a x)⟩
theorem yl_G_m (hG : gg_ok G) {p : Nat} (h0 : yl_le so em fi fo so1 em1 fi1 fo1) (h : yl_G G p so1 em1 fi1 fo1 so2 em2 fi2 fo2) (h3 : yl_le so2 em2 fi2 fo2 so3 em3 fi3 fo3) : yl_G G p so em fi fo so3 em3 fi3 fo3 := by
  have hr := hG.2.1 p
  refine ⟨fun x => h3.1 _ (h.1 (gg_pl_mono h0.1 _ x)), fun x => h3.2.1 _ (h.2.1 (gg_nl_mono h0.2.1 _ x)), fun t x => h3.2.2.1 _ _ hr (h.2.2.1 t ?_), fun m A t hm hA => ?_⟩
  · exact gg_fl_lt2 _ (fun y hy => gg_sl_lt hG hy) (fun A _ => h0.2.1 A) (fun A hA' => h0.2.2.1 A t hA') x
  · have h16 := hG.2.2.2.1 (4 * p + m)
    have h4 := h.2.2.2 m A t hm hA
    refine ⟨fun x => h3.2.2.2 _ _ (by omega) (h4.1 ?_), fun x y => h3.2.2.2 _ _ (by omega) (h4.2 (gg_nl_mono h0.2.1 _ x) (h0.2.2.2 _ _ hr y))⟩
    exact gg_fl_lt2 _ (fun y hy => gg_sl_lt hG hy) (fun A _ => h0.2.1 A) (fun A hA' => h0.2.2.1 A t hA') x
/-- the stages that r rounds have reached -/
def yl_r (G : gg_T) (r : Nat) (so em : Nat) (fi fo : Nat → Nat) : Prop :=
  (∀ k A, k ≤ r → A < 6 → gg_sP G k A → so.testBit A = true) ∧ (∀ k A, k ≤ r → A < 6 → gg_sN G k A → em.testBit A = true) ∧
  (∀ k A t, 6 + k ≤ r → A < 6 → gg_sF G t k A → (fi A).testBit t = true) ∧ (∀ k A t, 12 + k ≤ r → A < 6 → gg_sW G t k A → A = 0 ∧ t = 10 ∨ (fo A).testBit t = true)
theorem yl_round (hG : gg_ok G) {r : Nat} (h : yl_r G r so em fi fo) (hf : (fo 0).testBit 10 = true) (hle : yl_le so em fi fo so1 em1 fi1 fo1) (hg : ∀ p, p < gg_np G → yl_G G p so em fi fo so1 em1 fi1 fo1) : yl_r G (r + 1) so1 em1 fi1 fo1 := by
  have hN : 6 ≤ r → ∀ A, A < 6 → gg_Nu G A → yl_em em A := fun h6 A hA hn => h.2.1 6 A h6 hA (gg_Nu6 hG hA hn)
  refine ⟨fun k A hk hA hs => ?_, fun k A hk hA hs => ?_, fun k A t hk hA hs => ?_, fun k A t hk hA hs => ?_⟩
  · cases k with
    | zero => exact hs.elim
    | succ k =>
      obtain ⟨p, p1, p2, p3⟩ := hs
      rw [← p2]
      exact (hg p p1).1 (gg_pl_lt _ (fun y hy => gg_sl_lt hG hy) (fun A hA x => h.1 k A (by omega) hA x) p3)
  · cases k with
    | zero => exact hs.elim
    | succ k =>
      obtain ⟨p, p1, p2, p3⟩ := hs
      rw [← p2]
      exact (hg p p1).2.1 (gg_nl_lt _ (fun y hy => gg_sl_lt hG hy) (fun A hA x => h.2.1 k A (by omega) hA x) p3)
  · cases k with
    | zero => exact hs.elim
    | succ k =>
      obtain ⟨p, p1, p2, p3⟩ := hs
      rw [← p2]
      exact (hg p p1).2.2.1 t (gg_fl_lt2 _ (fun y hy => gg_sl_lt hG hy) (hN (by omega)) (fun A hA x => h.2.2.1 k A t (by omega) hA x) p3)
  · cases k with
    | zero => exact hs.elim
    | succ k =>
      rcases hs with hs | ⟨p, m, p1, p2, p3, p4⟩
      · exact Or.inl hs
      · refine Or.inr ?_
        have h4 := (hg p p1).2.2.2 m A t p2 p3
        rcases p4 with p4 | ⟨p4, p5⟩
        · exact h4.1 (gg_fl_lt2 _ (fun y hy => gg_sl_lt hG hy) (hN (by omega)) (fun A hA x => h.2.2.1 6 A t (by omega) hA (gg_Fi6 hG hA x)) p4)
        · refine h4.2 (gg_nl_lt _ (fun y hy => gg_sl_lt hG hy) (hN (by omega)) p4) ?_
          rcases h.2.2.2 k _ t (by omega) (hG.2.1 p) p5 with ⟨e1, e2⟩ | e
          · rw [e1, e2]; exact hf
          · exact e
/-- the sets after enough rounds -/
def yl_E (G : gg_T) (so em : Nat) (fi fo : Nat → Nat) : Prop :=
  (so < 2 ^ 6 ∧ ∀ A, A < 6 → (so.testBit A = true ↔ gg_Pr G A)) ∧ (em < 2 ^ 6 ∧ ∀ A, A < 6 → (em.testBit A = true ↔ gg_Nu G A)) ∧ (∀ A, A < 6 → fi A < 2 ^ 10 ∧ ∀ t, (fi A).testBit t = true ↔ gg_Fi G t A) ∧ (∀ A, A < 6 → fo A < 2 ^ 11 ∧ ∀ t, (fo A).testBit t = true ↔ gg_Fo G t A)
theorem yl_end (hG : gg_ok G) (hS : yl_S G so em fi fo) (hf : (fo 0).testBit 10 = true) (h : yl_r G 100 so em fi fo) : yl_E G so em fi fo := by
  refine ⟨⟨hS.1.1, fun A hA => ⟨hS.1.2 A, fun x => h.1 6 A (by omega) hA (gg_Pr6 hG hA x)⟩⟩, ⟨hS.2.1.1, fun A hA => ⟨hS.2.1.2 A, fun x => h.2.1 6 A (by omega) hA (gg_Nu6 hG hA x)⟩⟩,
    fun A hA => ⟨(hS.2.2.1 A hA).1, fun t => ⟨(hS.2.2.1 A hA).2 t, fun x => h.2.2.1 6 A t (by omega) hA (gg_Fi6 hG hA x)⟩⟩, fun A hA => ⟨(hS.2.2.2 A hA).1, fun t => ⟨(hS.2.2.2 A hA).2 t, fun x => ?_⟩⟩⟩
  rcases h.2.2.2 6 A t (by omega) hA (gg_Fo6 hG hA x) with ⟨e1, e2⟩ | e
  · rw [e1, e2]; exact hf
  · exact e
end YM
end
section
def yl_A (fi fo : Nat → Nat) (a_first a_follow : Nat → Int32) : Prop := ∀ A, A < 6 → a_first A = nI (fi A) ∧ a_follow A = nI (fo A)
theorem yl_A_f {fi fo : Nat → Nat} {a_first a_follow : Nat → Int32} {B x : Nat} (h : yl_A fi fo a_first a_follow) : yl_A fi (un fo B x) a_first (upd a_follow B (nI x)) := by
  intro A hA
  refine ⟨(h A hA).1, ?_⟩
  by_cases e : A = B
  · subst e; rw [pk_us, un_s]
  · rw [pk_un e, un_n e]; exact (h A hA).2
theorem yl_A_i {fi fo : Nat → Nat} {a_first a_follow : Nat → Int32} {B x : Nat} (h : yl_A fi fo a_first a_follow) : yl_A (un fi B x) fo (upd a_first B (nI x)) a_follow := by
  intro A hA
  refine ⟨?_, (h A hA).2⟩
  by_cases e : A = B
  · subst e; rw [pk_us, un_s]
  · rw [pk_un e, un_n e]; exact (h A hA).1
/-- FIRST of a list by the masks is sound -/
theorem yl_sF {G : gg_T} {so em : Nat} {fi fo : Nat → Nat} (hG : gg_ok G) (hS : yl_S G so em fi fo) {p m t : Nat} (h : gg_fl (yl_em em) (yl_fi fi t) t (gg_sl G p m)) : gg_FL G t (gg_sl G p m) :=
  gg_fl_lt2 _ (fun y hy => gg_sl_lt hG hy) (fun A _ x => hS.2.1.2 A x) (fun A hA x => (hS.2.2.1 A hA).2 t x) h
theorem yl_sN {G : gg_T} {so em : Nat} {fi fo : Nat → Nat} (hS : yl_S G so em fi fo) {p m : Nat} (h : gg_nl (yl_em em) (gg_sl G p m)) : gg_NL G (gg_sl G p m) :=
  gg_nl_mono (fun A x => hS.2.1.2 A x) _ h
section YB
variable {G : gg_T} {f_built f_some f_empty f_wn f_nt : Int32} {a_first a_follow a_kind a_val a_len a_word a_reach a_beyond a_way a_known a_bad a_part a_scopes a_inner a_tRule a_tFrom a_tTo a_before : Nat → Int32} {so em : Nat} {fi fo : Nat → Nat}
theorem yb_159 {post : SY → Prop} {p em1 : Nat} {fo1 : Nat → Nat} (hG : gg_ok G) (hp : p < gg_np G) (hS : yl_S G so em1 fi fo1) (hA : yl_A fi fo1 a_first a_follow)
    (hP : ∀ a_first fi1, yl_S G so em1 fi1 fo1 → yl_A fi1 fo1 a_first a_follow → (∀ A t, A < 6 → (fi A).testBit t = true → (fi1 A).testBit t = true) → (∀ t, gg_fl (yl_em em1) (yl_fi fi t) t (gg_sl G p 0) → (fi1 (gg_ru G p)).testBit t = true) →
      post (nI (gg_np G), f_built, nI so, nI em1, f_wn, f_nt, nA (gg_ru G), nA (gg_sc G), nA (gg_ln G), nA (gg_sy G), gg_ro G, a_first, a_follow, a_kind, a_val, a_len, a_word, a_reach, a_beyond, a_way, a_known, a_bad, a_part, a_scopes, a_inner, a_tRule, a_tFrom, a_tTo, a_before)) : wY_learn_159 post (nI p) (nI (gg_ru G p)) (nI (gg_np G)) f_built (nI so) (nI em1) f_wn f_nt (nA (gg_ru G)) (nA (gg_sc G)) (nA (gg_ln G)) (nA (gg_sy G)) (gg_ro G) a_first a_follow a_kind a_val a_len a_word a_reach a_beyond a_way a_known a_bad a_part a_scopes a_inner a_tRule a_tFrom a_tTo a_before := by
  have hr := hG.2.1 p
  have h14 := hG.1
  unfold wY_learn_159
  refine ⟨pk_in (gg_ru G p) 6 hr, yl_first (fi := fi) (m := 0) hG (by omega) (Nat.zero_le _) hS.2.1.1 (fun A hA' => ⟨(hA A hA').1, (hS.2.2.1 A hA').1⟩) ?_⟩
  intro r hr1 hr2
  rw [nI_clamp (show gg_ru G p < 2 ^ 31 by omega), (hA _ hr).1, nb_or]
  refine ⟨pk_in (gg_ru G p) 6 hr, nm_e (hP _ (un fi (gg_ru G p) (fi (gg_ru G p) ||| r)) ⟨hS.1, hS.2.1, fun A hA' => ?_, hS.2.2.2⟩ (yl_A_i hA) (fun A t hA' x => ?_) (fun t x => ?_))⟩
  · by_cases e : A = gg_ru G p
    · subst e
      rw [un_s]
      refine ⟨nb_orlt (hS.2.2.1 _ hA').1 hr1, fun t x => ?_⟩
      rcases nb_or_t.mp x with x | x
      · exact (hS.2.2.1 _ hA').2 t x
      · exact gg_Fi_i hp (yl_sF hG hS ((hr2 t).mp x))
    · rw [un_n e]; exact hS.2.2.1 A hA'
  · by_cases e : A = gg_ru G p
    · subst e; rw [un_s]; exact nb_or_t.mpr (Or.inl x)
    · rw [un_n e]; exact x
  · rw [un_s]; exact nb_or_t.mpr (Or.inr ((hr2 t).mpr x))
theorem yb_138 {post : SY → Prop} {p so1 : Nat} {fo1 : Nat → Nat} (hG : gg_ok G) (hp : p < gg_np G) (hS : yl_S G so1 em fi fo1) (hA : yl_A fi fo1 a_first a_follow)
    (hP : ∀ em1 a_first fi1, yl_S G so1 em1 fi1 fo1 → yl_A fi1 fo1 a_first a_follow → (∀ A, em.testBit A = true → em1.testBit A = true) → (∀ A t, A < 6 → (fi A).testBit t = true → (fi1 A).testBit t = true) →
      (gg_nl (yl_em em) (gg_sl G p 0) → em1.testBit (gg_ru G p) = true) → (∀ t, gg_fl (yl_em em) (yl_fi fi t) t (gg_sl G p 0) → (fi1 (gg_ru G p)).testBit t = true) → post (nI (gg_np G), f_built, nI so1, nI em1, f_wn, f_nt, nA (gg_ru G), nA (gg_sc G), nA (gg_ln G), nA (gg_sy G), gg_ro G, a_first, a_follow, a_kind, a_val, a_len, a_word, a_reach, a_beyond, a_way, a_known, a_bad, a_part, a_scopes, a_inner, a_tRule, a_tFrom, a_tTo, a_before)) :
    wY_learn_138 post (nI p) (nI (gg_ru G p)) (nI (gg_np G)) f_built (nI so1) (nI em) f_wn f_nt (nA (gg_ru G)) (nA (gg_sc G)) (nA (gg_ln G)) (nA (gg_sy G)) (gg_ro G) a_first a_follow a_kind a_val a_len a_word a_reach a_beyond a_way a_known a_bad a_part a_scopes a_inner a_tRule a_tFrom a_tTo a_before := by
  have hr := hG.2.1 p
  have h14 := hG.1
  unfold wY_learn_138
  refine yl_empty (m := 0) hG (by omega) (Nat.zero_le _) hS.2.1.1 (fun hn => ?_) (fun hn => ?_)
  · refine br_f (by decide) ?_
    rw [nb_sh (by omega), nb_or]
    have hS' : yl_S G so1 (em ||| 2 ^ gg_ru G p) fi fo1 := by
      refine ⟨hS.1, ⟨nb_orlt hS.2.1.1 (Nat.pow_lt_pow_right (by omega) hr), fun A x => ?_⟩, hS.2.2⟩
      rcases nb_or_t.mp x with x | x
      · exact hS.2.1.2 A x
      · rw [nb_p_t.mp x]; exact gg_Nu_i hp (yl_sN hS hn)
    have hem : ∀ A, em.testBit A = true → (em ||| 2 ^ gg_ru G p).testBit A = true := fun A x => nb_or_t.mpr (Or.inl x)
    refine nm_e (yb_159 hG hp hS' hA ?_)
    intro a_first' fi1 g1 g2 g3 g4
    exact hP _ a_first' fi1 g1 g2 hem g3 (fun _ => nb_or_t.mpr (Or.inr (nb_p_t.mpr rfl))) (fun t x => g4 t (gg_fl_mono hem (fun _ h => h) _ x))
  · refine br_t rfl (yb_159 hG hp hS hA ?_)
    intro a_first' fi1 g1 g2 g3 g4
    exact hP em a_first' fi1 g1 g2 (fun _ h => h) g3 (fun h => absurd h hn) g4
def yb_fo (G : gg_T) (p em : Nat) (fi fo fo1 : Nat → Nat) (m : Nat) : Prop :=
  ∀ m' A t, m' < m → gg_sy G (4 * p + m') = A + 10 → (gg_fl (yl_em em) (yl_fi fi t) t (gg_sl G p (m' + 1)) → (fo1 A).testBit t = true) ∧ (gg_nl (yl_em em) (gg_sl G p (m' + 1)) → (fo (gg_ru G p)).testBit t = true → (fo1 A).testBit t = true)
theorem yb_63 {post : SY → Prop} {J : Int32 → Int32 → (Nat → Int32) → (Nat → Int32) → (Nat → Int32) → (Nat → Int32) → (Nat → Int32) → (Nat → Int32) → (Nat → Int32) → (Nat → Int32) → (Nat → Int32) → (Nat → Int32) → (Nat → Int32) → (Nat → Int32) → (Nat → Int32) → (Nat → Int32) → (Nat → Int32) → (Nat → Int32) → (Nat → Int32) → (Nat → Int32) → (Nat → Int32) → (Nat → Int32) → (Nat → Int32) → (Nat → Int32) → (Nat → Int32) →  Prop} {p m : Nat} {al : Int32} {fo1 : Nat → Nat} (hG : gg_ok G) (hp : p < gg_np G) (hm : m < gg_ln G p) (hx : 10 ≤ gg_sy G (4 * p + m)) (hS : yl_S G so em fi fo1) (hA : yl_A fi fo1 a_first a_follow)
    (hle : ∀ A t, A < 6 → (fo A).testBit t = true → (fo1 A).testBit t = true) (hfo : yb_fo G p em fi fo fo1 m)
    (hJ : ∀ a_follow fo1, yl_S G so em fi fo1 → yl_A fi fo1 a_first a_follow → (∀ A t, A < 6 → (fo A).testBit t = true → (fo1 A).testBit t = true) → yb_fo G p em fi fo fo1 (m + 1) → J al (nI (m + 1)) (nA (gg_ru G)) (nA (gg_sc G)) (nA (gg_ln G)) (nA (gg_sy G)) (gg_ro G) a_first a_follow a_kind a_val a_len a_word a_reach a_beyond a_way a_known a_bad a_part a_scopes a_inner a_tRule a_tFrom a_tTo a_before) :
    wY_learn_63 post J (nI p) (nI (gg_ru G p)) al (nI m) (nI (gg_sy G (4 * p + m))) (nI (gg_np G)) f_built (nI so) (nI em) f_wn f_nt (nA (gg_ru G)) (nA (gg_sc G)) (nA (gg_ln G)) (nA (gg_sy G)) (gg_ro G) a_first a_follow a_kind a_val a_len a_word a_reach a_beyond a_way a_known a_bad a_part a_scopes a_inner a_tRule a_tFrom a_tTo a_before := by
  have hr := hG.2.1 p
  have h14 := hG.1
  have h16 := hG.2.2.2.1 (4 * p + m)
  obtain ⟨B, hB⟩ : ∃ B, gg_sy G (4 * p + m) = B + 10 := ⟨gg_sy G (4 * p + m) - 10, by omega⟩
  have hB6 : B < 6 := by omega
  have es : nI (gg_sy G (4 * p + m)) - 10 = nI B := by rw [hB]; exact (pk_sub (a := B + 10) (b := 10) (by omega)).trans (by rw [Nat.add_sub_cancel])
  have em1 : nI m + 1 = nI (m + 1) := nI_1 m
  unfold wY_learn_63
  rw [es, em1]
  refine ⟨pk_in B 6 hB6, yl_first (fi := fi) hG (by omega) (by omega) hS.2.1.1 (fun A hA' => ⟨(hA A hA').1, (hS.2.2.1 A hA').1⟩) ?_⟩
  intro r hr1 hr2
  rw [nI_clamp (show B < 2 ^ 31 by omega), nI_clamp (show gg_ru G p < 2 ^ 31 by omega), (hA B hB6).2, nb_or]
  have hS1 : yl_S G so em fi (un fo1 B (fo1 B ||| r)) := by
    refine ⟨hS.1, hS.2.1, hS.2.2.1, fun A hA' => ?_⟩
    by_cases e : A = B
    · subst e
      rw [un_s]
      refine ⟨nb_orlt (hS.2.2.2 _ hA').1 (nb_lt_of hr1 (by omega)), fun t x => ?_⟩
      rcases nb_or_t.mp x with x | x
      · exact (hS.2.2.2 _ hA').2 t x
      · exact gg_Fo_f hp hm hB (yl_sF hG hS ((hr2 t).mp x))
    · rw [un_n e]; exact hS.2.2.2 A hA'
  have hup : ∀ y A t, (fo1 A).testBit t = true → (un fo1 B (fo1 B ||| y) A).testBit t = true := by
    intro y A t x
    by_cases e : A = B
    · subst e; rw [un_s]; exact nb_or_t.mpr (Or.inl x)
    · rw [un_n e]; exact x
  have hfo1 : ∀ m' A t, m' < m + 1 → gg_sy G (4 * p + m') = A + 10 → (gg_fl (yl_em em) (yl_fi fi t) t (gg_sl G p (m' + 1)) → (un fo1 B (fo1 B ||| r) A).testBit t = true) := by
    intro m' A t hm' hA' x
    by_cases e : m' = m
    · subst e
      have e2 : A = B := by omega
      subst e2
      rw [un_s]
      exact nb_or_t.mpr (Or.inr ((hr2 t).mpr x))
    · exact hup _ _ _ ((hfo m' A t (by omega) hA').1 x)
  refine ⟨pk_in B 6 hB6, nm_e ?_⟩
  refine yl_empty hG (by omega) (by omega) hS.2.1.1 (fun hn => ?_) (fun hn => ?_)
  · refine br_f (by decide) ?_
    have hA1 : yl_A fi (un fo1 B (fo1 B ||| r)) a_first (upd a_follow B (nI (fo1 B ||| r))) := yl_A_f hA
    rw [(hA1 B hB6).2, (hA1 _ hr).2, nb_or]
    refine ⟨pk_in B 6 hB6, pk_in (gg_ru G p) 6 hr, pk_in B 6 hB6, nm_e (nm_e ?_)⟩
    have hup2 : ∀ y A t, (un fo1 B (fo1 B ||| r) A).testBit t = true → (un (un fo1 B (fo1 B ||| r)) B (un fo1 B (fo1 B ||| r) B ||| y) A).testBit t = true := by
      intro y A t x
      by_cases e : A = B
      · subst e; rw [un_s]; exact nb_or_t.mpr (Or.inl x)
      · rw [un_n e]; exact x
    refine hJ _ _ ⟨hS1.1, hS1.2.1, hS1.2.2.1, fun A hA' => ?_⟩ (yl_A_f hA1) (fun A t hA' x => hup2 _ _ _ (hup _ _ _ (hle A t hA' x))) (fun m' A t hm' hA' => ⟨fun x => hup2 _ _ _ (hfo1 m' A t hm' hA' x), fun x y => ?_⟩)
    · by_cases e : A = B
      · subst e
        rw [un_s]
        refine ⟨nb_orlt (hS1.2.2.2 _ hA').1 (hS1.2.2.2 _ hr).1, fun t x => ?_⟩
        rcases nb_or_t.mp x with x | x
        · exact (hS1.2.2.2 _ hA').2 t x
        · exact gg_Fo_n hp hm hB (yl_sN hS hn) ((hS1.2.2.2 _ hr).2 t x)
      · rw [un_n e]; exact hS1.2.2.2 A hA'
    · by_cases e : m' = m
      · subst e
        have e2 : A = B := by omega
        subst e2
        rw [un_s]
        exact nb_or_t.mpr (Or.inr (hup _ _ _ (hle _ t hr y)))
      · exact hup2 _ _ _ (hup _ _ _ ((hfo m' A t (by omega) hA').2 x y))
  · refine br_t rfl (nm_e (hJ _ _ hS1 (yl_A_f hA) (fun A t hA' x => hup _ _ _ (hle A t hA' x)) (fun m' A t hm' hA' => ⟨hfo1 m' A t hm' hA', fun x y => ?_⟩)))
    by_cases e : m' = m
    · subst e; exact absurd x hn
    · exact hup _ _ _ ((hfo m' A t (by omega) hA').2 x y)
theorem yb_12 {post : SY → Prop} {p : Nat} (hG : gg_ok G) (hp : p < gg_np G)
    (hP : ∀ so1 em1 a_first a_follow fi1 fo1, yl_S G so1 em1 fi1 fo1 → yl_A fi1 fo1 a_first a_follow → yl_le so em fi fo so1 em1 fi1 fo1 → yl_G G p so em fi fo so1 em1 fi1 fo1 → post (nI (gg_np G), f_built, nI so1, nI em1, f_wn, f_nt, nA (gg_ru G), nA (gg_sc G), nA (gg_ln G), nA (gg_sy G), gg_ro G, a_first, a_follow, a_kind, a_val, a_len, a_word, a_reach, a_beyond, a_way, a_known, a_bad, a_part, a_scopes, a_inner, a_tRule, a_tFrom, a_tTo, a_before)) :
    ∀ d m al a_follow fo1, m + d = gg_ln G p → al ≤ 1 → ((al = 1 ∧ gg_pl (yl_em so) (gg_sl G p m)) ↔ gg_pl (yl_em so) (gg_sl G p 0)) → yl_S G so em fi fo1 → yl_A fi fo1 a_first a_follow → (∀ A t, A < 6 → (fo A).testBit t = true → (fo1 A).testBit t = true) → yb_fo G p em fi fo fo1 m →
      wY_learn_12 post (nI p) (nI (gg_ru G p)) (nI (gg_np G)) f_built (nI so) (nI em) f_wn f_nt (d + 1) (nI al) (nI m) (nA (gg_ru G)) (nA (gg_sc G)) (nA (gg_ln G)) (nA (gg_sy G)) (gg_ro G) a_first a_follow a_kind a_val a_len a_word a_reach a_beyond a_way a_known a_bad a_part a_scopes a_inner a_tRule a_tFrom a_tTo a_before := by
  have hr := hG.2.1 p
  have h14 := hG.1
  have hl := hG.2.2.1 p
  intro d
  induction d with
  | zero =>
    intro m al a_follow fo1 hm hal hpl hS hA hle hfo
    have e : m = gg_ln G p := by omega
    refine ⟨pk_in p 14 (by omega), ?_⟩
    rw [nA_cl (show p < 2 ^ 31 by omega)]
    refine pk_le (gg_ln G p) m (fun _ => ?_) (fun h => absurd h (by omega))
    rw [e] at hpl hfo
    rw [gg_sl_n (Nat.le_refl _)] at hpl
    refine pk_eq al 0 (fun h0 => ?_) (fun h0 => ?_)
    · refine yb_138 hG hp hS hA ?_
      intro em1 a_first' fi1 g1 g2 g3 g4 g5 g6
      exact hP so em1 a_first' a_follow fi1 fo1 g1 g2 ⟨fun _ h => h, g3, g4, hle⟩ ⟨fun h => by have := hpl.mpr h; omega, g5, g6, hfo⟩
    · have hall := hpl.mp ⟨by omega, trivial⟩
      rw [nb_sh (by omega), nb_or]
      refine nm_e (yb_138 (so1 := so ||| 2 ^ gg_ru G p) hG hp ⟨⟨nb_orlt hS.1.1 (Nat.pow_lt_pow_right (by omega) hr), fun A x => ?_⟩, hS.2⟩ hA ?_)
      · rcases nb_or_t.mp x with x | x
        · exact hS.1.2 A x
        · rw [nb_p_t.mp x]; exact gg_Pr_i hp (gg_pl_mono (fun A x => hS.1.2 A x) _ hall)
      · intro em1 a_first' fi1 g1 g2 g3 g4 g5 g6
        exact hP _ em1 a_first' a_follow fi1 fo1 g1 g2 ⟨fun _ h => nb_or_t.mpr (Or.inl h), g3, g4, hle⟩ ⟨fun _ => nb_or_t.mpr (Or.inr (nb_p_t.mpr rfl)), g5, g6, hfo⟩
  | succ d ih =>
    intro m al a_follow fo1 hm hal hpl hS hA hle hfo
    have h16 := hG.2.2.2.1 (4 * p + m)
    refine ⟨pk_in p 14 (by omega), ?_⟩
    rw [nA_cl (show p < 2 ^ 31 by omega)]
    refine pk_le (gg_ln G p) m (fun h => absurd h (by omega)) (fun hml => ?_)
    have e1 : (4 : Int32) * nI p + nI m = nI (4 * p + m) := by rw [show (4 : Int32) = nI 4 from rfl, pk_mul, nI_add]
    rw [e1, nA_cl (show 4 * p + m < 2 ^ 31 by omega)]
    refine ⟨pk_in (4 * p + m) 56 (by omega), nm_e ?_⟩
    rw [gg_sl_c hml] at hpl
    refine pk_le 10 (gg_sy G (4 * p + m)) (fun hx => ?_) (fun hx => nm_r (nI_1 m) ?_)
    · have es : nI (gg_sy G (4 * p + m)) - 10 = nI (gg_sy G (4 * p + m) - 10) := pk_sub (b := 10) (by omega)
      rw [es]
      refine nb_b0 so (gg_sy G (4 * p + m) - 10) (fun hb => ?_) (fun hb => ?_) (by have := hS.1.1; omega) (by omega)
      · refine yb_63 (fo := fo) hG hp hml hx hS hA hle hfo ?_
        intro a_follow' fo2 g1 g2 g3 g4
        refine ih (m + 1) 0 a_follow' fo2 (by omega) (by omega) ⟨fun h => by omega, fun h => ?_⟩ g1 g2 g3 g4
        have := (hpl.mpr h).2.1 hx
        unfold yl_em at this
        rw [hb] at this
        cases this
      · refine yb_63 (fo := fo) hG hp hml hx hS hA hle hfo ?_
        intro a_follow' fo2 g1 g2 g3 g4
        refine ih (m + 1) al a_follow' fo2 (by omega) hal ⟨fun h => hpl.mp ⟨h.1, fun _ => hb, h.2⟩, fun h => ⟨(hpl.mpr h).1, (hpl.mpr h).2.2⟩⟩ g1 g2 g3 g4
    · refine ih (m + 1) al a_follow fo1 (by omega) hal ⟨fun h => hpl.mp ⟨h.1, fun h' => absurd h' (by omega), h.2⟩, fun h => ⟨(hpl.mpr h).1, (hpl.mpr h).2.2⟩⟩ hS hA hle (fun m' A t hm' hA' => ?_)
      by_cases e : m' = m
      · subst e; omega
      · exact hfo m' A t (by omega) hA'
theorem yb_learn {post : SY → Prop} {p : Nat} (hG : gg_ok G) (hp : p < gg_np G) (hS : yl_S G so em fi fo) (hA : yl_A fi fo a_first a_follow)
    (hP : ∀ so1 em1 a_first a_follow fi1 fo1, yl_S G so1 em1 fi1 fo1 → yl_A fi1 fo1 a_first a_follow → yl_le so em fi fo so1 em1 fi1 fo1 → yl_G G p so em fi fo so1 em1 fi1 fo1 → post (nI (gg_np G), f_built, nI so1, nI em1, f_wn, f_nt, nA (gg_ru G), nA (gg_sc G), nA (gg_ln G), nA (gg_sy G), gg_ro G, a_first, a_follow, a_kind, a_val, a_len, a_word, a_reach, a_beyond, a_way, a_known, a_bad, a_part, a_scopes, a_inner, a_tRule, a_tFrom, a_tTo, a_before)) :
    wpY_learn post (nI (gg_np G), f_built, nI so, nI em, f_wn, f_nt, nA (gg_ru G), nA (gg_sc G), nA (gg_ln G), nA (gg_sy G), gg_ro G, a_first, a_follow, a_kind, a_val, a_len, a_word, a_reach, a_beyond, a_way, a_known, a_bad, a_part, a_scopes, a_inner, a_tRule, a_tFrom, a_tTo, a_before) (nI p) := by
  have h14 := hG.1
  unfold wpY_learn
  dsimp only
  rw [nA_cl (show p < 2 ^ 31 by omega)]
  refine ⟨pk_in p 14 (by omega), nm_e ⟨gg_ln G p + 1, yb_12 hG hp hP (gg_ln G p) 0 1 a_follow fo (by omega) (by omega) ⟨fun h => h.2, fun h => ⟨rfl, h⟩⟩ hS hA (fun _ _ _ h => h) (fun m' A t h => by omega)⟩⟩
end YB
end
section
/-! what build answers -/
def gg_us (G : gg_T) (k : Nat) : Prop := k = 0 ∨ ∃ p, p < gg_np G ∧ (gg_ru G p = k ∨ ∃ m, m < gg_ln G p ∧ gg_sy G (4 * p + m) = k + 10)
def gg_cf (G : gg_T) (q : Nat) : Prop := ∃ p t, p < q ∧ gg_ru G p = gg_ru G q ∧ t ≤ 10 ∧ gg_Pd G t p ∧ gg_Pd G t q
def gg_bP (G : gg_T) (k : Nat) : Prop := k < 6 ∧ (gg_us G k ∧ ¬ gg_Pr G k) ∧ ∀ k', k' < k → gg_us G k' → gg_Pr G k'
def gg_bC (G : gg_T) (q : Nat) : Prop := (∀ k, k < 6 → gg_us G k → gg_Pr G k) ∧ q < gg_np G ∧ gg_cf G q ∧ ∀ q', q' < q → ¬ gg_cf G q'
def gg_bO (G : gg_T) : Prop := (∀ k, k < 6 → gg_us G k → gg_Pr G k) ∧ ∀ q, q < gg_np G → ¬ gg_cf G q
theorem gg_bO_LL {G : gg_T} (h : gg_bO G) : gg_LL G := by
  intro t A p q ht hp hq
  rcases Nat.lt_trichotomy p q with hl | hl | hl
  · exact absurd ⟨p, t, hl, hp.2.1.trans hq.2.1.symm, ht, hp.2.2, hq.2.2⟩ (h.2 q hq.1)
  · exact hl
  · exact absurd ⟨q, t, hl, hq.2.1.trans hp.2.1.symm, ht, hq.2.2, hp.2.2⟩ (h.2 p hp.1)
theorem nb_3 {u s k : Nat} (hk : k < 32) : ((nI u &&& (nI s ^^^ (-1))) &&& ((1 : Int32) <<< (nI k &&& 31))) = 0 ↔ ¬ (u.testBit k = true ∧ ¬ s.testBit k = true) := by
  have hb : ∀ i, i < 32 → bt ((nI u &&& (nI s ^^^ (-1))) &&& ((1 : Int32) <<< (nI k &&& 31))) i = (u.testBit i && !s.testBit i && decide (k = i)) := by
    intro i hi
    rw [b_and, b_and, b_xor, nb_sh hk, nb_tb u hi, nb_tb s hi, nb_tb _ hi, b_m1 i hi, Nat.testBit_two_pow, Bool.xor_true]
  constructor
  · intro h ⟨h1, h2⟩
    have := hb k hk
    rw [h, b_0, h1] at this
    have h2 : s.testBit k = false := by
      cases e : s.testBit k with
      | false => rfl
      | true => exact absurd e h2
    rw [h2, decide_eq_true rfl] at this
    cases this
  · intro h
    apply b_ext
    intro i hi
    rw [hb i hi, b_0]
    by_cases e : k = i
    · subst e
      cases e1 : u.testBit k with
      | false => rfl
      | true =>
        cases e2 : s.testBit k with
        | true => simp
        | false => exact absurd ⟨e1, by rw [e2]; decide⟩ h
    · rw [decide_eq_false e, Bool.and_false]
theorem nb_dis {x y : Nat} (hx : x < 2 ^ 11) (hy : y < 2 ^ 11) : (nI x &&& nI y : Int32) = 0 ↔ ¬ ∃ t, x.testBit t = true ∧ y.testBit t = true := by
  have hxy : x &&& y < 2 ^ 11 := Nat.and_lt_two_pow x hy
  rw [nx_and, ← nI_0, nI_eq (by omega) (by omega)]
  constructor
  · intro h ⟨t, h1, h2⟩
    have : (x &&& y).testBit t = true := by rw [Nat.testBit_and, h1, h2]; rfl
    rw [h] at this
    exact nb_0_t this
  · intro h
    apply nb_ext
    intro t
    rw [Nat.testBit_and, Bool.and_eq_true]
    exact ⟨fun h' => absurd ⟨t, h'⟩ h, fun h' => absurd h' nb_0_t⟩
section YC
variable {G : gg_T} {f_built f_some f_empty f_wn f_nt : Int32} {a_first a_follow a_kind a_val a_len a_word a_reach a_beyond a_way a_known a_bad a_part a_scopes a_inner a_tRule a_tFrom a_tTo a_before : Nat → Int32} {so em : Nat} {fi fo : Nat → Nat}
theorem yc_FL (hG : gg_ok G) (hE : yl_E G so em fi fo) {t : Nat} {p m : Nat} : gg_fl (yl_em em) (yl_fi fi t) t (gg_sl G p m) ↔ gg_FL G t (gg_sl G p m) :=
  ⟨gg_fl_lt2 _ (fun y hy => gg_sl_lt hG hy) (fun A hA x => (hE.2.1.2 A hA).mp x) (fun A hA x => ((hE.2.2.1 A hA).2 t).mp x),
   gg_fl_lt2 _ (fun y hy => gg_sl_lt hG hy) (fun A hA x => (hE.2.1.2 A hA).mpr x) (fun A hA x => ((hE.2.2.1 A hA).2 t).mpr x)⟩
theorem yc_NL (hG : gg_ok G) (hE : yl_E G so em fi fo) {p m : Nat} : gg_nl (yl_em em) (gg_sl G p m) ↔ gg_NL G (gg_sl G p m) :=
  ⟨gg_nl_lt _ (fun y hy => gg_sl_lt hG hy) (fun A hA x => (hE.2.1.2 A hA).mp x), gg_nl_lt _ (fun y hy => gg_sl_lt hG hy) (fun A hA x => (hE.2.1.2 A hA).mpr x)⟩
theorem yc_pred {post : Int32 → Prop} {p : Nat} (hG : gg_ok G) (hp : p < gg_np G) (hE : yl_E G so em fi fo) (hA : yl_A fi fo a_first a_follow)
    (hP : ∀ r, r < 2 ^ 11 → (∀ t, r.testBit t = true ↔ gg_Pd G t p) → post (nI r)) : wpY_predict post (nI (gg_np G), f_built, nI so, nI em, f_wn, f_nt, nA (gg_ru G), nA (gg_sc G), nA (gg_ln G), nA (gg_sy G), gg_ro G, a_first, a_follow, a_kind, a_val, a_len, a_word, a_reach, a_beyond, a_way, a_known, a_bad, a_part, a_scopes, a_inner, a_tRule, a_tFrom, a_tTo, a_before) (nI p) := by
  have hr := hG.2.1 p
  have h14 := hG.1
  unfold wpY_predict
  dsimp only
  refine yl_first (fi := fi) (m := 0) hG (by omega) (Nat.zero_le _) hE.2.1.1 (fun A hA' => ⟨(hA A hA').1, (hE.2.2.1 A hA').1⟩) ?_
  intro r hr1 hr2
  refine yl_empty (m := 0) hG (by omega) (Nat.zero_le _) hE.2.1.1 (fun hn => ?_) (fun hn => ?_)
  · refine br_f (by decide) ?_
    rw [nA_cl (show p < 2 ^ 31 by omega), nI_clamp (show gg_ru G p < 2 ^ 31 by omega), (hA _ hr).2, nb_or]
    refine ⟨pk_in p 14 (by omega), pk_in (gg_ru G p) 6 hr, hP _ (nb_orlt (nb_lt_of hr1 (by omega)) (hE.2.2.2 _ hr).1) (fun t => ?_)⟩
    rw [nb_or_t, hr2 t, yc_FL hG hE, (hE.2.2.2 _ hr).2 t]
    exact ⟨fun h => h.elim Or.inl (fun h => Or.inr ⟨(yc_NL hG hE).mp hn, h⟩), fun h => h.elim Or.inl (fun h => Or.inr h.2)⟩
  · refine br_t rfl ?_
    rw [show (0 : Int32) = nI 0 from rfl, nb_or, Nat.or_zero]
    refine hP _ (nb_lt_of hr1 (by omega)) (fun t => ?_)
    rw [hr2 t, yc_FL hG hE]
    exact ⟨Or.inl, fun h => h.elim (fun h => h) (fun h => absurd ((yc_NL hG hE).mpr h.1) hn)⟩
theorem yc_218 {post : Int32 → SY → Prop} {J : Int32 → Prop} {q : Nat} (hG : gg_ok G) (hq : q < gg_np G) (hE : yl_E G so em fi fo) (hA : yl_A fi fo a_first a_follow)
    (hC : gg_cf G q → post (nI (32 + q)) (nI (gg_np G), f_built, nI so, nI em, f_wn, f_nt, nA (gg_ru G), nA (gg_sc G), nA (gg_ln G), nA (gg_sy G), gg_ro G, a_first, a_follow, a_kind, a_val, a_len, a_word, a_reach, a_beyond, a_way, a_known, a_bad, a_part, a_scopes, a_inner, a_tRule, a_tFrom, a_tTo, a_before)) (hJ : ¬ gg_cf G q → J (nI (q + 1))) :
    ∀ d p, p + d = q → (∀ p' t, p' < p → gg_ru G p' = gg_ru G q → t ≤ 10 → gg_Pd G t p' → ¬ gg_Pd G t q) → wY_build_218 post J (nI q) (nI (gg_np G)) f_built (nI so) (nI em) f_wn f_nt (nA (gg_ru G)) (nA (gg_sc G)) (nA (gg_ln G)) (nA (gg_sy G)) (gg_ro G) a_first a_follow a_kind a_val a_len a_word a_reach a_beyond a_way a_known a_bad a_part a_scopes a_inner a_tRule a_tFrom a_tTo a_before (d + 1) (nI p) := by
  have h14 := hG.1
  intro d
  induction d with
  | zero =>
    intro p hp hno
    have e : p = q := by omega
    subst e
    refine pk_le p p (fun _ => nm_r (nI_1 p) (hJ (fun ⟨p', t, h1, h2, h3, h4, h5⟩ => hno p' t h1 h2 h3 h4 h5))) (fun h => absurd h (by omega))
  | succ d ih =>
    intro p hp hno
    have h6 := hG.2.1 p
    have h6q := hG.2.1 q
    refine pk_le q p (fun h => absurd h (by omega)) (fun hpq => ⟨pk_in p 14 (by omega), pk_in q 14 (by omega), ?_⟩)
    rw [nA_cl (show p < 2 ^ 31 by omega), nA_cl (show q < 2 ^ 31 by omega)]
    refine pk_eq (gg_ru G p) (gg_ru G q) (fun hr => ?_) (fun hr => ?_)
    · refine yc_pred hG (by omega) hE hA ?_
      intro r1 h1 h2
      refine yc_pred hG hq hE hA ?_
      intro r2 g1 g2
      by_cases hd : ∃ t, r1.testBit t = true ∧ r2.testBit t = true
      · refine br_f (fun h => (nb_dis h1 g1).mp h hd) ?_
        obtain ⟨t, t1, t2⟩ := hd
        have ht := nb_ge h1 t1
        have e : (32 : Int32) + nI q = nI (32 + q) := nI_add 32 q
        rw [e]
        exact hC ⟨p, t, hpq, hr, by omega, (h2 t).mp t1, (g2 t).mp t2⟩
      · refine br_t ((nb_dis h1 g1).mpr hd) (nm_r (nI_1 p) (ih (p + 1) (by omega) (fun p' t hp' hr' ht h3 h4 => ?_)))
        by_cases e : p' = p
        · subst e; exact hd ⟨t, (h2 t).mpr h3, (g2 t).mpr h4⟩
        · exact hno p' t (by omega) hr' ht h3 h4
    · refine nm_r (nI_1 p) (ih (p + 1) (by omega) (fun p' t hp' hr' ht h3 h4 => ?_))
      by_cases e : p' = p
      · subst e; exact hr hr'
      · exact hno p' t (by omega) hr' ht h3 h4
theorem yc_208 {post : Int32 → SY → Prop} (hG : gg_ok G) (hE : yl_E G so em fi fo) (hA : yl_A fi fo a_first a_follow) (hpr : ∀ k, k < 6 → gg_us G k → gg_Pr G k)
    (hC : ∀ q, gg_bC G q → post (nI (32 + q)) (nI (gg_np G), f_built, nI so, nI em, f_wn, f_nt, nA (gg_ru G), nA (gg_sc G), nA (gg_ln G), nA (gg_sy G), gg_ro G, a_first, a_follow, a_kind, a_val, a_len, a_word, a_reach, a_beyond, a_way, a_known, a_bad, a_part, a_scopes, a_inner, a_tRule, a_tFrom, a_tTo, a_before)) (hO : gg_bO G → post 0 (nI (gg_np G), 1, nI so, nI em, f_wn, f_nt, nA (gg_ru G), nA (gg_sc G), nA (gg_ln G), nA (gg_sy G), gg_ro G, a_first, a_follow, a_kind, a_val, a_len, a_word, a_reach, a_beyond, a_way, a_known, a_bad, a_part, a_scopes, a_inner, a_tRule, a_tFrom, a_tTo, a_before)) :
    ∀ d q, q + d = gg_np G → (∀ q', q' < q → ¬ gg_cf G q') → wY_build_208 post (nI (gg_np G)) f_built (nI so) (nI em) f_wn f_nt (nA (gg_ru G)) (nA (gg_sc G)) (nA (gg_ln G)) (nA (gg_sy G)) (gg_ro G) a_first a_follow a_kind a_val a_len a_word a_reach a_beyond a_way a_known a_bad a_part a_scopes a_inner a_tRule a_tFrom a_tTo a_before (d + 1) (nI q) := by
  have h14 := hG.1
  intro d
  induction d with
  | zero =>
    intro q hq hno
    refine pk_le (gg_np G) q (fun _ => hO ⟨hpr, fun q' hq' => hno q' (by omega)⟩) (fun h => absurd h (by omega))
  | succ d ih =>
    intro q hq hno
    refine pk_le (gg_np G) q (fun h => absurd h (by omega)) (fun hqn => ⟨q + 1, ?_⟩)
    refine yc_218 hG hqn hE hA (fun hc => hC q ⟨hpr, hqn, hc, hno⟩) (fun hn => ih (q + 1) (by omega) (fun q' hq' => ?_)) q 0 (by omega) (fun p' t hp' => by omega)
    by_cases e : q' = q
    · subst e; exact hn
    · exact hno q' (by omega)
theorem yc_174 {post : Int32 → SY → Prop} {us : Nat} (hG : gg_ok G) (hE : yl_E G so em fi fo) (hA : yl_A fi fo a_first a_follow) (hus : ∀ k, k < 6 → (us.testBit k = true ↔ gg_us G k))
    (hP : ∀ k, gg_bP G k → post (nI (16 + k)) (nI (gg_np G), f_built, nI so, nI em, f_wn, f_nt, nA (gg_ru G), nA (gg_sc G), nA (gg_ln G), nA (gg_sy G), gg_ro G, a_first, a_follow, a_kind, a_val, a_len, a_word, a_reach, a_beyond, a_way, a_known, a_bad, a_part, a_scopes, a_inner, a_tRule, a_tFrom, a_tTo, a_before))
    (hC : ∀ q, gg_bC G q → post (nI (32 + q)) (nI (gg_np G), f_built, nI so, nI em, f_wn, f_nt, nA (gg_ru G), nA (gg_sc G), nA (gg_ln G), nA (gg_sy G), gg_ro G, a_first, a_follow, a_kind, a_val, a_len, a_word, a_reach, a_beyond, a_way, a_known, a_bad, a_part, a_scopes, a_inner, a_tRule, a_tFrom, a_tTo, a_before)) (hO : gg_bO G → post 0 (nI (gg_np G), 1, nI so, nI em, f_wn, f_nt, nA (gg_ru G), nA (gg_sc G), nA (gg_ln G), nA (gg_sy G), gg_ro G, a_first, a_follow, a_kind, a_val, a_len, a_word, a_reach, a_beyond, a_way, a_known, a_bad, a_part, a_scopes, a_inner, a_tRule, a_tFrom, a_tTo, a_before)) :
    ∀ d k, k + d = 6 → (∀ k', k' < k → gg_us G k' → gg_Pr G k') → wY_build_174 post (nI us) (nI (gg_np G)) f_built (nI so) (nI em) f_wn f_nt (nA (gg_ru G)) (nA (gg_sc G)) (nA (gg_ln G)) (nA (gg_sy G)) (gg_ro G) a_first a_follow a_kind a_val a_len a_word a_reach a_beyond a_way a_known a_bad a_part a_scopes a_inner a_tRule a_tFrom a_tTo a_before (d + 1) (nI k) := by
  intro d
  induction d with
  | zero =>
    intro k hk hno
    have e : k = 6 := by omega
    subst e
    refine br_t (by decide) ⟨gg_np G + 1, yc_208 hG hE hA hno hC hO (gg_np G) 0 (by omega) (fun q' hq' => by omega)⟩
  | succ d ih =>
    intro k hk hno
    refine pk_le 6 k (fun h => absurd h (by omega)) (fun hk6 => ?_)
    by_cases hx : us.testBit k = true ∧ ¬ so.testBit k = true
    · refine br_f (fun h => (nb_3 (by omega)).mp h hx) ?_
      have e : (16 : Int32) + nI k = nI (16 + k) := nI_add 16 k
      rw [e]
      exact hP k ⟨hk6, ⟨(hus k hk6).mp hx.1, fun h => hx.2 ((hE.1.2 k hk6).mpr h)⟩, hno⟩
    · refine br_t ((nb_3 (by omega)).mpr hx) (nm_r (nI_1 k) (ih (k + 1) (by omega) (fun k' hk' hu => ?_)))
      by_cases e : k' = k
      · subst e
        apply Classical.byContradiction
        intro hn
        exact hx ⟨(hus k' hk6).mpr hu, fun h => hn ((hE.1.2 k' hk6).mp h)⟩
      · exact hno k' (by omega) hu
theorem yc_147 {post : Int32 → SY → Prop} {J : Int32 → Int32 → Int32 → Int32 → Int32 → Int32 → Int32 → (Nat → Int32) → (Nat → Int32) → (Nat → Int32) → (Nat → Int32) → (Nat → Int32) → (Nat → Int32) → (Nat → Int32) → (Nat → Int32) → (Nat → Int32) → (Nat → Int32) → (Nat → Int32) → (Nat → Int32) → (Nat → Int32) → (Nat → Int32) → (Nat → Int32) → (Nat → Int32) → (Nat → Int32) → (Nat → Int32) → (Nat → Int32) → (Nat → Int32) → (Nat → Int32) → (Nat → Int32) → (Nat → Int32) →  Prop} {x1 : Int32} {r : Nat} (hG : gg_ok G)
    (hJ : ∀ so1 em1 a_first a_follow fi1 fo1, yl_S G so1 em1 fi1 fo1 → yl_A fi1 fo1 a_first a_follow → yl_le so em fi fo so1 em1 fi1 fo1 → (∀ p, p < gg_np G → yl_G G p so em fi fo so1 em1 fi1 fo1) → J (nI (r + 1)) (nI (gg_np G)) f_built (nI so1) (nI em1) f_wn f_nt (nA (gg_ru G)) (nA (gg_sc G)) (nA (gg_ln G)) (nA (gg_sy G)) (gg_ro G) a_first a_follow a_kind a_val a_len a_word a_reach a_beyond a_way a_known a_bad a_part a_scopes a_inner a_tRule a_tFrom a_tTo a_before) :
    ∀ d p so1 em1 a_first a_follow fi1 fo1, p + d = gg_np G → yl_S G so1 em1 fi1 fo1 → yl_A fi1 fo1 a_first a_follow → yl_le so em fi fo so1 em1 fi1 fo1 → (∀ p', p' < p → yl_G G p' so em fi fo so1 em1 fi1 fo1) →
      wY_build_147 post J x1 (nI r) (d + 1) (nI p) (nI (gg_np G)) f_built (nI so1) (nI em1) f_wn f_nt (nA (gg_ru G)) (nA (gg_sc G)) (nA (gg_ln G)) (nA (gg_sy G)) (gg_ro G) a_first a_follow a_kind a_val a_len a_word a_reach a_beyond a_way a_known a_bad a_part a_scopes a_inner a_tRule a_tFrom a_tTo a_before := by
  have h14 := hG.1
  intro d
  induction d with
  | zero =>
    intro p so1 em1 a_first a_follow fi1 fo1 hp hS hA hle hg
    refine pk_le (gg_np G) p (fun _ => nm_r (nI_1 r) (hJ so1 em1 a_first a_follow fi1 fo1 hS hA hle (fun p' hp' => hg p' (by omega)))) (fun h => absurd h (by omega))
  | succ d ih =>
    intro p so1 em1 a_first a_follow fi1 fo1 hp hS hA hle hg
    refine pk_le (gg_np G) p (fun h => absurd h (by omega)) (fun hpn => ?_)
    refine yb_learn hG hpn hS hA ?_
    intro so2 em2 a_first2 a_follow2 fi2 fo2 g1 g2 g3 g4
    dsimp only
    refine nm_r (nI_1 p) (ih (p + 1) so2 em2 a_first2 a_follow2 fi2 fo2 (by omega) g1 g2 (yl_le_t hle g3) (fun p' hp' => ?_))
    by_cases e : p' = p
    · subst e; exact yl_G_m hG hle g4 yl_le_r
    · exact yl_G_m hG yl_le_r (hg p' (by omega)) g3
theorem yc_139 {post : Int32 → SY → Prop} {us : Nat} (hG : gg_ok G) (hus : ∀ k, k < 6 → (us.testBit k = true ↔ gg_us G k))
    (hP : ∀ k f_some f_empty a_first a_follow, gg_bP G k → post (nI (16 + k)) (nI (gg_np G), f_built, f_some, f_empty, f_wn, f_nt, nA (gg_ru G), nA (gg_sc G), nA (gg_ln G), nA (gg_sy G), gg_ro G, a_first, a_follow, a_kind, a_val, a_len, a_word, a_reach, a_beyond, a_way, a_known, a_bad, a_part, a_scopes, a_inner, a_tRule, a_tFrom, a_tTo, a_before))
    (hC : ∀ q f_some f_empty a_first a_follow, gg_bC G q → post (nI (32 + q)) (nI (gg_np G), f_built, f_some, f_empty, f_wn, f_nt, nA (gg_ru G), nA (gg_sc G), nA (gg_ln G), nA (gg_sy G), gg_ro G, a_first, a_follow, a_kind, a_val, a_len, a_word, a_reach, a_beyond, a_way, a_known, a_bad, a_part, a_scopes, a_inner, a_tRule, a_tFrom, a_tTo, a_before)) (hO : ∀ f_some f_empty a_first a_follow, gg_bO G → post 0 (nI (gg_np G), 1, f_some, f_empty, f_wn, f_nt, nA (gg_ru G), nA (gg_sc G), nA (gg_ln G), nA (gg_sy G), gg_ro G, a_first, a_follow, a_kind, a_val, a_len, a_word, a_reach, a_beyond, a_way, a_known, a_bad, a_part, a_scopes, a_inner, a_tRule, a_tFrom, a_tTo, a_before)) :
    ∀ d r so em a_first a_follow fi fo, r + d = 100 → yl_S G so em fi fo → yl_A fi fo a_first a_follow → (fo 0).testBit 10 = true → yl_r G r so em fi fo → wY_build_139 post (nI us) (d + 1) (nI r) (nI (gg_np G)) f_built (nI so) (nI em) f_wn f_nt (nA (gg_ru G)) (nA (gg_sc G)) (nA (gg_ln G)) (nA (gg_sy G)) (gg_ro G) a_first a_follow a_kind a_val a_len a_word a_reach a_beyond a_way a_known a_bad a_part a_scopes a_inner a_tRule a_tFrom a_tTo a_before := by
  intro d
  induction d with
  | zero =>
    intro r so em a_first a_follow fi fo hr hS hA hf hR
    have e : r = 100 := by omega
    subst e
    refine br_t (by decide) ⟨7, yc_174 hG (yl_end hG hS hf hR) hA hus (fun k h => hP k _ _ _ _ h) (fun q h => hC q _ _ _ _ h) (fun h => hO _ _ _ _ h) 6 0 (by omega) (fun k' hk' => by omega)⟩
  | succ d ih =>
    intro r so em a_first a_follow fi fo hr hS hA hf hR
    refine pk_le 100 r (fun h => absurd h (by omega)) (fun hr100 => ⟨gg_np G + 1, ?_⟩)
    refine yc_147 (so := so) (em := em) (fi := fi) (fo := fo) hG ?_ (gg_np G) 0 so em a_first a_follow fi fo (by omega) hS hA yl_le_r (fun p' hp' => by omega)
    intro so1 em1 a_first1 a_follow1 fi1 fo1 g1 g2 g3 g4
    exact ih (r + 1) so1 em1 a_first1 a_follow1 fi1 fo1 (by omega) g1 g2 (g3.2.2.2 0 10 (by omega) hf) (yl_round hG hR hf g3 g4)
def yc_us (G : gg_T) (p m k : Nat) : Prop := k = 0 ∨ (∃ p', p' < p ∧ (gg_ru G p' = k ∨ ∃ m, m < gg_ln G p' ∧ gg_sy G (4 * p' + m) = k + 10)) ∨ (0 < m ∧ (gg_ru G p = k ∨ ∃ m', m' + 1 < m ∧ gg_sy G (4 * p + m') = k + 10))
theorem yc_82 {post : Int32 → SY → Prop} {J : Int32 → Int32 → Prop} {p : Nat} (hG : gg_ok G) (hp : p < gg_np G)
    (hJ : ∀ us, us < 2 ^ 6 → (∀ k, us.testBit k = true ↔ k < 6 ∧ yc_us G (p + 1) 0 k) → J (nI us) (nI (p + 1))) :
    ∀ d m us, m + d = gg_ln G p → us < 2 ^ 6 → (∀ k, us.testBit k = true ↔ k < 6 ∧ yc_us G p (m + 1) k) → wY_build_82 post J (nI p) (nI (gg_np G)) f_built f_some f_empty f_wn f_nt (nA (gg_ru G)) (nA (gg_sc G)) (nA (gg_ln G)) (nA (gg_sy G)) (gg_ro G) a_first a_follow a_kind a_val a_len a_word a_reach a_beyond a_way a_known a_bad a_part a_scopes a_inner a_tRule a_tFrom a_tTo a_before (d + 1) (nI us) (nI m) := by
  have h14 := hG.1
  have hl := hG.2.2.1 p
  intro d
  induction d with
  | zero =>
    intro m us hm hu hb
    refine ⟨pk_in p 14 (by omega), ?_⟩
    rw [nA_cl (show p < 2 ^ 31 by omega)]
    refine pk_le (gg_ln G p) m (fun _ => nm_r (nI_1 p) (hJ us hu (fun k => ?_))) (fun h => absurd h (by omega))
    rw [hb k]
    refine and_congr Iff.rfl ⟨fun h => ?_, fun h => ?_⟩
    · rcases h with h | ⟨p', h1, h2⟩ | ⟨_, h2⟩
      · exact Or.inl h
      · exact Or.inr (Or.inl ⟨p', by omega, h2⟩)
      · refine Or.inr (Or.inl ⟨p, by omega, ?_⟩)
        rcases h2 with h2 | ⟨m', h3, h4⟩
        · exact Or.inl h2
        · exact Or.inr ⟨m', by omega, h4⟩
    · rcases h with h | ⟨p', h1, h2⟩ | ⟨h, _⟩
      · exact Or.inl h
      · by_cases e : p' = p
        · subst e
          refine Or.inr (Or.inr ⟨by omega, ?_⟩)
          rcases h2 with h2 | ⟨m', h3, h4⟩
          · exact Or.inl h2
          · exact Or.inr ⟨m', by omega, h4⟩
        · exact Or.inr (Or.inl ⟨p', by omega, h2⟩)
      · omega
  | succ d ih =>
    intro m us hm hu hb
    have h16 := hG.2.2.2.1 (4 * p + m)
    refine ⟨pk_in p 14 (by omega), ?_⟩
    rw [nA_cl (show p < 2 ^ 31 by omega)]
    refine pk_le (gg_ln G p) m (fun h => absurd h (by omega)) (fun hml => ?_)
    have e1 : (4 : Int32) * nI p + nI m = nI (4 * p + m) := by rw [show (4 : Int32) = nI 4 from rfl, pk_mul, nI_add]
    rw [e1, nA_cl (show 4 * p + m < 2 ^ 31 by omega)]
    refine ⟨pk_in (4 * p + m) 56 (by omega), pk_le (gg_sy G (4 * p + m)) 9 (fun hx => nm_r (nI_1 m) (ih (m + 1) us (by omega) hu (fun k => ?_))) (fun hx => ⟨pk_in (4 * p + m) 56 (by omega), ?_⟩)⟩
    · rw [hb k]
      refine and_congr Iff.rfl ⟨fun h => ?_, fun h => ?_⟩
      · rcases h with h | h | ⟨_, h | ⟨m', h3, h4⟩⟩
        · exact Or.inl h
        · exact Or.inr (Or.inl h)
        · exact Or.inr (Or.inr ⟨by omega, Or.inl h⟩)
        · exact Or.inr (Or.inr ⟨by omega, Or.inr ⟨m', by omega, h4⟩⟩)
      · rcases h with h | h | ⟨_, h | ⟨m', h3, h4⟩⟩
        · exact Or.inl h
        · exact Or.inr (Or.inl h)
        · exact Or.inr (Or.inr ⟨by omega, Or.inl h⟩)
        · by_cases e : m' = m
          · subst e; omega
          · exact Or.inr (Or.inr ⟨by omega, Or.inr ⟨m', by omega, h4⟩⟩)
    · have es : nI (gg_sy G (4 * p + m)) - 10 = nI (gg_sy G (4 * p + m) - 10) := pk_sub (b := 10) (by omega)
      rw [es, nb_sh (by omega), nb_or]
      refine nm_e (nm_r (nI_1 m) (ih (m + 1) _ (by omega) (nb_orlt hu (Nat.pow_lt_pow_right (by omega) (by omega))) (fun k => ?_)))
      rw [nb_or_t, nb_p_t, hb k]
      constructor
      · intro h
        rcases h with ⟨h0, h⟩ | h
        · refine ⟨h0, ?_⟩
          rcases h with h | h | ⟨_, h | ⟨m', h3, h4⟩⟩
          · exact Or.inl h
          · exact Or.inr (Or.inl h)
          · exact Or.inr (Or.inr ⟨by omega, Or.inl h⟩)
          · exact Or.inr (Or.inr ⟨by omega, Or.inr ⟨m', by omega, h4⟩⟩)
        · exact ⟨by omega, Or.inr (Or.inr ⟨by omega, Or.inr ⟨m, by omega, by omega⟩⟩)⟩
      · intro ⟨h0, h⟩
        rcases h with h | h | ⟨_, h | ⟨m', h3, h4⟩⟩
        · exact Or.inl ⟨h0, Or.inl h⟩
        · exact Or.inl ⟨h0, Or.inr (Or.inl h)⟩
        · exact Or.inl ⟨h0, Or.inr (Or.inr ⟨by omega, Or.inl h⟩)⟩
        · by_cases e : m' = m
          · subst e; exact Or.inr (by omega)
          · exact Or.inl ⟨h0, Or.inr (Or.inr ⟨by omega, Or.inr ⟨m', by omega, h4⟩⟩)⟩
theorem yc_61 {post : Int32 → SY → Prop} (hG : gg_ok G)
    (hQ : ∀ us, us < 2 ^ 6 → (∀ k, k < 6 → (us.testBit k = true ↔ gg_us G k)) → ∃ n139, wY_build_139 post (nI us) n139 0 (nI (gg_np G)) f_built f_some f_empty f_wn f_nt (nA (gg_ru G)) (nA (gg_sc G)) (nA (gg_ln G)) (nA (gg_sy G)) (gg_ro G) a_first a_follow a_kind a_val a_len a_word a_reach a_beyond a_way a_known a_bad a_part a_scopes a_inner a_tRule a_tFrom a_tTo a_before) :
    ∀ d p us, p + d = gg_np G → us < 2 ^ 6 → (∀ k, us.testBit k = true ↔ k < 6 ∧ yc_us G p 0 k) → wY_build_61 post (nI (gg_np G)) f_built f_some f_empty f_wn f_nt (nA (gg_ru G)) (nA (gg_sc G)) (nA (gg_ln G)) (nA (gg_sy G)) (gg_ro G) a_first a_follow a_kind a_val a_len a_word a_reach a_beyond a_way a_known a_bad a_part a_scopes a_inner a_tRule a_tFrom a_tTo a_before (d + 1) (nI us) (nI p) := by
  have h14 := hG.1
  intro d
  induction d with
  | zero =>
    intro p us hp hu hb
    have e : p = gg_np G := by omega
    refine pk_le (gg_np G) p (fun _ => hQ us hu (fun k hk => ?_)) (fun h => absurd h (by omega))
    rw [hb k, e]
    refine ⟨fun h => ?_, fun h => ⟨hk, ?_⟩⟩
    · rcases h.2 with h | h | h
      · exact Or.inl h
      · exact Or.inr h
      · omega
    · rcases h with h | h
      · exact Or.inl h
      · exact Or.inr (Or.inl h)
  | succ d ih =>
    intro p us hp hu hb
    have hr := hG.2.1 p
    refine pk_le (gg_np G) p (fun h => absurd h (by omega)) (fun hpn => ⟨pk_in p 14 (by omega), ?_⟩)
    rw [nA_cl (show p < 2 ^ 31 by omega), nb_sh (by omega), nb_or]
    refine nm_e ⟨gg_ln G p + 1, yc_82 hG hpn (fun us' h1 h2 => ih (p + 1) us' (by omega) h1 h2) (gg_ln G p) 0 _ (by omega) (nb_orlt hu (Nat.pow_lt_pow_right (by omega) hr)) (fun k => ?_)⟩
    rw [nb_or_t, nb_p_t, hb k]
    constructor
    · intro h
      rcases h with ⟨h0, h⟩ | h
      · refine ⟨h0, ?_⟩
        rcases h with h | h | h
        · exact Or.inl h
        · exact Or.inr (Or.inl h)
        · omega
      · exact ⟨by omega, Or.inr (Or.inr ⟨by omega, Or.inl h.symm⟩)⟩
    · intro ⟨h0, h⟩
      rcases h with h | h | ⟨_, h | ⟨m', h3, h4⟩⟩
      · exact Or.inl ⟨h0, Or.inl h⟩
      · exact Or.inl ⟨h0, Or.inr (Or.inl h)⟩
      · exact Or.inr h.symm
      · omega
theorem yc_23 {post : Int32 → SY → Prop} (hQ : ∀ a_first a_follow, (∀ A, A < 6 → a_first A = 0 ∧ a_follow A = if A = 0 then 1024 else 0) → ∃ n61, wY_build_61 post (nI (gg_np G)) f_built f_some f_empty f_wn f_nt (nA (gg_ru G)) (nA (gg_sc G)) (nA (gg_ln G)) (nA (gg_sy G)) (gg_ro G) a_first a_follow a_kind a_val a_len a_word a_reach a_beyond a_way a_known a_bad a_part a_scopes a_inner a_tRule a_tFrom a_tTo a_before n61 1 0) :
    ∀ d k a_first a_follow, k + d = 6 → (∀ A, A < k → a_first A = 0 ∧ a_follow A = if A = 0 then 1024 else 0) → wY_build_23 post 1 (nI (gg_np G)) f_built f_some f_empty f_wn f_nt (d + 1) (nI k) (nA (gg_ru G)) (nA (gg_sc G)) (nA (gg_ln G)) (nA (gg_sy G)) (gg_ro G) a_first a_follow a_kind a_val a_len a_word a_reach a_beyond a_way a_known a_bad a_part a_scopes a_inner a_tRule a_tFrom a_tTo a_before := by
  intro d
  induction d with
  | zero =>
    intro k a_first a_follow hk h
    have e : k = 6 := by omega
    subst e
    exact br_t (by decide) (hQ a_first a_follow h)
  | succ d ih =>
    intro k a_first a_follow hk h
    refine pk_le 6 k (fun h => absurd h (by omega)) (fun hk6 => ⟨pk_in k 6 hk6, ?_⟩)
    rw [nI_clamp (show k < 2 ^ 31 by omega)]
    refine nm_e (pk_eq k 0 (fun h0 => ⟨pk_in k 6 hk6, nm_e (nm_r (nI_1 k) (ih (k + 1) _ _ (by omega) (fun A hA => ?_)))⟩) (fun h0 => ⟨pk_in k 6 hk6, nm_e (nm_r (nI_1 k) (ih (k + 1) _ _ (by omega) (fun A hA => ?_)))⟩))
    · have e : A = k := by omega
      subst e
      rw [pk_us, pk_us, if_pos h0]
      exact ⟨rfl, rfl⟩
    · by_cases e : A = k
      · subst e
        rw [pk_us, pk_us, if_neg h0]
        exact ⟨rfl, rfl⟩
      · rw [pk_un e, pk_un e]
        exact h A (by omega)
theorem yc_build {post : Int32 → SY → Prop} (hG : gg_ok G)
    (hP : ∀ k f_some f_empty a_first a_follow, gg_bP G k → post (nI (16 + k)) (nI (gg_np G), 0, f_some, f_empty, f_wn, f_nt, nA (gg_ru G), nA (gg_sc G), nA (gg_ln G), nA (gg_sy G), gg_ro G, a_first, a_follow, a_kind, a_val, a_len, a_word, a_reach, a_beyond, a_way, a_known, a_bad, a_part, a_scopes, a_inner, a_tRule, a_tFrom, a_tTo, a_before))
    (hC : ∀ q f_some f_empty a_first a_follow, gg_bC G q → post (nI (32 + q)) (nI (gg_np G), 0, f_some, f_empty, f_wn, f_nt, nA (gg_ru G), nA (gg_sc G), nA (gg_ln G), nA (gg_sy G), gg_ro G, a_first, a_follow, a_kind, a_val, a_len, a_word, a_reach, a_beyond, a_way, a_known, a_bad, a_part, a_scopes, a_inner, a_tRule, a_tFrom, a_tTo, a_before)) (hO : ∀ f_some f_empty a_first a_follow, gg_bO G → post 0 (nI (gg_np G), 1, f_some, f_empty, f_wn, f_nt, nA (gg_ru G), nA (gg_sc G), nA (gg_ln G), nA (gg_sy G), gg_ro G, a_first, a_follow, a_kind, a_val, a_len, a_word, a_reach, a_beyond, a_way, a_known, a_bad, a_part, a_scopes, a_inner, a_tRule, a_tFrom, a_tTo, a_before)) :
    wpY_build post (nI (gg_np G), 0, f_some, f_empty, f_wn, f_nt, nA (gg_ru G), nA (gg_sc G), nA (gg_ln G), nA (gg_sy G), gg_ro G, a_first, a_follow, a_kind, a_val, a_len, a_word, a_reach, a_beyond, a_way, a_known, a_bad, a_part, a_scopes, a_inner, a_tRule, a_tFrom, a_tTo, a_before) := by
  refine br_t rfl ⟨7, yc_23 ?_ 6 0 a_first a_follow (by omega) (fun A hA => by omega)⟩
  intro a_first a_follow hff
  refine ⟨gg_np G + 1, yc_61 hG ?_ (gg_np G) 0 1 (by omega) (by omega) (fun k => ?_)⟩
  · intro us hu hus
    refine ⟨101, yc_139 hG hus hP hC hO 100 0 0 0 a_first a_follow (fun _ => 0) (fun A => if A = 0 then 1024 else 0) (by omega) ?_ ?_ (by decide) ?_⟩
    · refine ⟨⟨by omega, fun A h => absurd h nb_0_t⟩, ⟨by omega, fun A h => absurd h nb_0_t⟩, fun A hA => ⟨(by decide : (0 : Nat) < 2 ^ 10), fun t h => absurd h nb_0_t⟩, fun A hA => ?_⟩
      by_cases e : A = 0
      · subst e
        refine ⟨by decide, fun t h => ?_⟩
        have h : (2 ^ 10).testBit t = true := h
        rw [nb_p_t.mp h]
        exact gg_Fo_0
      · show (if A = 0 then 1024 else 0) < 2 ^ 11 ∧ ∀ t, (if A = 0 then 1024 else 0).testBit t = true → gg_Fo G t A
        rw [if_neg e]
        exact ⟨by omega, fun t h => absurd h nb_0_t⟩
    · intro A hA
      refine ⟨(hff A hA).1, ?_⟩
      rw [(hff A hA).2]
      show (if A = 0 then (1024 : Int32) else 0) = nI (if A = 0 then 1024 else 0)
      by_cases e : A = 0
      · rw [if_pos e, if_pos e]; rfl
      · rw [if_neg e, if_neg e]; rfl
    · refine ⟨fun k A hk _ hs => ?_, fun k A hk _ hs => ?_, fun k A t hk => by omega, fun k A t hk => by omega⟩
      · have e : k = 0 := by omega
        subst e; exact hs.elim
      · have e : k = 0 := by omega
        subst e; exact hs.elim
  · rw [show (1 : Nat) = 2 ^ 0 from rfl, nb_p_t]
    constructor
    · intro h; exact ⟨by omega, Or.inl h⟩
    · intro ⟨_, h⟩
      rcases h with h | ⟨p', h, _⟩ | ⟨h, _⟩
      · exact h
      · omega
      · omega
end YC
end
section
/-! the class's state -/
def xx_m (G : gg_T) (md us : Nat → Nat) : Prop :=
  ∀ A, A < 6 → (md A < 2 ^ 14 ∧ ∀ p, (md A).testBit p = true ↔ p < gg_np G ∧ gg_ru G p = A) ∧ (us A < 2 ^ 14 ∧ ∀ p, (us A).testBit p = true ↔ p < gg_np G ∧ ∃ m, m < gg_ln G p ∧ gg_sy G (4 * p + m) = A + 10)
def xx_B (G : gg_T) (a_table : Nat → Int64) : Prop := ∀ A, A < 6 → ∃ w, a_table A = lN w ∧ w < 2 ^ 63 ∧ ∀ t, t ≤ 10 → dg w t = mm_ch G A t
def xx_ls (l : List Nat) (f : Nat) (cn at_ : Nat → Int32) : Prop := cn f = nI l.length ∧ ∀ d, d < l.length → at_ (20 * f + d) = nI (l.getD d 0)
def sp_fin (G : gg_T) (tok : Nat → Nat) (n ns : Nat) (so par bg en : Nat → Nat) : Prop :=
  (∀ s, 1 ≤ s → s < ns → par s < s ∧ bg s ≤ en s ∧ en s < n ∧ pl_SI G tok (bg s) (en s + 1)) ∧ sp_P ns par (fun q s => bg s ≤ q ∧ q ≤ en s) ∧ sp_Q n ns so (fun q s => bg s ≤ q ∧ q ≤ en s) ∧
  (∀ i j, pl_SI G tok i j → ∃ s, 1 ≤ s ∧ s < ns ∧ bg s = i ∧ en s + 1 = j)
def xx_S (G : gg_T) (T : tx_T) (f ns : Nat) (a_scopeOf a_around a_beginsAt a_endsAt : Nat → Int32) : Prop :=
  ∃ so par bg en, (∀ a, a < tx_le T f → a_scopeOf (20 * f + a) = nI (so a)) ∧ (∀ s, 1 ≤ s → s < ns → a_around (128 * f + s) = nI (par s) ∧ a_beginsAt (128 * f + s) = nI (bg s) ∧ a_endsAt (128 * f + s) = nI (en s)) ∧ sp_fin G (tx_tok T f) (tx_le T f) ns so par bg en
def xx_A (G : gg_T) (T : tx_T) (f : Nat) (a_fault a_defs a_refs a_imports a_defAt a_refAt a_scopeOf a_importAt a_around a_beginsAt a_endsAt a_scopes : Nat → Int32) : Prop :=
  a_fault f = tx_err G T f ∧ xx_ls (tx_ps G T f 1) f a_defs a_defAt ∧ xx_ls (tx_ps G T f 2) f a_refs a_refAt ∧ xx_ls (tx_ps G T f 3) f a_imports a_importAt ∧
  ∃ ns, a_scopes f = nI ns ∧ 1 ≤ ns ∧ ns ≤ 121 ∧ (tx_sen G T f → xx_S G T f ns a_scopeOf a_around a_beginsAt a_endsAt)
def xx_N (G : gg_T) (T : tx_T) (f : Nat) (a_scopeOf a_scopes a_names a_twice : Nat → Int32) : Prop :=
  (∀ s, nI s < a_scopes f → s < 128 → ∃ m, a_names (128 * f + s) = nI m ∧ m < 2 ^ 16 ∧ ∀ v, m.testBit v = true ↔ ∃ a, a ∈ tx_ps G T f 1 ∧ a_scopeOf (20 * f + a) = nI s ∧ tx_va T (20 * f + a) = v) ∧ a_twice f = nI (tx_dup G T f)
def xx_L (G : gg_T) (T : tx_T) (f : Nat) (a_stale a_link a_open : Nat → Int32) : Prop :=
  a_stale f = 0 → (∀ r, r < (tx_ps G T f 2).length → a_link (20 * f + r) = tx_lk G T f ((tx_ps G T f 2).getD r 0)) ∧ a_open f = nI (tx_un G T f)
/-- all that is kept of file f -/
def xx_f (G : gg_T) (T : tx_T) (f : Nat) (a_fault a_defs a_refs a_imports a_defAt a_refAt a_scopeOf a_importAt a_around a_beginsAt a_endsAt a_names a_scopes a_twice a_open a_stale a_link : Nat → Int32) : Prop :=
  xx_A G T f a_fault a_defs a_refs a_imports a_defAt a_refAt a_scopeOf a_importAt a_around a_beginsAt a_endsAt a_scopes ∧ xx_N G T f a_scopeOf a_scopes a_names a_twice ∧ xx_L G T f a_stale a_link a_open
def xx_F (G : gg_T) (b : Nat) (T : tx_T) (md us : Nat → Nat) (a_table : Nat → Int64) (a_fault a_defs a_refs a_imports a_defAt a_refAt a_scopeOf a_importAt a_around a_beginsAt a_endsAt a_names a_scopes a_twice a_open a_stale a_link : Nat → Int32) : Prop :=
  xx_m G md us ∧ (b = 1 → xx_B G a_table ∧ ∀ f, f < 4 → xx_f G T f a_fault a_defs a_refs a_imports a_defAt a_refAt a_scopeOf a_importAt a_around a_beginsAt a_endsAt a_names a_scopes a_twice a_open a_stale a_link) ∧ (b = 0 → ∀ f, f < 4 → a_imports f = 0)
def xx_R (G : gg_T) (b : Nat) (T : tx_T) (u : SX) : Prop := match u with
  | (f_nP, f_built, f_nullable, f_productive, f_sp, f_depth, f_at, a_pRule, a_pLen, a_pSymbol, a_pRole, a_pScope, a_made, a_users, a_first, a_follow, a_table, a_kind, a_value, a_length, a_fault, a_defs, a_refs, a_imports, a_defAt, a_refAt, a_scopeOf, a_importAt, a_around, a_beginsAt, a_endsAt, a_names, a_scopes, a_twice, a_open, a_stale, a_link, a_kept, a_stack, a_trial, a_opened) => f_nP = nI (gg_np G) ∧ f_built = nI b ∧ a_pRule = nA (gg_ru G) ∧ a_pLen = nA (gg_ln G) ∧ a_pSymbol = nA (gg_sy G) ∧ a_pRole = gg_ro G ∧ a_pScope = nA (gg_sc G) ∧
    a_kind = nA (tx_kd T) ∧ a_value = nA (tx_va T) ∧ a_length = nA (tx_le T) ∧ ∃ md us, a_made = nA md ∧ a_users = nA us ∧
    xx_F G b T md us a_table a_fault a_defs a_refs a_imports a_defAt a_refAt a_scopeOf a_importAt a_around a_beginsAt a_endsAt a_names a_scopes a_twice a_open a_stale a_link
theorem xx_mk {G : gg_T} {b : Nat} {T : tx_T} {f_nullable f_productive f_sp f_depth f_at : Int32} {a_first a_follow a_fault a_defs a_refs a_imports a_defAt a_refAt a_scopeOf a_importAt a_around a_beginsAt a_endsAt a_names a_scopes a_twice a_open a_stale a_link a_kept a_stack a_trial a_opened : Nat → Int32} {a_table : Nat → Int64} {md us : Nat → Nat} (h : xx_F G b T md us a_table a_fault a_defs a_refs a_imports a_defAt a_refAt a_scopeOf a_importAt a_around a_beginsAt a_endsAt a_names a_scopes a_twice a_open a_stale a_link) : xx_R G b T (nI (gg_np G), nI b, f_nullable, f_productive, f_sp, f_depth, f_at, nA (gg_ru G), nA (gg_ln G), nA (gg_sy G), gg_ro G, nA (gg_sc G), nA md, nA us, a_first, a_follow, a_table, nA (tx_kd T), nA (tx_va T), nA (tx_le T), a_fault, a_defs, a_refs, a_imports, a_defAt, a_refAt, a_scopeOf, a_importAt, a_around, a_beginsAt, a_endsAt, a_names, a_scopes, a_twice, a_open, a_stale, a_link, a_kept, a_stack, a_trial, a_opened) :=
  ⟨rfl, rfl, rfl, rfl, rfl, rfl, rfl, rfl, rfl, rfl, md, us, rfl, rfl, h⟩
theorem xx_el {G : gg_T} {b : Nat} {T : tx_T} {P : SX → Prop} (h : ∀ (f_nullable f_productive f_sp f_depth f_at : Int32) (a_first a_follow a_fault a_defs a_refs a_imports a_defAt a_refAt a_scopeOf a_importAt a_around a_beginsAt a_endsAt a_names a_scopes a_twice a_open a_stale a_link a_kept a_stack a_trial a_opened : Nat → Int32) (a_table : Nat → Int64) (md us : Nat → Nat), xx_F G b T md us a_table a_fault a_defs a_refs a_imports a_defAt a_refAt a_scopeOf a_importAt a_around a_beginsAt a_endsAt a_names a_scopes a_twice a_open a_stale a_link → P (nI (gg_np G), nI b, f_nullable, f_productive, f_sp, f_depth, f_at, nA (gg_ru G), nA (gg_ln G), nA (gg_sy G), gg_ro G, nA (gg_sc G), nA md, nA us, a_first, a_follow, a_table, nA (tx_kd T), nA (tx_va T), nA (tx_le T), a_fault, a_defs, a_refs, a_imports, a_defAt, a_refAt, a_scopeOf, a_importAt, a_around, a_beginsAt, a_endsAt, a_names, a_scopes, a_twice, a_open, a_stale, a_link, a_kept, a_stack, a_trial, a_opened)) {u : SX} (I : xx_R G b T u) : P u := by
  obtain ⟨f_nP, f_built, f_nullable, f_productive, f_sp, f_depth, f_at, a_pRule, a_pLen, a_pSymbol, a_pRole, a_pScope, a_made, a_users, a_first, a_follow, a_table, a_kind, a_value, a_length, a_fault, a_defs, a_refs, a_imports, a_defAt, a_refAt, a_scopeOf, a_importAt, a_around, a_beginsAt, a_endsAt, a_names, a_scopes, a_twice, a_open, a_stale, a_link, a_kept, a_stack, a_trial, a_opened⟩ := u
  obtain ⟨rfl, rfl, rfl, rfl, rfl, rfl, rfl, rfl, rfl, rfl, md, us, rfl, rfl, hF⟩ := I
  exact h _ _ _ _ _ _ _ _ _ _ _ _ _ _ _ _ _ _ _ _ _ _ _ _ _ _ _ _ _ _ _ hF
/-! small methods -/
theorem xw_0 {post : Int32 → Prop} {x y : Int32} (h : x < 0 ∨ y ≤ x) (hp : post 0) : wpX_within post x y := by
  by_cases h0 : x < 0
  · exact br_t h0 hp
  · exact br_f h0 (br_t (h.resolve_left h0) hp)
theorem xw_1 {post : Int32 → Prop} {j n : Nat} (h : j < n) (hn : n < 2 ^ 31) (hp : post 1) : wpX_within post (nI j) (nI n) :=
  br_f (nI_pos (by omega)) (br_f (nI_ge h hn) hp)
/-- the stack, its top first -/
def xs_k (st : Nat → Int32) : List Nat → Prop
  | [] => True
  | e :: s => st s.length = nI (if 57 ≤ e then 57 else e) ∧ xs_k st s
theorem xs_k_u {st : Nat → Int32} {k : Nat} {x : Int32} : ∀ s : List Nat, s.length ≤ k → xs_k st s → xs_k (upd st k x) s := by
  intro s
  induction s with
  | nil => intro _ _; trivial
  | cons e s ih =>
    intro hl ⟨h1, h2⟩
    have hl : s.length + 1 ≤ k := hl
    exact ⟨by rw [pk_un (by omega)]; exact h1, ih (by omega) h2⟩
section XS
variable {G : gg_T} {f_built f_nullable f_productive f_sp f_depth f_at : Int32} {a_first a_follow a_kind a_value a_length a_fault a_defs a_refs a_imports a_defAt a_refAt a_scopeOf a_importAt a_around a_beginsAt a_endsAt a_names a_scopes a_twice a_open a_stale a_link a_kept a_stack a_trial a_opened : Nat → Int32} {a_table : Nat → Int64} {md us : Nat → Nat}
theorem xs_chosen {post : Int32 → Prop} {A t : Nat} (hA : A < 6) (ht : t ≤ 10) (hB : xx_B G a_table) (hP : post (nI (mm_ch G A t))) : wpX_chosen post (nI (gg_np G), f_built, f_nullable, f_productive, f_sp, f_depth, f_at, nA (gg_ru G), nA (gg_ln G), nA (gg_sy G), gg_ro G, nA (gg_sc G), nA md, nA us, a_first, a_follow, a_table, a_kind, a_value, a_length, a_fault, a_defs, a_refs, a_imports, a_defAt, a_refAt, a_scopeOf, a_importAt, a_around, a_beginsAt, a_endsAt, a_names, a_scopes, a_twice, a_open, a_stale, a_link, a_kept, a_stack, a_trial, a_opened) (nI A) (nI t) := by
  obtain ⟨w, w1, w2, w3⟩ := hB A hA
  unfold wpX_chosen
  dsimp only
  have e : (4 : Int32) * nI t = nI (4 * t) := by rw [show (4 : Int32) = nI 4 from rfl, pk_mul]
  rw [nI_clamp (show A < 2 ^ 31 by omega), w1, e, dg_sh w2 (by omega), w3 t ht]
  exact ⟨pk_in A 6 hA, hP⟩
theorem mm_ch_15 {G : gg_T} (hG : gg_ok G) {A t p : Nat} (h : mm_ch G A t = p + 1) : p < gg_np G ∧ p < 14 := by
  have h1 := (mm_ch_s h).1
  have h2 := hG.1
  exact ⟨h1, by omega⟩
theorem xs_75 {post : Int32 → SX → Prop} {p : Nat} {s : List Nat} (hG : gg_ok G) (hp : p < 14) (hlen : s.length + gg_ln G p ≤ 640)
    (hP : ∀ a_stack, xs_k a_stack (mm_ce G p 0 ++ s) → post 1 (nI (gg_np G), f_built, f_nullable, f_productive, nI (mm_ce G p 0 ++ s).length, f_depth, f_at, nA (gg_ru G), nA (gg_ln G), nA (gg_sy G), gg_ro G, nA (gg_sc G), nA md, nA us, a_first, a_follow, a_table, a_kind, a_value, a_length, a_fault, a_defs, a_refs, a_imports, a_defAt, a_refAt, a_scopeOf, a_importAt, a_around, a_beginsAt, a_endsAt, a_names, a_scopes, a_twice, a_open, a_stale, a_link, a_kept, a_stack, a_trial, a_opened)) :
    ∀ m a_stack, m ≤ gg_ln G p → xs_k a_stack (mm_ce G p m ++ s) → wX_expand_75 post (nI p) (nI (gg_np G)) f_built f_nullable f_productive f_depth f_at (m + 1) (nI m) (nI (mm_ce G p m ++ s).length) (nA (gg_ru G)) (nA (gg_ln G)) (nA (gg_sy G)) (gg_ro G) (nA (gg_sc G)) (nA md) (nA us) a_first a_follow a_table a_kind a_value a_length a_fault a_defs a_refs a_imports a_defAt a_refAt a_scopeOf a_importAt a_around a_beginsAt a_endsAt a_names a_scopes a_twice a_open a_stale a_link a_kept a_stack a_trial a_opened := by
  have hl := hG.2.2.1 p
  intro m
  induction m with
  | zero =>
    intro a_stack hm hk
    exact br_t (by decide) (hP a_stack hk)
  | succ m ih =>
    intro a_stack hm hk
    have e1 : (4 : Int32) * nI p + nI m = nI (4 * p + m) := by rw [show (4 : Int32) = nI 4 from rfl, pk_mul, nI_add]
    have el : (mm_ce G p (m + 1) ++ s).length = gg_ln G p - (m + 1) + s.length := by rw [List.length_append, mm_ce_len]
    refine br_f (nI_nle (by omega) (by omega)) (nm_r (nI_1 _) (nm_r (pk_m1 m) ?_))
    rw [e1, nI_clamp (show (mm_ce G p (m + 1) ++ s).length < 2 ^ 31 by omega), vb_w (show 4 * p + m < 128 by omega)]
    refine ⟨pk_in (mm_ce G p (m + 1) ++ s).length 640 (by omega), nm_e ?_⟩
    have ec : mm_ce G p m ++ s = (4 * p + m) :: (mm_ce G p (m + 1) ++ s) := by rw [mm_ce_c (by omega)]; rfl
    have := ih (upd a_stack (mm_ce G p (m + 1) ++ s).length (nI (4 * p + m))) (by omega) (by
      rw [ec]
      exact ⟨by rw [pk_us, if_neg (by omega)], xs_k_u _ (Nat.le_refl _) hk⟩)
    rw [ec] at this
    exact this
/-- the expansion without scopes -/
theorem xs_expand0 {post : Int32 → SX → Prop} {A t : Nat} {s : List Nat} (hG : gg_ok G) (hA : A < 6) (ht : t ≤ 10) (hB : xx_B G a_table) (hk : xs_k a_stack s)
    (h0 : mm_ch G A t = 0 → post 0 (nI (gg_np G), f_built, f_nullable, f_productive, nI s.length, f_depth, f_at, nA (gg_ru G), nA (gg_ln G), nA (gg_sy G), gg_ro G, nA (gg_sc G), nA md, nA us, a_first, a_follow, a_table, a_kind, a_value, a_length, a_fault, a_defs, a_refs, a_imports, a_defAt, a_refAt, a_scopeOf, a_importAt, a_around, a_beginsAt, a_endsAt, a_names, a_scopes, a_twice, a_open, a_stale, a_link, a_kept, a_stack, a_trial, a_opened))
    (hlen : ∀ p, mm_ch G A t = p + 1 → s.length + gg_ln G p ≤ 640)
    (h1 : ∀ p a_stack, mm_ch G A t = p + 1 → xs_k a_stack (mm_ce G p 0 ++ s) → post 1 (nI (gg_np G), f_built, f_nullable, f_productive, nI (mm_ce G p 0 ++ s).length, f_depth, f_at, nA (gg_ru G), nA (gg_ln G), nA (gg_sy G), gg_ro G, nA (gg_sc G), nA md, nA us, a_first, a_follow, a_table, a_kind, a_value, a_length, a_fault, a_defs, a_refs, a_imports, a_defAt, a_refAt, a_scopeOf, a_importAt, a_around, a_beginsAt, a_endsAt, a_names, a_scopes, a_twice, a_open, a_stale, a_link, a_kept, a_stack, a_trial, a_opened)) : wpX_expand post (nI (gg_np G), f_built, f_nullable, f_productive, nI s.length, f_depth, f_at, nA (gg_ru G), nA (gg_ln G), nA (gg_sy G), gg_ro G, nA (gg_sc G), nA md, nA us, a_first, a_follow, a_table, a_kind, a_value, a_length, a_fault, a_defs, a_refs, a_imports, a_defAt, a_refAt, a_scopeOf, a_importAt, a_around, a_beginsAt, a_endsAt, a_names, a_scopes, a_twice, a_open, a_stale, a_link, a_kept, a_stack, a_trial, a_opened) (nI A) (nI t) 0 := by
  unfold wpX_expand
  dsimp only
  refine xs_chosen hA ht hB ?_
  cases hc : mm_ch G A t with
  | zero => exact nm_e (br_f (by decide) (h0 hc))
  | succ p =>
    have hp := mm_ch_15 hG hc
    have hl := hG.2.2.1 p
    refine nm_r (nI_pred p) (br_t (nI_pos' (by omega)) ?_)
    rw [nA_cl (show p < 2 ^ 31 by omega), nA_cl (show p < 2 ^ 31 by omega)]
    have fin : ∃ n75, wX_expand_75 post (nI p) (nI (gg_np G)) f_built f_nullable f_productive f_depth f_at n75 (nI (gg_ln G p)) (nI s.length) (nA (gg_ru G)) (nA (gg_ln G)) (nA (gg_sy G)) (gg_ro G) (nA (gg_sc G)) (nA md) (nA us) a_first a_follow a_table a_kind a_value a_length a_fault a_defs a_refs a_imports a_defAt a_refAt a_scopeOf a_importAt a_around a_beginsAt a_endsAt a_names a_scopes a_twice a_open a_stale a_link a_kept a_stack a_trial a_opened := by
      refine ⟨gg_ln G p + 1, ?_⟩
      have := xs_75 (s := s) hG hp.2 (hlen p hc) (fun st h => h1 p st hc h) (gg_ln G p) a_stack (Nat.le_refl _) (by rw [mm_ce_n (Nat.le_refl _)]; exact hk)
      rw [mm_ce_n (Nat.le_refl _)] at this
      exact this
    refine ⟨pk_in p 14 hp.2, br_c (fun _ => ⟨pk_in p 14 hp.2, nm_e fin⟩) (fun _ => br_t rfl ⟨pk_in p 14 hp.2, nm_e fin⟩)⟩
/-- the expansion with them -/
theorem xs_expand1 {post : Int32 → SX → Prop} {A t dp a : Nat} {s : List Nat} (hG : gg_ok G) (hA : A < 6) (ht : t ≤ 10) (hB : xx_B G a_table) (hk : xs_k a_stack s) (hdp : dp < 140)
    (h0 : mm_ch G A t = 0 → post 0 (nI (gg_np G), f_built, f_nullable, f_productive, nI s.length, nI dp, f_at, nA (gg_ru G), nA (gg_ln G), nA (gg_sy G), gg_ro G, nA (gg_sc G), nA md, nA us, a_first, a_follow, a_table, a_kind, a_value, a_length, a_fault, a_defs, a_refs, a_imports, a_defAt, a_refAt, a_scopeOf, a_importAt, a_around, a_beginsAt, a_endsAt, a_names, a_scopes, a_twice, a_open, a_stale, a_link, a_kept, a_stack, a_trial, a_opened))
    (hlen : ∀ p, mm_ch G A t = p + 1 → s.length + gg_ln G p + 1 ≤ 640)
    (h1 : ∀ p a_stack, mm_ch G A t = p + 1 → gg_sc G p = 0 → xs_k a_stack (mm_ce G p 0 ++ s) → post 1 (nI (gg_np G), f_built, f_nullable, f_productive, nI (mm_ce G p 0 ++ s).length, nI dp, f_at, nA (gg_ru G), nA (gg_ln G), nA (gg_sy G), gg_ro G, nA (gg_sc G), nA md, nA us, a_first, a_follow, a_table, a_kind, a_value, a_length, a_fault, a_defs, a_refs, a_imports, a_defAt, a_refAt, a_scopeOf, a_importAt, a_around, a_beginsAt, a_endsAt, a_names, a_scopes, a_twice, a_open, a_stale, a_link, a_kept, a_stack, a_trial, a_opened))
    (h2 : ∀ p a_stack, mm_ch G A t = p + 1 → gg_sc G p = 1 → xs_k a_stack (mm_ce G p 0 ++ (57 + a) :: s) → post 1 (nI (gg_np G), f_built, f_nullable, f_productive, nI (mm_ce G p 0 ++ (57 + a) :: s).length, nI (dp + 1), f_at, nA (gg_ru G), nA (gg_ln G), nA (gg_sy G), gg_ro G, nA (gg_sc G), nA md, nA us, a_first, a_follow, a_table, a_kind, a_value, a_length, a_fault, a_defs, a_refs, a_imports, a_defAt, a_refAt, a_scopeOf, a_importAt, a_around, a_beginsAt, a_endsAt, a_names, a_scopes, a_twice, a_open, a_stale, a_link, a_kept, a_stack, a_trial, upd a_opened dp (-1))) :
    wpX_expand post (nI (gg_np G), f_built, f_nullable, f_productive, nI s.length, nI dp, f_at, nA (gg_ru G), nA (gg_ln G), nA (gg_sy G), gg_ro G, nA (gg_sc G), nA md, nA us, a_first, a_follow, a_table, a_kind, a_value, a_length, a_fault, a_defs, a_refs, a_imports, a_defAt, a_refAt, a_scopeOf, a_importAt, a_around, a_beginsAt, a_endsAt, a_names, a_scopes, a_twice, a_open, a_stale, a_link, a_kept, a_stack, a_trial, a_opened) (nI A) (nI t) 1 := by
  unfold wpX_expand
  dsimp only
  refine xs_chosen hA ht hB ?_
  cases hc : mm_ch G A t with
  | zero => exact nm_e (br_f (by decide) (h0 hc))
  | succ p =>
    have hp := mm_ch_15 hG hc
    have hl := hG.2.2.1 p
    have hsc := hG.2.2.2.2.1 p
    have h640 := hlen p hc
    refine nm_r (nI_pred p) (br_t (nI_pos' (by omega)) ?_)
    rw [nA_cl (show p < 2 ^ 31 by omega), nA_cl (show p < 2 ^ 31 by omega)]
    refine ⟨pk_in p 14 hp.2, pk_eq (gg_sc G p) 0 (fun hs => ⟨pk_in p 14 hp.2, nm_e ⟨gg_ln G p + 1, ?_⟩⟩) (fun hs => br_f (by decide) (nm_r (nI_1 s.length) ?_))⟩
    · have := xs_75 (s := s) (f_depth := nI dp) hG hp.2 (by omega) (fun st h => h1 p st hc hs h) (gg_ln G p) a_stack (Nat.le_refl _) (by rw [mm_ce_n (Nat.le_refl _)]; exact hk)
      rw [mm_ce_n (Nat.le_refl _)] at this
      exact this
    · rw [nI_clamp (show s.length < 2 ^ 31 by omega), nI_clamp (show dp < 2 ^ 31 by omega), show vp_nar .byte 57 = nI 57 from vb_v (n := 57) (by omega), vb_m1]
      refine ⟨pk_in s.length 640 (by omega), nm_e (nm_r (nI_1 dp) ⟨pk_in dp 140 hdp, nm_e ⟨pk_in p 14 hp.2, nm_e ⟨gg_ln G p + 1, ?_⟩⟩⟩)⟩
      have hk2 : xs_k (upd a_stack s.length (nI 57)) ((57 + a) :: s) := ⟨by rw [pk_us, if_pos (by omega)], xs_k_u s (Nat.le_refl _) hk⟩
      have := xs_75 (s := (57 + a) :: s) (f_depth := nI (dp + 1)) hG hp.2 (by show s.length + 1 + _ ≤ _; omega) (fun st h => h2 p st hc (by omega) h) (gg_ln G p) _ (Nat.le_refl _) (by rw [mm_ce_n (Nat.le_refl _)]; exact hk2)
      rw [mm_ce_n (Nat.le_refl _)] at this
      exact this
end XS
end
section
/-! the class's scopes while it parses -/
def zc (op : Nat → Nat) : Nat → Nat
  | 0 => 0
  | d + 1 => zc op d + (if op d = 0 then 1 else 0)
theorem zc_s {op : Nat → Nat} {a : Nat} : ∀ (σ : List Nat) (dp : Nat), dp = (mm_ms σ).length → (∀ i, i < dp → op i = 0 → (mm_ms σ).getD i 0 = a) → zc op dp ≤ mm_cS a σ := by
  intro σ
  induction σ with
  | nil => intro dp hd _; subst hd; exact Nat.le_refl 0
  | cons e s ih =>
    intro dp hd h
    show _ ≤ (if e = 57 + a then 1 else 0) + mm_cS a s
    by_cases he : 57 ≤ e
    · rw [mm_ms_k he] at hd h
      rw [List.length_append] at hd
      have hd : dp = (mm_ms s).length + 1 := hd
      subst hd
      have h1 := ih (mm_ms s).length rfl (fun i hi h0 => by
        have := h i (by omega) h0
        rw [gd_l hi] at this
        exact this)
      show zc op (mm_ms s).length + (if op (mm_ms s).length = 0 then 1 else 0) ≤ _
      by_cases h0 : op (mm_ms s).length = 0
      · have := h _ (by omega) h0
        rw [gd_r rfl] at this
        rw [if_pos h0, if_pos (by omega)]
        omega
      · rw [if_neg h0]; omega
    · rw [mm_ms_e (by omega)] at hd h
      have := ih dp hd h
      omega
theorem zc_m {op : Nat → Nat} : ∀ d i, zc op i ≤ zc op (i + d) := by
  intro d
  induction d with
  | zero => intro i; exact Nat.le_refl _
  | succ d ih =>
    intro i
    have := ih i
    show _ ≤ zc op (i + d) + _
    omega
def xp_s (f dp a : Nat) (op : Nat → Nat) (ns : Nat) (par bg en so : Nat → Nat) (a_opened a_scopes a_around a_beginsAt a_endsAt a_scopeOf : Nat → Int32) : Prop :=
  (∀ i, i < dp → a_opened i = if op i = 0 then -1 else nI (op i)) ∧ a_scopes f = nI ns ∧
  (∀ s, 1 ≤ s → s < ns → a_around (128 * f + s) = nI (par s) ∧ a_beginsAt (128 * f + s) = nI (bg s) ∧ (¬ sp_o op dp s → a_endsAt (128 * f + s) = nI (en s))) ∧ (∀ q, q < a → a_scopeOf (20 * f + q) = nI (so q))
def fr1 (f : Nat) (x x0 : Nat → Int32) : Prop := ∀ g, g ≠ f → x g = x0 g
def fr3 (f : Nat) (x x0 : Nat → Int32) : Prop := ∀ c, (c < 128 * f ∨ 128 * f + 128 ≤ c) → x c = x0 c
theorem fr1_u {f : Nat} {x x0 : Nat → Int32} {v : Int32} (h : fr1 f x x0) : fr1 f (upd x f v) x0 := fun g hg => by rw [pk_un hg]; exact h g hg
theorem fr3_u {f c : Nat} {x x0 : Nat → Int32} {v : Int32} (h : fr3 f x x0) (h1 : c < 128) : fr3 f (upd x (128 * f + c) v) x0 := fun d hd => by rw [pk_un (by omega)]; exact h d hd
def xp_fr (f : Nat) (z_scopes z_around z_beginsAt z_endsAt z_scopeOf z_defs z_refs z_imports z_defAt z_refAt z_importAt a_scopes a_around a_beginsAt a_endsAt a_scopeOf a_defs a_refs a_imports a_defAt a_refAt a_importAt : Nat → Int32) : Prop :=
  fr1 f a_scopes z_scopes ∧ fr3 f a_around z_around ∧ fr3 f a_beginsAt z_beginsAt ∧ fr3 f a_endsAt z_endsAt ∧ yo_fr f a_scopeOf z_scopeOf ∧ fr1 f a_defs z_defs ∧ fr1 f a_refs z_refs ∧ fr1 f a_imports z_imports ∧ yo_fr f a_defAt z_defAt ∧ yo_fr f a_refAt z_refAt ∧ yo_fr f a_importAt z_importAt
theorem xx_ls_a {l : List Nat} {f a : Nat} {cn at_ : Nat → Int32} (h : xx_ls l f cn at_) : xx_ls (l ++ [a]) f (upd cn f (nI (l.length + 1))) (upd at_ (20 * f + l.length) (nI a)) := by
  refine ⟨by rw [pk_us, List.length_append]; rfl, fun d hd => ?_⟩
  rw [List.length_append] at hd
  have hd : d < l.length + 1 := hd
  by_cases e : d = l.length
  · subst e; rw [pk_us, gd_r rfl]
  · rw [pk_un (by omega), gd_l (by omega)]; exact h.2 d (by omega)
noncomputable def xl (G : gg_T) (tok : Nat → Nat) (x a : Nat) : List Nat := (List.range a).filter (fun q => decide (pl_rl G tok q = nI x))
theorem xl_0 {G : gg_T} {tok : Nat → Nat} {x : Nat} : xl G tok x 0 = [] := rfl
theorem xl_s {G : gg_T} {tok : Nat → Nat} {x a : Nat} (h : pl_rl G tok a = nI x) : xl G tok x (a + 1) = xl G tok x a ++ [a] := by
  unfold xl
  rw [List.range_succ, List.filter_append]
  congr 1
  exact List.filter_cons_of_pos (p := fun q => decide (pl_rl G tok q = nI x)) (decide_eq_true h)
theorem xl_n {G : gg_T} {tok : Nat → Nat} {x a : Nat} (h : ¬ pl_rl G tok a = nI x) : xl G tok x (a + 1) = xl G tok x a := by
  unfold xl
  rw [List.range_succ, List.filter_append]
  rw [List.filter_cons_of_neg (p := fun q => decide (pl_rl G tok q = nI x)) (by simpa using h)]
  simp
theorem xl_l {G : gg_T} {tok : Nat → Nat} {x a : Nat} : (xl G tok x a).length ≤ a := by
  have := List.length_filter_le (fun q => decide (pl_rl G tok q = nI x)) (List.range a)
  rw [List.length_range] at this
  exact this
section XN
variable {G : gg_T} {f_built f_nullable f_productive f_sp f_depth f_at : Int32} {a_first a_follow a_kind a_value a_length a_fault a_defs a_refs a_imports a_defAt a_refAt a_scopeOf a_importAt a_around a_beginsAt a_endsAt a_names a_scopes a_twice a_open a_stale a_link a_kept a_stack a_trial a_opened : Nat → Int32} {a_table : Nat → Int64} {md us : Nat → Nat} {tok : Nat → Nat} {z_scopes z_around z_beginsAt z_endsAt z_scopeOf z_defs z_refs z_imports z_defAt z_refAt z_importAt : Nat → Int32}
/-- the scopes' arrays in the numbering loop: so is not touched -/
theorem xn_4 {post : Int32 → SX → Prop} {f k a dp ns0 : Nat} {ms : List Nat} {op0 en so : Nat → Nat} (hf : f < 4) (ha : a < 20) (hns : ns0 + zc op0 dp ≤ 121) (hdp : dp ≤ 126)
    (hP : ∀ op ns par bg a_opened a_scopes a_around a_beginsAt, sp_I G tok k ms a (a + 1) dp op ns par bg en so → (∀ j, j < dp → op j ≠ 0) → ns = ns0 + zc op0 dp → xp_s f dp a op ns par bg en so a_opened a_scopes a_around a_beginsAt a_endsAt a_scopeOf →
      xp_fr f z_scopes z_around z_beginsAt z_endsAt z_scopeOf z_defs z_refs z_imports z_defAt z_refAt z_importAt a_scopes a_around a_beginsAt a_endsAt a_scopeOf a_defs a_refs a_imports a_defAt a_refAt a_importAt → post (nI (if dp = 0 then 0 else op (dp - 1))) (nI (gg_np G), f_built, f_nullable, f_productive, f_sp, nI dp, nI a, nA (gg_ru G), nA (gg_ln G), nA (gg_sy G), gg_ro G, nA (gg_sc G), nA md, nA us, a_first, a_follow, a_table, a_kind, a_value, a_length, a_fault, a_defs, a_refs, a_imports, a_defAt, a_refAt, a_scopeOf, a_importAt, a_around, a_beginsAt, a_endsAt, a_names, a_scopes, a_twice, a_open, a_stale, a_link, a_kept, a_stack, a_trial, a_opened)) :
    ∀ d i op ns par bg a_opened a_scopes a_around a_beginsAt, i + d = dp → sp_I G tok k ms a (a + 1) dp op ns par bg en so → (∀ j, j < i → op j ≠ 0) → (∀ j, i ≤ j → op j = op0 j) → ns = ns0 + zc op0 i → xp_s f dp a op ns par bg en so a_opened a_scopes a_around a_beginsAt a_endsAt a_scopeOf → xp_fr f z_scopes z_around z_beginsAt z_endsAt z_scopeOf z_defs z_refs z_imports z_defAt z_refAt z_importAt a_scopes a_around a_beginsAt a_endsAt a_scopeOf a_defs a_refs a_imports a_defAt a_refAt a_importAt →
      wX_innermost_4 post (nI f) (nI (gg_np G)) f_built f_nullable f_productive f_sp (nI dp) (nI a) (d + 1) (nI (if i = 0 then 0 else op (i - 1))) (nI i) (nA (gg_ru G)) (nA (gg_ln G)) (nA (gg_sy G)) (gg_ro G) (nA (gg_sc G)) (nA md) (nA us) a_first a_follow a_table a_kind a_value a_length a_fault a_defs a_refs a_imports a_defAt a_refAt a_scopeOf a_importAt a_around a_beginsAt a_endsAt a_names a_scopes a_twice a_open a_stale a_link a_kept a_stack a_trial a_opened := by
  intro d
  induction d with
  | zero =>
    intro i op ns par bg a_opened a_scopes a_around a_beginsAt hi hI hl ho hn hS hfr
    have e : i = dp := by omega
    subst e
    refine pk_le i i (fun _ => hP op ns par bg a_opened a_scopes a_around a_beginsAt hI hl hn hS hfr) (fun h => absurd h (by omega))
  | succ d ih =>
    intro i op ns par bg a_opened a_scopes a_around a_beginsAt hi hI hl ho hn hS hfr
    have hz := zc_m (op := op0) (dp - (i + 1)) (i + 1)
    rw [show i + 1 + (dp - (i + 1)) = dp by omega] at hz
    have hz1 : zc op0 (i + 1) = zc op0 i + (if op0 i = 0 then 1 else 0) := rfl
    refine pk_le dp i (fun h => absurd h (by omega)) (fun hid => ⟨pk_in i 140 (by omega), ?_⟩)
    have hop := hS.1 i hid
    rw [nI_clamp (show i < 2 ^ 31 by omega)]
    by_cases h0 : op i = 0
    · rw [if_pos h0] at hop
      rw [hop]
      have h00 : op0 i = 0 := by rw [← ho i (Nat.le_refl i)]; exact h0
      rw [if_pos h00] at hz1
      have e1 : (128 : Int32) * nI f + nI ns = nI (128 * f + ns) := by rw [show (128 : Int32) = nI 128 from rfl, pk_mul, nI_add]
      have hup : (if i = 0 then 0 else op (i - 1)) < 121 := by
        by_cases e : i = 0
        · rw [if_pos e]; omega
        · rw [if_neg e]
          have := ((hI.2.1.2 (i - 1) (by omega)).2 (hl (i - 1) (by omega))).1
          omega
      refine br_f nn_m1 ?_
      rw [nI_clamp (show f < 2 ^ 31 by omega), hS.2.1, nI_1, e1, vb_w (show ns + 1 < 128 by omega), vb_v (show ns < 128 by omega), vb_w (show (if i = 0 then 0 else op (i - 1)) < 128 by omega), vb_w (show a < 128 by omega)]
      refine ⟨pk_in f 4 hf, nm_e ?_⟩
      rw [nI_clamp (show 128 * f + ns < 2 ^ 31 by omega)]
      refine ⟨pk_in f 4 hf, pk_in f 4 hf, nm_e ⟨pk_in i 140 (by omega), nm_e ⟨pk_in (128 * f + ns) 512 (by omega), nm_e ⟨pk_in (128 * f + ns) 512 (by omega), nm_e ⟨pk_in i 140 (by omega), nm_r (e' := nI ns) pk_us (nm_r (nI_1 i) ?_)⟩⟩⟩⟩⟩
      · have hI2 := sp_num hI hid h0 hl rfl
        have hns1 := hI.1
        have key := ih (i + 1) (un op i ns) (ns + 1) (un par ns (if i = 0 then 0 else op (i - 1))) (un bg ns a) (upd a_opened i (nI ns)) (upd a_scopes f (nI (ns + 1))) (upd a_around (128 * f + ns) (nI (if i = 0 then 0 else op (i - 1)))) (upd a_beginsAt (128 * f + ns) (nI a)) (by omega) hI2 ?_ ?_ (by omega) ?_ ?_
        · rw [if_neg (by omega), Nat.add_sub_cancel, un_s] at key
          exact key
        · intro j hj
          by_cases e : j = i
          · subst e; rw [un_s]; omega
          · rw [un_n e]; exact hl j (by omega)
        · intro j hj
          rw [un_n (by omega)]
          exact ho j (by omega)
        · refine ⟨fun j hj => ?_, pk_us, fun s s1 s2 => ?_, hS.2.2.2⟩
          · by_cases e : j = i
            · subst e; rw [pk_us, un_s, if_neg (by omega)]
            · rw [pk_un e, un_n e]; exact hS.1 j hj
          · by_cases e : s = ns
            · subst e
              rw [pk_us, pk_us, un_s, un_s]
              exact ⟨rfl, rfl, fun hn => absurd ⟨i, hid, un_s⟩ hn⟩
            · rw [pk_un (by omega), pk_un (by omega), un_n e, un_n e]
              have := hS.2.2.1 s s1 (by omega)
              refine ⟨this.1, this.2.1, fun hn => this.2.2 (fun ⟨j, j1, j2⟩ => hn ⟨j, j1, ?_⟩)⟩
              rw [un_n (by intro e2; subst e2; omega)]
              exact j2
        · obtain ⟨q1, q2, q3, q4⟩ := hfr
          exact ⟨fr1_u q1, fr3_u q2 (by omega), fr3_u q3 (by omega), q4⟩
    · rw [if_neg h0] at hop
      rw [hop]
      have h00 : ¬ op0 i = 0 := by rw [← ho i (Nat.le_refl i)]; exact h0
      rw [if_neg h00] at hz1
      have hlt := ((hI.2.1.2 i hid).2 h0).1
      refine br_t (nI_pos' (by omega)) ⟨pk_in i 140 (by omega), nm_e (nm_r (nI_1 i) ?_)⟩
      have key := ih (i + 1) op ns par bg a_opened a_scopes a_around a_beginsAt (by omega) hI ?_ (fun j hj => ho j (by omega)) (by omega) hS hfr
      · rw [if_neg (by omega), Nat.add_sub_cancel] at key
        exact key
      · intro j hj
        by_cases e : j = i
        · subst e; exact h0
        · exact hl j (by omega)
end XN
end
section
def xp_I (G : gg_T) (tok : Nat → Nat) (f k : Nat) (σ : List Nat) (a : Nat) (f_depth : Int32) (a_opened z_scopes z_around z_beginsAt z_endsAt z_scopeOf z_defs z_refs z_imports z_defAt z_refAt z_importAt a_scopes a_around a_beginsAt a_endsAt a_scopeOf a_defs a_refs a_imports a_defAt a_refAt a_importAt : Nat → Int32) : Prop :=
  ∃ dp op ns par bg en so, f_depth = nI dp ∧ mm_R G tok true k = some (σ, a) ∧ sp_I G tok k (mm_ms σ) a a dp op ns par bg en so ∧ ns ≤ 1 + 6 * a ∧ xp_s f dp a op ns par bg en so a_opened a_scopes a_around a_beginsAt a_endsAt a_scopeOf ∧
    xx_ls (xl G tok 1 a) f a_defs a_defAt ∧ xx_ls (xl G tok 2 a) f a_refs a_refAt ∧ xx_ls (xl G tok 3 a) f a_imports a_importAt ∧ xp_fr f z_scopes z_around z_beginsAt z_endsAt z_scopeOf z_defs z_refs z_imports z_defAt z_refAt z_importAt a_scopes a_around a_beginsAt a_endsAt a_scopeOf a_defs a_refs a_imports a_defAt a_refAt a_importAt
section XP
variable {G : gg_T} {f_built f_nullable f_productive f_sp f_depth f_at : Int32} {a_first a_follow a_kind a_value a_length a_fault a_defs a_refs a_imports a_defAt a_refAt a_scopeOf a_importAt a_around a_beginsAt a_endsAt a_names a_scopes a_twice a_open a_stale a_link a_kept a_stack a_trial a_opened : Nat → Int32} {a_table : Nat → Int64} {md us : Nat → Nat} {tok : Nat → Nat} {z_scopes z_around z_beginsAt z_endsAt z_scopeOf z_defs z_refs z_imports z_defAt z_refAt z_importAt : Nat → Int32}
theorem xp_R {f k a : Nat} {σ : List Nat} (h : xp_I G tok f k σ a f_depth a_opened z_scopes z_around z_beginsAt z_endsAt z_scopeOf z_defs z_refs z_imports z_defAt z_refAt z_importAt a_scopes a_around a_beginsAt a_endsAt a_scopeOf a_defs a_refs a_imports a_defAt a_refAt a_importAt) : mm_R G tok true k = some (σ, a) := by
  obtain ⟨dp, op, ns, par, bg, en, so, h1, h2, _⟩ := h
  exact h2
theorem xp_note {post : SX → Prop} {f k a c n : Nat} {s : List Nat} (hG : gg_ok G) (L : gg_LL G) (h10 : ∀ a, tok a ≤ 10) (hn : ∀ a, n ≤ a → tok a = 10) (hn20 : n ≤ 20) (hf : f < 4) (hI : xp_I G tok f k (c :: s) a f_depth a_opened z_scopes z_around z_beginsAt z_endsAt z_scopeOf z_defs z_refs z_imports z_defAt z_refAt z_importAt a_scopes a_around a_beginsAt a_endsAt a_scopeOf a_defs a_refs a_imports a_defAt a_refAt a_importAt) (hc : c < 56) (ht : gg_sy G c < 10) (hm : gg_sy G c = tok a)
    (hP : ∀ a_opened a_scopes a_around a_beginsAt a_endsAt a_scopeOf a_defs a_refs a_imports a_defAt a_refAt a_importAt, xp_I G tok f (k + 1) s (a + 1) f_depth a_opened z_scopes z_around z_beginsAt z_endsAt z_scopeOf z_defs z_refs z_imports z_defAt z_refAt z_importAt a_scopes a_around a_beginsAt a_endsAt a_scopeOf a_defs a_refs a_imports a_defAt a_refAt a_importAt → post (nI (gg_np G), f_built, f_nullable, f_productive, f_sp, f_depth, nI a, nA (gg_ru G), nA (gg_ln G), nA (gg_sy G), gg_ro G, nA (gg_sc G), nA md, nA us, a_first, a_follow, a_table, a_kind, a_value, a_length, a_fault, a_defs, a_refs, a_imports, a_defAt, a_refAt, a_scopeOf, a_importAt, a_around, a_beginsAt, a_endsAt, a_names, a_scopes, a_twice, a_open, a_stale, a_link, a_kept, a_stack, a_trial, a_opened)) : wpX_note post (nI (gg_np G), f_built, f_nullable, f_productive, f_sp, f_depth, nI a, nA (gg_ru G), nA (gg_ln G), nA (gg_sy G), gg_ro G, nA (gg_sc G), nA md, nA us, a_first, a_follow, a_table, a_kind, a_value, a_length, a_fault, a_defs, a_refs, a_imports, a_defAt, a_refAt, a_scopeOf, a_importAt, a_around, a_beginsAt, a_endsAt, a_names, a_scopes, a_twice, a_open, a_stale, a_link, a_kept, a_stack, a_trial, a_opened) (nI f) (nI c) := by
  obtain ⟨dp, op, ns, par, bg, en, so, h1, h2, h3, h4, h5, h6, h7, h8, h9⟩ := hI
  subst h1
  have ha : a < n := by
    have : ¬ n ≤ a := fun h => by have := hn a h; omega
    omega
  have hbd := mm_bd (nt := true) hG L h10 h2 (by omega)
  have hdp : dp = (mm_ms (c :: s)).length := h3.2.1.1
  have hdp2 := mm_ms_len (c :: s)
  have hzc := zc_s (op := op) (a := a) (c :: s) dp hdp (fun i hi h => (h3.2.1.2 i hi).1 h)
  have hRs : mm_R G tok true (k + 1) = some (s, a + 1) := by rw [mm_R_s h2]; exact mm_st_t (by omega) (by rw [mm_sym_lt hc]; exact ht) (by rw [mm_sym_lt hc]; exact hm)
  have hrl : pl_rl G tok a = gg_ro G c := pl_rl_e ⟨k, s, h2, hc, ht, hm⟩
  obtain ⟨r, r1, r2⟩ := hG.2.2.2.2.2 c ht
  rw [r2] at hrl
  have hnk : ∀ i j r, mm_R G tok true k = some ((57 + i) :: r, j) → ¬ i < j := by
    intro i j r hr
    rw [h2] at hr
    injection hr with hr
    injection hr with hr _
    injection hr with hr _
    omega
  unfold wpX_note
  dsimp only
  refine nm_e ⟨dp + 1, ?_⟩
  refine xn_4 (z_scopes := z_scopes) (z_around := z_around) (z_beginsAt := z_beginsAt) (z_endsAt := z_endsAt) (z_scopeOf := z_scopeOf) (z_defs := z_defs) (z_refs := z_refs) (z_imports := z_imports) (z_defAt := z_defAt) (z_refAt := z_refAt) (z_importAt := z_importAt) (ns0 := ns) (op0 := op) hf (by omega) (by omega) (by omega) ?_ dp 0 op ns par bg a_opened a_scopes a_around a_beginsAt (by omega) (sp_w h3) (fun j hj => by omega) (fun j _ => rfl) rfl h5 h9
  intro op2 ns2 par2 bg2 a_opened2 a_scopes2 a_around2 a_beginsAt2 g1 g2 g3 g4 g5
  dsimp only
  have e2 : (20 : Int32) * nI f + nI a = nI (20 * f + a) := by rw [show (20 : Int32) = nI 20 from rfl, pk_mul, nI_add]
  have hup : (if dp = 0 then 0 else op2 (dp - 1)) < 128 := by
    by_cases e : dp = 0
    · rw [if_pos e]; omega
    · rw [if_neg e]
      have := ((g1.2.1.2 (dp - 1) (by omega)).2 (g2 (dp - 1) (by omega))).1
      omega
  have hd1 : (20 : Int32) * nI f + nI (xl G tok 1 a).length = nI (20 * f + (xl G tok 1 a).length) := by rw [show (20 : Int32) = nI 20 from rfl, pk_mul, nI_add]
  have hd2 : (20 : Int32) * nI f + nI (xl G tok 2 a).length = nI (20 * f + (xl G tok 2 a).length) := by rw [show (20 : Int32) = nI 20 from rfl, pk_mul, nI_add]
  have hd3 : (20 : Int32) * nI f + nI (xl G tok 3 a).length = nI (20 * f + (xl G tok 3 a).length) := by rw [show (20 : Int32) = nI 20 from rfl, pk_mul, nI_add]
  have l1 := xl_l (G := G) (tok := tok) (x := 1) (a := a)
  have l2 := xl_l (G := G) (tok := tok) (x := 2) (a := a)
  have l3 := xl_l (G := G) (tok := tok) (x := 3) (a := a)
  have hfin : ∀ a_defs a_refs a_imports a_defAt a_refAt a_importAt, xx_ls (xl G tok 1 (a + 1)) f a_defs a_defAt → xx_ls (xl G tok 2 (a + 1)) f a_refs a_refAt → xx_ls (xl G tok 3 (a + 1)) f a_imports a_importAt →
      fr1 f a_defs z_defs → fr1 f a_refs z_refs → fr1 f a_imports z_imports → yo_fr f a_defAt z_defAt → yo_fr f a_refAt z_refAt → yo_fr f a_importAt z_importAt →
      xp_I G tok f (k + 1) s (a + 1) (nI dp) a_opened2 z_scopes z_around z_beginsAt z_endsAt z_scopeOf z_defs z_refs z_imports z_defAt z_refAt z_importAt a_scopes2 a_around2 a_beginsAt2 a_endsAt (upd a_scopeOf (20 * f + a) (nI (if dp = 0 then 0 else op2 (dp - 1)))) a_defs a_refs a_imports a_defAt a_refAt a_importAt := by
    intro a_defs a_refs a_imports a_defAt a_refAt a_importAt q1 q2 q3 q4 q5 q6 q7 q8 q9
    have hm2 : mm_ms (c :: s) = mm_ms s := mm_ms_e (by omega)
    have := sp_tok g1 g2 rfl hnk
    rw [hm2] at this
    refine ⟨dp, op2, ns2, par2, bg2, en, _, rfl, hRs, this, by omega, ⟨g4.1, g4.2.1, g4.2.2.1, fun q hq => ?_⟩, q1, q2, q3, g5.1, g5.2.1, g5.2.2.1, g5.2.2.2.1, yo_fr_u g5.2.2.2.2.1 (by omega) (by omega), q4, q5, q6, q7, q8, q9⟩
    by_cases e : q = a
    · subst e; rw [pk_us, un_s]
    · rw [pk_un (by omega), un_n e]; exact g4.2.2.2 q (by omega)
  obtain ⟨_, _, _, _, _, f1, f2, f3, f4, f5, f6⟩ := h9
  rw [e2, nI_clamp (show 20 * f + a < 2 ^ 31 by omega), nI_clamp (show c < 2 ^ 31 by omega), vb_w hup, vb_w (show a < 128 by omega), r2, nI_clamp (show f < 2 ^ 31 by omega), h6.1, h7.1, h8.1, nI_1, nI_1, nI_1, vb_w (show (xl G tok 1 a).length + 1 < 128 by omega), vb_w (show (xl G tok 2 a).length + 1 < 128 by omega), vb_w (show (xl G tok 3 a).length + 1 < 128 by omega), hd1, hd2, hd3,
    nI_clamp (show 20 * f + (xl G tok 1 a).length < 2 ^ 31 by omega), nI_clamp (show 20 * f + (xl G tok 2 a).length < 2 ^ 31 by omega), nI_clamp (show 20 * f + (xl G tok 3 a).length < 2 ^ 31 by omega)]
  have ne : ∀ x y, x ≤ 3 → y ≤ 3 → x ≠ y → ¬ nI x = nI y := fun x y hx hy hxy h => hxy (nI_inj (by omega) (by omega) h)
  have keep : ∀ x, x ≤ 3 → r ≠ x → xl G tok x (a + 1) = xl G tok x a := fun x hx hr => xl_n (by rw [hrl]; exact ne r x r1 hx hr)
  refine ⟨pk_in (20 * f + a) 80 (by omega), nm_e ⟨pk_in c 56 hc, nm_e ?_⟩⟩
  refine pk_lt r 1 (fun hr => hP _ _ _ _ _ _ _ _ _ _ _ _ (hfin a_defs a_refs a_imports a_defAt a_refAt a_importAt ?_ ?_ ?_ f1 f2 f3 f4 f5 f6)) (fun hr => pk_lt 3 r (fun h => absurd h (by omega)) (fun _ => ?_))
  · rw [keep 1 (by omega) (by omega)]; exact h6
  · rw [keep 2 (by omega) (by omega)]; exact h7
  · rw [keep 3 (by omega) (by omega)]; exact h8
  · refine pk_eq r 1 (fun hr => ?_) (fun hr1 => pk_eq r 2 (fun hr => ?_) (fun hr2 => pk_eq r 3 (fun hr => ?_) (fun _ => trivial)))
    · refine ⟨pk_in f 4 hf, pk_in f 4 hf, nm_e ⟨pk_in (20 * f + (xl G tok 1 a).length) 80 (by omega), nm_e (hP _ _ _ _ _ _ _ _ _ _ _ _ (hfin _ a_refs a_imports _ a_refAt a_importAt ?_ ?_ ?_ (fr1_u f1) f2 f3 (yo_fr_u f4 (by omega) (by omega)) f5 f6))⟩⟩
      · rw [xl_s (by rw [hrl, hr])]; exact xx_ls_a h6
      · rw [keep 2 (by omega) (by omega)]; exact h7
      · rw [keep 3 (by omega) (by omega)]; exact h8
    · refine ⟨pk_in f 4 hf, pk_in f 4 hf, nm_e ⟨pk_in (20 * f + (xl G tok 2 a).length) 80 (by omega), nm_e (hP _ _ _ _ _ _ _ _ _ _ _ _ (hfin a_defs _ a_imports a_defAt _ a_importAt ?_ ?_ ?_ f1 (fr1_u f2) f3 f4 (yo_fr_u f5 (by omega) (by omega)) f6))⟩⟩
      · rw [keep 1 (by omega) (by omega)]; exact h6
      · rw [xl_s (by rw [hrl, hr])]; exact xx_ls_a h7
      · rw [keep 3 (by omega) (by omega)]; exact h8
    · refine ⟨pk_in f 4 hf, pk_in f 4 hf, nm_e ⟨pk_in (20 * f + (xl G tok 3 a).length) 80 (by omega), nm_e (hP _ _ _ _ _ _ _ _ _ _ _ _ (hfin a_defs a_refs _ a_defAt a_refAt _ ?_ ?_ ?_ f1 f2 (fr1_u f3) f4 f5 (yo_fr_u f6 (by omega) (by omega))))⟩⟩
      · rw [keep 1 (by omega) (by omega)]; exact h6
      · rw [keep 2 (by omega) (by omega)]; exact h7
      · rw [xl_s (by rw [hrl, hr])]; exact xx_ls_a h8
theorem xp_leave {post : SX → Prop} {f k a e n : Nat} {s : List Nat} (hG : gg_ok G) (L : gg_LL G) (h10 : ∀ a, tok a ≤ 10) (hn : ∀ a, n ≤ a → tok a = 10) (hn20 : n ≤ 20) (hf : f < 4) (hI : xp_I G tok f k (e :: s) a f_depth a_opened z_scopes z_around z_beginsAt z_endsAt z_scopeOf z_defs z_refs z_imports z_defAt z_refAt z_importAt a_scopes a_around a_beginsAt a_endsAt a_scopeOf a_defs a_refs a_imports a_defAt a_refAt a_importAt) (he : 57 ≤ e)
    (hP : ∀ f_depth a_endsAt, xp_I G tok f (k + 1) s a f_depth a_opened z_scopes z_around z_beginsAt z_endsAt z_scopeOf z_defs z_refs z_imports z_defAt z_refAt z_importAt a_scopes a_around a_beginsAt a_endsAt a_scopeOf a_defs a_refs a_imports a_defAt a_refAt a_importAt → post (nI (gg_np G), f_built, f_nullable, f_productive, f_sp, f_depth, nI a, nA (gg_ru G), nA (gg_ln G), nA (gg_sy G), gg_ro G, nA (gg_sc G), nA md, nA us, a_first, a_follow, a_table, a_kind, a_value, a_length, a_fault, a_defs, a_refs, a_imports, a_defAt, a_refAt, a_scopeOf, a_importAt, a_around, a_beginsAt, a_endsAt, a_names, a_scopes, a_twice, a_open, a_stale, a_link, a_kept, a_stack, a_trial, a_opened)) : wpX_leave post (nI (gg_np G), f_built, f_nullable, f_productive, f_sp, f_depth, nI a, nA (gg_ru G), nA (gg_ln G), nA (gg_sy G), gg_ro G, nA (gg_sc G), nA md, nA us, a_first, a_follow, a_table, a_kind, a_value, a_length, a_fault, a_defs, a_refs, a_imports, a_defAt, a_refAt, a_scopeOf, a_importAt, a_around, a_beginsAt, a_endsAt, a_names, a_scopes, a_twice, a_open, a_stale, a_link, a_kept, a_stack, a_trial, a_opened) (nI f) := by
  obtain ⟨dp, op, ns, par, bg, en, so, h1, h2, h3, h4, h5, h6, h7, h8, h9⟩ := hI
  subst h1
  have ha := mm_pl hn k _ _ h2
  have hbd := mm_bd (nt := true) hG L h10 h2 (by omega)
  obtain ⟨i0, rfl⟩ : ∃ i0, e = 57 + i0 := ⟨e - 57, by omega⟩
  have hms : mm_ms ((57 + i0) :: s) = mm_ms s ++ [i0] := by rw [mm_ms_k (by omega), Nat.add_sub_cancel_left]
  rw [hms] at h3
  have hd0 := h3.2.1.1
  rw [List.length_append] at hd0
  obtain ⟨d, rfl⟩ : ∃ d, dp = d + 1 := ⟨(mm_ms s).length, hd0⟩
  have hd1 : d = (mm_ms s).length := by simpa using hd0
  have hd2 := mm_ms_len ((57 + i0) :: s)
  rw [hms, List.length_append] at hd2
  have hd2 : (mm_ms s).length + 1 = mm_cM ((57 + i0) :: s) := hd2
  have hRs : mm_R G tok true (k + 1) = some (s, a) := by rw [mm_R_s h2]; exact mm_st_k (by omega)
  unfold wpX_leave
  dsimp only
  rw [nI_pred d, nI_clamp (show d < 2 ^ 31 by omega), h5.1 d (by omega)]
  refine nm_e ⟨pk_in d 140 (by omega), ?_⟩
  by_cases h0 : op d = 0
  · rw [if_pos h0]
    refine nm_e (br_t (by decide) (hP _ _ ⟨d, op, ns, par, bg, en, so, rfl, hRs, sp_pop0 h3 h2 h0, h4, ⟨fun i hi => h5.1 i (by omega), h5.2.1, fun s s1 s2 => ⟨(h5.2.2.1 s s1 s2).1, (h5.2.2.1 s s1 s2).2.1, fun hn => (h5.2.2.1 s s1 s2).2.2 (fun ⟨i, i1, i2⟩ => ?_)⟩, h5.2.2.2⟩, h6, h7, h8, h9⟩))
    by_cases e : i = d
    · subst e; omega
    · exact hn ⟨i, by omega, i2⟩
  · rw [if_neg h0]
    obtain ⟨g1, g2, g3⟩ := sp_pop h3 h2 h0
    have e1 : (128 : Int32) * nI f + nI (op d) = nI (128 * f + op d) := by rw [show (128 : Int32) = nI 128 from rfl, pk_mul, nI_add]
    have e3 : nI a - 1 = nI (a - 1) := pk_sub (b := 1) g1
    refine nm_e (br_f (nI_nle (by omega) (by omega)) ?_)
    rw [e1, e3, nI_clamp (show 128 * f + op d < 2 ^ 31 by omega), vb_w (show a - 1 < 128 by omega)]
    refine ⟨pk_in (128 * f + op d) 512 (by omega), nm_e (hP _ _ ⟨d, op, ns, par, bg, _, so, rfl, hRs, g3, h4, ⟨fun i hi => h5.1 i (by omega), h5.2.1, fun s s1 s2 => ⟨(h5.2.2.1 s s1 s2).1, (h5.2.2.1 s s1 s2).2.1, fun hn => ?_⟩, h5.2.2.2⟩, h6, h7, h8, ?_⟩)⟩
    · by_cases e : s = op d
      · subst e; rw [pk_us, un_s]
      · rw [pk_un (by omega), un_n e]
        refine (h5.2.2.1 s s1 s2).2.2 (fun ⟨i, i1, i2⟩ => ?_)
        by_cases ei : i = d
        · subst ei; omega
        · exact hn ⟨i, by omega, i2⟩
    · obtain ⟨q1, q2, q3, q4, q5⟩ := h9
      exact ⟨q1, q2, q3, fr3_u q4 (by omega), q5⟩
end XP
end
section
theorem nr_1 : narrow .boolean (.int 1) = .int (1 : Int32) := by decide
theorem nr_0 : narrow .boolean (.int 0) = .int (0 : Int32) := by decide
theorem ck_7 {e : Nat} (h : 57 ≤ e) : nI (if 57 ≤ e then 57 else e) = 57 := by rw [if_pos h]; rfl
/-- without notes the stack holds no marks -/
theorem xq_nm0 {G : gg_T} {tok : Nat → Nat} (hG : gg_ok G) : ∀ k σ a, mm_R G tok false k = some (σ, a) → ∀ e, e ∈ σ → e < 57 := by
  refine mm_R_inv ?_ ?_
  · intro e he
    rcases List.mem_cons.mp he with rfl | he
    · omega
    · cases he
  · intro σ a σ' a' h hs
    cases σ with
    | nil => cases hs
    | cons e s =>
      rcases mm_st_c hs with ⟨c1, c2, c3⟩ | ⟨c1, c2, c3, c4, c5⟩ | ⟨c1, c2, p, c3, c4, c5, c6⟩
      · subst c2; exact fun x hx => h x (List.mem_cons_of_mem _ hx)
      · subst c4; exact fun x hx => h x (List.mem_cons_of_mem _ hx)
      · subst c5
        have hmk : mm_mk G false p a = [] := if_neg (fun h => by cases h.1)
        rw [hmk]
        intro x hx
        rcases List.mem_append.mp hx with hx | hx
        · have := mm_ce_lt hG c3.1 hx; omega
        · exact h x (List.mem_cons_of_mem _ hx)
section XQ
variable {G : gg_T} {T : tx_T} {f_built f_nullable f_productive f_sp f_depth f_at : Int32} {a_first a_follow a_kind a_value a_length a_fault a_defs a_refs a_imports a_defAt a_refAt a_scopeOf a_importAt a_around a_beginsAt a_endsAt a_names a_scopes a_twice a_open a_stale a_link a_kept a_stack a_trial a_opened : Nat → Int32} {a_table : Nat → Int64} {md us : Nat → Nat} {z_scopes z_around z_beginsAt z_endsAt z_scopeOf z_defs z_refs z_imports z_defAt z_refAt z_importAt : Nat → Int32}
theorem xq_tok {post : Int32 → SX → Prop} {J : Int32 → Int32 → Int32 → Int32 → Int32 → Int32 → Int32 → Int32 → (Nat → Int32) → (Nat → Int32) → (Nat → Int32) → (Nat → Int32) → (Nat → Int32) → (Nat → Int32) → (Nat → Int32) → (Nat → Int32) → (Nat → Int32) → (Nat → Int64) → (Nat → Int32) → (Nat → Int32) → (Nat → Int32) → (Nat → Int32) → (Nat → Int32) → (Nat → Int32) → (Nat → Int32) → (Nat → Int32) → (Nat → Int32) → (Nat → Int32) → (Nat → Int32) → (Nat → Int32) → (Nat → Int32) → (Nat → Int32) → (Nat → Int32) → (Nat → Int32) → (Nat → Int32) → (Nat → Int32) → (Nat → Int32) → (Nat → Int32) → (Nat → Int32) → (Nat → Int32) → (Nat → Int32) → (Nat → Int32) →  Prop} {f a : Nat} {x2 x3 x5 x6 : Int32} (hf : f < 4) (ha : a ≤ 20)
    (h : wX_steps_109 post J (nI f) x2 x3 x5 x6 (nI (tx_tok T f a)) (nI (gg_np G)) f_built f_nullable f_productive f_sp f_depth (nI a) (nA (gg_ru G)) (nA (gg_ln G)) (nA (gg_sy G)) (gg_ro G) (nA (gg_sc G)) (nA md) (nA us) a_first a_follow a_table (nA (tx_kd T)) a_value (nA (tx_le T)) a_fault a_defs a_refs a_imports a_defAt a_refAt a_scopeOf a_importAt a_around a_beginsAt a_endsAt a_names a_scopes a_twice a_open a_stale a_link a_kept a_stack a_trial a_opened) (h20 : tx_le T f ≤ 20) :
    wX_steps_75 post J (nI f) x2 x3 x5 x6 (nI (gg_np G)) f_built f_nullable f_productive f_sp f_depth (nI a) (nA (gg_ru G)) (nA (gg_ln G)) (nA (gg_sy G)) (gg_ro G) (nA (gg_sc G)) (nA md) (nA us) a_first a_follow a_table (nA (tx_kd T)) a_value (nA (tx_le T)) a_fault a_defs a_refs a_imports a_defAt a_refAt a_scopeOf a_importAt a_around a_beginsAt a_endsAt a_names a_scopes a_twice a_open a_stale a_link a_kept a_stack a_trial a_opened := by
  unfold wX_steps_75
  have e2 : (20 : Int32) * nI f + nI a = nI (20 * f + a) := by rw [show (20 : Int32) = nI 20 from rfl, pk_mul, nI_add]
  rw [nA_cl (show f < 2 ^ 31 by omega), e2, nA_cl (show 20 * f + a < 2 ^ 31 by omega)]
  refine ⟨pk_in f 4 hf, pk_le (tx_le T f) a (fun hl => ?_) (fun hl => ⟨pk_in (20 * f + a) 80 (by omega), ?_⟩)⟩
  · have e : tx_tok T f a = 10 := if_neg (by omega)
    rw [e] at h
    exact h
  · have e : tx_tok T f a = tx_kd T (20 * f + a) := if_pos hl
    rw [e] at h
    exact h
theorem xq_3 {post : Int32 → SX → Prop} {f : Nat} (hG : gg_ok G) (L : gg_LL G) (hkd : ∀ c, tx_kd T c < 10) (h20 : tx_le T f ≤ 20) (hf : f < 4) (hB : xx_B G a_table)
    (hP1 : ∀ k a f_sp f_depth a_stack a_opened a_scopes a_around a_beginsAt a_endsAt a_scopeOf a_defs a_refs a_imports a_defAt a_refAt a_importAt, xp_I G (tx_tok T f) f k [] a f_depth a_opened z_scopes z_around z_beginsAt z_endsAt z_scopeOf z_defs z_refs z_imports z_defAt z_refAt z_importAt a_scopes a_around a_beginsAt a_endsAt a_scopeOf a_defs a_refs a_imports a_defAt a_refAt a_importAt → post 1 (nI (gg_np G), f_built, f_nullable, f_productive, f_sp, f_depth, nI a, nA (gg_ru G), nA (gg_ln G), nA (gg_sy G), gg_ro G, nA (gg_sc G), nA md, nA us, a_first, a_follow, a_table, nA (tx_kd T), a_value, nA (tx_le T), a_fault, a_defs, a_refs, a_imports, a_defAt, a_refAt, a_scopeOf, a_importAt, a_around, a_beginsAt, a_endsAt, a_names, a_scopes, a_twice, a_open, a_stale, a_link, a_kept, a_stack, a_trial, a_opened))
    (hP0 : ∀ k σ a f_sp f_depth a_stack a_opened a_scopes a_around a_beginsAt a_endsAt a_scopeOf a_defs a_refs a_imports a_defAt a_refAt a_importAt, xp_I G (tx_tok T f) f k σ a f_depth a_opened z_scopes z_around z_beginsAt z_endsAt z_scopeOf z_defs z_refs z_imports z_defAt z_refAt z_importAt a_scopes a_around a_beginsAt a_endsAt a_scopeOf a_defs a_refs a_imports a_defAt a_refAt a_importAt → mm_st G (tx_tok T f) true σ a = none → σ ≠ [] → post 0 (nI (gg_np G), f_built, f_nullable, f_productive, f_sp, f_depth, nI a, nA (gg_ru G), nA (gg_ln G), nA (gg_sy G), gg_ro G, nA (gg_sc G), nA md, nA us, a_first, a_follow, a_table, nA (tx_kd T), a_value, nA (tx_le T), a_fault, a_defs, a_refs, a_imports, a_defAt, a_refAt, a_scopeOf, a_importAt, a_around, a_beginsAt, a_endsAt, a_names, a_scopes, a_twice, a_open, a_stale, a_link, a_kept, a_stack, a_trial, a_opened)) :
    ∀ d k σ a f_depth a_stack a_opened a_scopes a_around a_beginsAt a_endsAt a_scopeOf a_defs a_refs a_imports a_defAt a_refAt a_importAt, mm_R G (tx_tok T f) true (k + d) = none → xs_k a_stack σ → xp_I G (tx_tok T f) f k σ a f_depth a_opened z_scopes z_around z_beginsAt z_endsAt z_scopeOf z_defs z_refs z_imports z_defAt z_refAt z_importAt a_scopes a_around a_beginsAt a_endsAt a_scopeOf a_defs a_refs a_imports a_defAt a_refAt a_importAt →
      wX_steps_3 post (nI f) 21 1 (d + 2) 1 (nI (gg_np G)) f_built f_nullable f_productive (nI σ.length) f_depth (nI a) (nA (gg_ru G)) (nA (gg_ln G)) (nA (gg_sy G)) (gg_ro G) (nA (gg_sc G)) (nA md) (nA us) a_first a_follow a_table (nA (tx_kd T)) a_value (nA (tx_le T)) a_fault a_defs a_refs a_imports a_defAt a_refAt a_scopeOf a_importAt a_around a_beginsAt a_endsAt a_names a_scopes a_twice a_open a_stale a_link a_kept a_stack a_trial a_opened := by
  intro d
  induction d with
  | zero => intro k σ a f_depth a_stack a_opened a_scopes a_around a_beginsAt a_endsAt a_scopeOf a_defs a_refs a_imports a_defAt a_refAt a_importAt h1 hk hI; have h2 := xp_R hI; rw [Nat.add_zero] at h1; rw [h1] at h2; cases h2
  | succ d ih =>
    intro k σ a f_depth a_stack a_opened a_scopes a_around a_beginsAt a_endsAt a_scopeOf a_defs a_refs a_imports a_defAt a_refAt a_importAt h1 hk hI
    have hR := xp_R hI
    have ha := mm_pl tx_tokn k _ _ hR
    have hbd := mm_bd (nt := true) hG L (tx_tok10 hkd) hR (by omega)
    cases σ with
    | nil => exact br_t (show nI 0 ≤ 0 by decide) ⟨nr_1, hP1 k a _ f_depth a_stack a_opened a_scopes a_around a_beginsAt a_endsAt a_scopeOf a_defs a_refs a_imports a_defAt a_refAt a_importAt hI⟩
    | cons e s =>
      obtain ⟨hk1, hk2⟩ := hk
      have hl : (e :: s).length = s.length + 1 := rfl
      rw [hl] at hbd ⊢
      have t10 := tx_tok10 (f := f) hkd a
      refine br_f (nI_nle (by omega) (by omega)) (br_f (by decide) (br_f (nI_ge (b := 21) (by omega) (by omega)) (nm_r (nI_pred s.length) ?_)))
      rw [nI_pred s.length, nI_clamp (show s.length < 2 ^ 31 by omega), hk1]
      refine ⟨pk_in s.length 640 (by omega), nm_e ?_⟩
      have stop : mm_st G (tx_tok T f) true (e :: s) a = none → ∀ f_depth' : Int32, f_depth' = f_depth → wX_steps_3 post (nI f) 21 1 (d + 2) 0 (nI (gg_np G)) f_built f_nullable f_productive (nI s.length) f_depth' (nI a) (nA (gg_ru G)) (nA (gg_ln G)) (nA (gg_sy G)) (gg_ro G) (nA (gg_sc G)) (nA md) (nA us) a_first a_follow a_table (nA (tx_kd T)) a_value (nA (tx_le T)) a_fault a_defs a_refs a_imports a_defAt a_refAt a_scopeOf a_importAt a_around a_beginsAt a_endsAt a_names a_scopes a_twice a_open a_stale a_link a_kept a_stack a_trial a_opened := by
        intro hs f_depth' hd
        subst hd
        have hp := fun sp => hP0 k (e :: s) a sp f_depth' a_stack a_opened a_scopes a_around a_beginsAt a_endsAt a_scopeOf a_defs a_refs a_imports a_defAt a_refAt a_importAt hI hs (by intro h; cases h)
        exact br_c (fun _ => ⟨nr_0, hp _⟩) (fun _ => br_t rfl ⟨nr_0, hp _⟩)
      by_cases he : 57 ≤ e
      · rw [if_pos he]
        refine br_t rfl ?_
        refine xp_leave hG L (tx_tok10 hkd) tx_tokn h20 hf hI he ?_
        intro f_depth' a_endsAt' hI'
        exact ih (k + 1) s a f_depth' a_stack a_opened a_scopes a_around a_beginsAt a_endsAt' a_scopeOf a_defs a_refs a_imports a_defAt a_refAt a_importAt (by rw [← h1]; congr 1; omega) hk2 hI'
      · rw [if_neg he]
        have h16 := mm_sym_16 hG e
        have ne57 : ¬ nI e = 57 := fun h => absurd (nI_inj (b := 57) (by omega) (by omega) h) (by omega)
        refine br_f ne57 ?_
        have key : wX_steps_75 post (wX_steps_3 post (nI f) 21 1 (d + 2)) (nI f) 21 1 (nI e) (nI (mm_sym G e)) (nI (gg_np G)) f_built f_nullable f_productive (nI s.length) f_depth (nI a) (nA (gg_ru G)) (nA (gg_ln G)) (nA (gg_sy G)) (gg_ro G) (nA (gg_sc G)) (nA md) (nA us) a_first a_follow a_table (nA (tx_kd T)) a_value (nA (tx_le T)) a_fault a_defs a_refs a_imports a_defAt a_refAt a_scopeOf a_importAt a_around a_beginsAt a_endsAt a_names a_scopes a_twice a_open a_stale a_link a_kept a_stack a_trial a_opened := by
          refine xq_tok hf (by omega) ?_ h20
          unfold wX_steps_109
          refine pk_le (mm_sym G e) 9 (fun hx => ?_) (fun hx => ?_)
          · have he56 : e ≠ 56 := by
              intro h
              rw [h] at hx
              exact absurd hx (by rw [show mm_sym G 56 = 10 from rfl]; omega)
            have hse : mm_sym G e = gg_sy G e := mm_sym_lt (by omega)
            refine pk_eq (mm_sym G e) (tx_tok T f a) (fun hm => ?_) (fun hm => ?_)
            · unfold wX_steps_147
              refine br_f (by decide) (br_f (by decide) ?_)
              refine xp_note hG L (tx_tok10 hkd) tx_tokn h20 hf hI (by omega) (by omega) (by omega) ?_
              intro a_opened' a_scopes' a_around' a_beginsAt' a_endsAt' a_scopeOf' a_defs' a_refs' a_imports' a_defAt' a_refAt' a_importAt' hI'
              dsimp only
              unfold wX_steps_165
              refine br_f (by decide) (nm_r (nI_1 a) ?_)
              exact ih (k + 1) s (a + 1) f_depth a_stack a_opened' a_scopes' a_around' a_beginsAt' a_endsAt' a_scopeOf' a_defs' a_refs' a_imports' a_defAt' a_refAt' a_importAt' (by rw [← h1]; congr 1; omega) hk2 hI'
            · unfold wX_steps_147
              refine br_t rfl ?_
              unfold wX_steps_165
              exact br_t rfl (stop (mm_st_f (by omega) (by omega) hm) _ rfl)
          · have es : nI (mm_sym G e) - 10 = nI (mm_sym G e - 10) := pk_sub (b := 10) (by omega)
            rw [es]
            obtain ⟨dp, op, ns, par, bg, en, so, q1, q2, q3, q4, q5, q6, q7, q8, q9⟩ := hI
            subst q1
            have hdp : dp = (mm_ms (e :: s)).length := q3.2.1.1
            have hdp2 := mm_ms_len (e :: s)
            have hme : mm_ms (e :: s) = mm_ms s := mm_ms_e (by omega)
            have hnk : ∀ i j r, mm_R G (tx_tok T f) true k = some ((57 + i) :: r, j) → ¬ i < j := by
              intro i j r hr
              rw [q2] at hr
              injection hr with hr
              injection hr with hr _
              injection hr with hr _
              omega
            refine xs_expand1 (a := a) hG (by omega) t10 hB hk2 (by omega) (fun hc => ?_) (fun p hc => ?_) (fun p st hc hsc hst => ?_) (fun p st hc hsc hst => ?_)
            · exact stop (mm_st_0 (by omega) (by omega) hc) _ rfl
            · have := hG.2.2.1 p; omega
            · have hmk : mm_mk G true p a = [] := if_neg (by omega)
              have hRs : mm_R G (tx_tok T f) true (k + 1) = some (mm_ce G p 0 ++ s, a) := by rw [mm_R_s q2, mm_st_n (by omega) (by omega) hc, hmk]; rfl
              refine ih (k + 1) (mm_ce G p 0 ++ s) a (nI dp) st a_opened a_scopes a_around a_beginsAt a_endsAt a_scopeOf a_defs a_refs a_imports a_defAt a_refAt a_importAt (by rw [← h1]; congr 1; omega) hst ?_
              refine ⟨dp, op, ns, par, bg, en, so, rfl, hRs, ?_, q4, q5, q6, q7, q8, q9⟩
              rw [mm_ms_cs _ (fun c hc' => mm_ce_lt hG (mm_ch_15 hG hc).1 hc'), ← hme]
              exact sp_skip q3 hnk
            · have hmk : mm_mk G true p a = [57 + a] := if_pos ⟨rfl, hsc⟩
              have hRs : mm_R G (tx_tok T f) true (k + 1) = some (mm_ce G p 0 ++ (57 + a) :: s, a) := by rw [mm_R_s q2, mm_st_n (by omega) (by omega) hc, hmk]; rfl
              refine ih (k + 1) (mm_ce G p 0 ++ (57 + a) :: s) a (nI (dp + 1)) st _ a_scopes a_around a_beginsAt a_endsAt a_scopeOf a_defs a_refs a_imports a_defAt a_refAt a_importAt (by rw [← h1]; congr 1; omega) hst ?_
              refine ⟨dp + 1, un op dp 0, ns, par, bg, en, so, rfl, hRs, ?_, q4, ⟨fun i hi => ?_, q5.2.1, fun s' s1 s2 => ⟨(q5.2.2.1 s' s1 s2).1, (q5.2.2.1 s' s1 s2).2.1, fun hn => (q5.2.2.1 s' s1 s2).2.2 (fun ⟨i, i1, i2⟩ => hn ⟨i, by omega, by rw [un_n (by omega)]; exact i2⟩)⟩, q5.2.2.2⟩, q6, q7, q8, q9⟩
              · rw [mm_ms_cs _ (fun c hc' => mm_ce_lt hG (mm_ch_15 hG hc).1 hc'), mm_ms_k (by omega), Nat.add_sub_cancel_left, ← hme]
                exact sp_push q3 hnk
              · by_cases ei : i = dp
                · subst ei; rw [pk_us, un_s, if_pos rfl]
                · rw [pk_un ei, un_n ei]; exact q5.1 i (by omega)
        by_cases he56 : e = 56
        · subst he56
          exact br_t rfl key
        · have ne56 : ¬ nI e = 56 := fun h => absurd (nI_inj (b := 56) (by omega) (by omega) h) (by omega)
          refine br_f ne56 ⟨pk_in e 56 (by omega), ?_⟩
          rw [nA_cl (show e < 2 ^ 31 by omega), ← mm_sym_lt (G := G) (show e < 56 by omega)]
          exact key
/-- without notes, as far as place n -/
theorem xq_0 {post : Int32 → SX → Prop} {f n : Nat} (hG : gg_ok G) (L : gg_LL G) (hkd : ∀ c, tx_kd T c < 10) (h20 : tx_le T f ≤ 20) (hf : f < 4) (hB : xx_B G a_table) (hn : n ≤ tx_le T f)
    (hP1 : ∀ k σ a a_stack, mm_R G (tx_tok T f) false k = some (σ, a) → xs_k a_stack σ → (σ = [] ∨ n ≤ a) → a ≤ n → (∀ k' σ' a', k' < k → mm_R G (tx_tok T f) false k' = some (σ', a') → a' < n) → post 1 (nI (gg_np G), f_built, f_nullable, f_productive, nI σ.length, f_depth, nI a, nA (gg_ru G), nA (gg_ln G), nA (gg_sy G), gg_ro G, nA (gg_sc G), nA md, nA us, a_first, a_follow, a_table, nA (tx_kd T), a_value, nA (tx_le T), a_fault, a_defs, a_refs, a_imports, a_defAt, a_refAt, a_scopeOf, a_importAt, a_around, a_beginsAt, a_endsAt, a_names, a_scopes, a_twice, a_open, a_stale, a_link, a_kept, a_stack, a_trial, a_opened))
    (hP0 : ∀ k σ a f_sp a_stack, mm_R G (tx_tok T f) false k = some (σ, a) → mm_st G (tx_tok T f) false σ a = none → σ ≠ [] → a < n → post 0 (nI (gg_np G), f_built, f_nullable, f_productive, f_sp, f_depth, nI a, nA (gg_ru G), nA (gg_ln G), nA (gg_sy G), gg_ro G, nA (gg_sc G), nA md, nA us, a_first, a_follow, a_table, nA (tx_kd T), a_value, nA (tx_le T), a_fault, a_defs, a_refs, a_imports, a_defAt, a_refAt, a_scopeOf, a_importAt, a_around, a_beginsAt, a_endsAt, a_names, a_scopes, a_twice, a_open, a_stale, a_link, a_kept, a_stack, a_trial, a_opened)) :
    ∀ d k σ a a_stack, mm_R G (tx_tok T f) false (k + d) = none → (∀ k' σ' a', k' < k → mm_R G (tx_tok T f) false k' = some (σ', a') → a' < n) → a ≤ n → xs_k a_stack σ → mm_R G (tx_tok T f) false k = some (σ, a) →
      wX_steps_3 post (nI f) (nI n) 0 (d + 2) 1 (nI (gg_np G)) f_built f_nullable f_productive (nI σ.length) f_depth (nI a) (nA (gg_ru G)) (nA (gg_ln G)) (nA (gg_sy G)) (gg_ro G) (nA (gg_sc G)) (nA md) (nA us) a_first a_follow a_table (nA (tx_kd T)) a_value (nA (tx_le T)) a_fault a_defs a_refs a_imports a_defAt a_refAt a_scopeOf a_importAt a_around a_beginsAt a_endsAt a_names a_scopes a_twice a_open a_stale a_link a_kept a_stack a_trial a_opened := by
  intro d
  induction d with
  | zero => intro k σ a a_stack h1 hfi han hk hR; rw [Nat.add_zero] at h1; rw [h1] at hR; cases hR
  | succ d ih =>
    intro k σ a a_stack h1 hfi han hk hR
    have ha := mm_pl tx_tokn k _ _ hR
    have hbd := mm_bd (nt := false) hG L (tx_tok10 hkd) hR (by omega)
    have hno := mm_lv_R (nt := false) hG L (tx_tok10 hkd) k σ a hR
    cases σ with
    | nil => exact br_t (show nI 0 ≤ 0 by decide) ⟨nr_1, hP1 k [] a a_stack hR hk (Or.inl rfl) han hfi⟩
    | cons e s =>
      by_cases hna : n ≤ a
      · refine br_f (nI_nle (by show 0 < s.length + 1; omega) (by omega)) (br_f (by decide) (br_t (nI_le hna (by omega)) ⟨nr_1, ?_⟩))
        exact hP1 k (e :: s) a a_stack hR hk (Or.inr hna) han hfi
      · have hfi' : ∀ k' σ' a', k' < k + 1 → mm_R G (tx_tok T f) false k' = some (σ', a') → a' < n := by
          intro k' σ' a' hk' h
          by_cases e : k' = k
          · subst e
            rw [hR] at h
            injection h with h
            injection h with _ h
            omega
          · exact hfi k' σ' a' (by omega) h
        obtain ⟨hk1, hk2⟩ := hk
        have hl : (e :: s).length = s.length + 1 := rfl
        rw [hl] at hbd ⊢
        have t10 := tx_tok10 (f := f) hkd a
        refine br_f (nI_nle (by omega) (by omega)) (br_f (by decide) (br_f (nI_ge (by omega) (by omega)) (nm_r (nI_pred s.length) ?_)))
        rw [nI_pred s.length, nI_clamp (show s.length < 2 ^ 31 by omega), hk1]
        refine ⟨pk_in s.length 640 (by omega), nm_e ?_⟩
        have stop : mm_st G (tx_tok T f) false (e :: s) a = none → wX_steps_3 post (nI f) (nI n) 0 (d + 2) 0 (nI (gg_np G)) f_built f_nullable f_productive (nI s.length) f_depth (nI a) (nA (gg_ru G)) (nA (gg_ln G)) (nA (gg_sy G)) (gg_ro G) (nA (gg_sc G)) (nA md) (nA us) a_first a_follow a_table (nA (tx_kd T)) a_value (nA (tx_le T)) a_fault a_defs a_refs a_imports a_defAt a_refAt a_scopeOf a_importAt a_around a_beginsAt a_endsAt a_names a_scopes a_twice a_open a_stale a_link a_kept a_stack a_trial a_opened := by
          intro hs
          have hp := fun sp => hP0 k (e :: s) a sp a_stack hR hs (by intro h; cases h) (by omega)
          exact br_c (fun _ => ⟨nr_0, hp _⟩) (fun _ => br_t rfl ⟨nr_0, hp _⟩)
        have he : e < 57 := xq_nm0 hG k _ _ hR e (List.mem_cons_self ..)
        rw [if_neg (by omega)]
        have h16 := mm_sym_16 hG e
        have ne57 : ¬ nI e = 57 := fun h => absurd (nI_inj (b := 57) (by omega) (by omega) h) (by omega)
        refine br_f ne57 ?_
        have key : wX_steps_75 post (wX_steps_3 post (nI f) (nI n) 0 (d + 2)) (nI f) (nI n) 0 (nI e) (nI (mm_sym G e)) (nI (gg_np G)) f_built f_nullable f_productive (nI s.length) f_depth (nI a) (nA (gg_ru G)) (nA (gg_ln G)) (nA (gg_sy G)) (gg_ro G) (nA (gg_sc G)) (nA md) (nA us) a_first a_follow a_table (nA (tx_kd T)) a_value (nA (tx_le T)) a_fault a_defs a_refs a_imports a_defAt a_refAt a_scopeOf a_importAt a_around a_beginsAt a_endsAt a_names a_scopes a_twice a_open a_stale a_link a_kept a_stack a_trial a_opened := by
          refine xq_tok hf (by omega) ?_ h20
          unfold wX_steps_109
          refine pk_le (mm_sym G e) 9 (fun hx => ?_) (fun hx => ?_)
          · refine pk_eq (mm_sym G e) (tx_tok T f a) (fun hm => ?_) (fun hm => ?_)
            · unfold wX_steps_147
              refine br_f (by decide) (br_t rfl ?_)
              unfold wX_steps_165
              refine br_f (by decide) (nm_r (nI_1 a) ?_)
              exact ih (k + 1) s (a + 1) a_stack (by rw [← h1]; congr 1; omega) hfi' (by omega) hk2 (by rw [mm_R_s hR]; exact mm_st_t he (by omega) hm)
            · unfold wX_steps_147
              refine br_t rfl ?_
              unfold wX_steps_165
              exact br_t rfl (stop (mm_st_f (by omega) (by omega) hm))
          · have es : nI (mm_sym G e) - 10 = nI (mm_sym G e - 10) := pk_sub (b := 10) (by omega)
            rw [es]
            refine xs_expand0 hG (by omega) t10 hB hk2 (fun hc => ?_) (fun p hc => ?_) (fun p st hc hst => ?_)
            · exact stop (mm_st_0 (by omega) (by omega) hc)
            · have := hG.2.2.1 p; omega
            · have hmk : mm_mk G false p a = [] := if_neg (fun h => by cases h.1)
              exact ih (k + 1) (mm_ce G p 0 ++ s) a st (by rw [← h1]; congr 1; omega) hfi' han hst (by rw [mm_R_s hR, mm_st_n he (by omega) hc, hmk]; rfl)
        by_cases he56 : e = 56
        · subst he56
          exact br_t rfl key
        · have ne56 : ¬ nI e = 56 := fun h => absurd (nI_inj (b := 56) (by omega) (by omega) h) (by omega)
          refine br_f ne56 ⟨pk_in e 56 (by omega), ?_⟩
          rw [nA_cl (show e < 2 ^ 31 by omega), ← mm_sym_lt (G := G) (show e < 56 by omega)]
          exact key
end XQ
end
section
theorem sp_end {G : gg_T} {tok : Nat → Nat} {k n dp ns : Nat} {op par bg en so : Nat → Nat} (h : sp_I G tok k [] n n dp op ns par bg en so) (hR : mm_R G tok true k = some ([], n)) : sp_fin G tok n ns so par bg en := by
  obtain ⟨h0, ⟨h1, _⟩, _, h3, h4, h5, h6⟩ := h
  have h1 : dp = 0 := h1
  subst h1
  have hno : ∀ s, ¬ sp_o op 0 s := fun s ⟨i, hi, _⟩ => by omega
  have hin : ∀ q s, sp_in op 0 n bg en q s ↔ (bg s ≤ q ∧ q ≤ en s) := by
    intro q s
    constructor
    · intro ⟨x, y⟩
      rcases y with ⟨y, _⟩ | ⟨_, y⟩
      · exact absurd y (hno s)
      · exact ⟨x, y⟩
    · intro ⟨x, y⟩
      exact ⟨x, Or.inr ⟨hno s, y⟩⟩
  refine ⟨fun s s1 s2 => ⟨(h3 s s1 s2).1, (h3 s s1 s2).2.2 (hno s)⟩, ⟨fun s t q t1 t2 t3 x y => h4.1 s t q t1 t2 t3 ((hin q s).mpr x) ((hin q t).mpr y), fun s q s1 s2 s3 x => (hin q _).mp (h4.2 s q s1 s2 s3 ((hin q s).mpr x))⟩,
    fun q hq => ⟨(h5 q hq).1, fun x => (hin q _).mp ((h5 q hq).2.1 x), fun t t1 t2 x => (h5 q hq).2.2 t t1 t2 ((hin q t).mpr x)⟩, fun i j ⟨hij, k', r, hk'⟩ => ?_⟩
  have hle := mm_stop hR rfl hk'
  have hne : k' ≠ k := by
    intro e
    subst e
    rw [hR] at hk'
    injection hk' with hk'
    injection hk' with hk' _
    cases hk'
  obtain ⟨s, s1, s2, s3, s4, s5⟩ := h6 k' i j r (by omega) hk' hij
  exact ⟨s, s1, s2, s4, s5⟩
theorem tx_ps_n {G : gg_T} {T : tx_T} {f x : Nat} (hs : ¬ tx_sen G T f) : tx_ps G T f x = [] := by
  unfold tx_ps
  apply List.filter_eq_nil_iff.mpr
  intro a _ h
  exact hs (tx_is_i.mp h).1
theorem tx_ps_x {G : gg_T} {T : tx_T} {f x : Nat} (hs : tx_sen G T f) (h20 : tx_le T f ≤ 20) : tx_ps G T f x = xl G (tx_tok T f) x (tx_le T f) := by
  have h : ∀ d, tx_le T f + d ≤ 20 → (List.range (tx_le T f + d)).filter (fun a => tx_is G T f a x) = xl G (tx_tok T f) x (tx_le T f) := by
    intro d
    induction d with
    | zero =>
      intro _
      unfold xl
      apply List.filter_congr
      intro a ha
      have ha := List.mem_range.mp ha
      by_cases hr : pl_rl G (tx_tok T f) a = nI x
      · rw [decide_eq_true hr]; exact tx_is_i.mpr ⟨hs, ha, hr⟩
      · rw [decide_eq_false hr]; exact tx_is_f.mpr (fun h => hr h.2.2)
    | succ d ih =>
      intro hd
      rw [← Nat.add_assoc, List.range_succ, List.filter_append, ih (by omega), List.filter_cons_of_neg (p := fun a => tx_is G T f a x)]
      · simp
      · rw [tx_is_f.mpr (fun h => by omega)]; decide
  have := h (20 - tx_le T f) (by omega)
  rw [show tx_le T f + (20 - tx_le T f) = 20 by omega] at this
  exact this
section XR
variable {G : gg_T} {T : tx_T} {f_built f_nullable f_productive f_sp f_depth f_at : Int32} {a_first a_follow a_kind a_value a_length a_fault a_defs a_refs a_imports a_defAt a_refAt a_scopeOf a_importAt a_around a_beginsAt a_endsAt a_names a_scopes a_twice a_open a_stale a_link a_kept a_stack a_trial a_opened : Nat → Int32} {a_table : Nat → Int64} {md us : Nat → Nat} {z_scopes z_around z_beginsAt z_endsAt z_scopeOf z_defs z_refs z_imports z_defAt z_refAt z_importAt z_fault : Nat → Int32}
theorem xr_forget {post : SX → Prop} {f : Nat} (hf : f < 4) (hP : post (nI (gg_np G), f_built, f_nullable, f_productive, f_sp, f_depth, f_at, nA (gg_ru G), nA (gg_ln G), nA (gg_sy G), gg_ro G, nA (gg_sc G), nA md, nA us, a_first, a_follow, a_table, a_kind, a_value, a_length, a_fault, upd a_defs f (nI 0), upd a_refs f (nI 0), upd a_imports f (nI 0), a_defAt, a_refAt, a_scopeOf, a_importAt, a_around, a_beginsAt, a_endsAt, a_names, a_scopes, a_twice, a_open, a_stale, a_link, a_kept, a_stack, a_trial, a_opened)) : wpX_forget post (nI (gg_np G), f_built, f_nullable, f_productive, f_sp, f_depth, f_at, nA (gg_ru G), nA (gg_ln G), nA (gg_sy G), gg_ro G, nA (gg_sc G), nA md, nA us, a_first, a_follow, a_table, a_kind, a_value, a_length, a_fault, a_defs, a_refs, a_imports, a_defAt, a_refAt, a_scopeOf, a_importAt, a_around, a_beginsAt, a_endsAt, a_names, a_scopes, a_twice, a_open, a_stale, a_link, a_kept, a_stack, a_trial, a_opened) (nI f) := by
  unfold wpX_forget
  dsimp only
  rw [nI_clamp (show f < 2 ^ 31 by omega), vb_0]
  exact ⟨pk_in f 4 hf, nm_e ⟨pk_in f 4 hf, nm_e ⟨pk_in f 4 hf, nm_e hP⟩⟩⟩
theorem xr_48 {post : SX → Prop} {f k a : Nat} {σ : List Nat} (hG : gg_ok G) (L : gg_LL G) (hkd : ∀ c, tx_kd T c < 10) (h20 : tx_le T f ≤ 20) (hf : f < 4)
    (hI : xp_I G (tx_tok T f) f k σ a f_depth a_opened z_scopes z_around z_beginsAt z_endsAt z_scopeOf z_defs z_refs z_imports z_defAt z_refAt z_importAt a_scopes a_around a_beginsAt a_endsAt a_scopeOf a_defs a_refs a_imports a_defAt a_refAt a_importAt) (hns : ¬ tx_sen G T f) (hst : mm_st G (tx_tok T f) true σ a = none) (hfa : fr1 f a_fault z_fault)
    (hP : ∀ a_fault a_scopes a_around a_beginsAt a_endsAt a_scopeOf a_defs a_refs a_imports a_defAt a_refAt a_importAt, xx_A G T f a_fault a_defs a_refs a_imports a_defAt a_refAt a_scopeOf a_importAt a_around a_beginsAt a_endsAt a_scopes → xp_fr f z_scopes z_around z_beginsAt z_endsAt z_scopeOf z_defs z_refs z_imports z_defAt z_refAt z_importAt a_scopes a_around a_beginsAt a_endsAt a_scopeOf a_defs a_refs a_imports a_defAt a_refAt a_importAt → fr1 f a_fault z_fault → post (nI (gg_np G), f_built, f_nullable, f_productive, f_sp, f_depth, nI a, nA (gg_ru G), nA (gg_ln G), nA (gg_sy G), gg_ro G, nA (gg_sc G), nA md, nA us, a_first, a_follow, a_table, nA (tx_kd T), a_value, nA (tx_le T), a_fault, a_defs, a_refs, a_imports, a_defAt, a_refAt, a_scopeOf, a_importAt, a_around, a_beginsAt, a_endsAt, a_names, a_scopes, a_twice, a_open, a_stale, a_link, a_kept, a_stack, a_trial, a_opened)) :
    wX_parse_48 post (nI f) (nI (gg_np G)) f_built f_nullable f_productive f_sp f_depth (nI a) (nA (gg_ru G)) (nA (gg_ln G)) (nA (gg_sy G)) (gg_ro G) (nA (gg_sc G)) (nA md) (nA us) a_first a_follow a_table (nA (tx_kd T)) a_value (nA (tx_le T)) a_fault a_defs a_refs a_imports a_defAt a_refAt a_scopeOf a_importAt a_around a_beginsAt a_endsAt a_names a_scopes a_twice a_open a_stale a_link a_kept a_stack a_trial a_opened := by
  have hR := xp_R hI
  have ha := mm_pl tx_tokn k _ _ hR
  have hq := mm_fault hG L (tx_tok10 hkd) tx_tokn hR hst
  have hQ : tx_Q G T f a := ⟨mm_backV hG hR, hq.2.2⟩
  obtain ⟨dp, op, ns, par, bg, en, so, h1, h2, h3, h4, h5, h6, h7, h8, h9⟩ := hI
  unfold wX_parse_48
  rw [nI_clamp (show f < 2 ^ 31 by omega), vb_w (show a < 128 by omega)]
  refine ⟨pk_in f 4 hf, nm_e (xr_forget hf ?_)⟩
  have hns1 := h3.1
  refine hP _ a_scopes a_around a_beginsAt a_endsAt a_scopeOf _ _ _ a_defAt a_refAt a_importAt ⟨?_, ?_, ?_, ?_, ns, h5.2.1, hns1, by omega, fun h => absurd h hns⟩ ?_ (fr1_u hfa)
  · rw [pk_us, tx_err_q hns hQ]
  · rw [tx_ps_n hns]; exact ⟨pk_us, fun d hd => absurd hd (Nat.not_lt_zero d)⟩
  · rw [tx_ps_n hns]; exact ⟨pk_us, fun d hd => absurd hd (Nat.not_lt_zero d)⟩
  · rw [tx_ps_n hns]; exact ⟨pk_us, fun d hd => absurd hd (Nat.not_lt_zero d)⟩
  · obtain ⟨q1, q2, q3, q4, q5, q6, q7, q8, q9⟩ := h9
    exact ⟨q1, q2, q3, q4, q5, fr1_u q6, fr1_u q7, fr1_u q8, q9⟩
theorem xr_parse {post : SX → Prop} {f : Nat} (hG : gg_ok G) (L : gg_LL G) (hkd : ∀ c, tx_kd T c < 10) (h20 : tx_le T f ≤ 20) (hf : f < 4) (hB : xx_B G a_table)
    (hP : ∀ f_sp f_depth f_at a_stack a_opened a_fault a_scopes a_around a_beginsAt a_endsAt a_scopeOf a_defs a_refs a_imports a_defAt a_refAt a_importAt, xx_A G T f a_fault a_defs a_refs a_imports a_defAt a_refAt a_scopeOf a_importAt a_around a_beginsAt a_endsAt a_scopes → xp_fr f z_scopes z_around z_beginsAt z_endsAt z_scopeOf z_defs z_refs z_imports z_defAt z_refAt z_importAt a_scopes a_around a_beginsAt a_endsAt a_scopeOf a_defs a_refs a_imports a_defAt a_refAt a_importAt → fr1 f a_fault z_fault → post (nI (gg_np G), f_built, f_nullable, f_productive, f_sp, f_depth, f_at, nA (gg_ru G), nA (gg_ln G), nA (gg_sy G), gg_ro G, nA (gg_sc G), nA md, nA us, a_first, a_follow, a_table, nA (tx_kd T), a_value, nA (tx_le T), a_fault, a_defs, a_refs, a_imports, a_defAt, a_refAt, a_scopeOf, a_importAt, a_around, a_beginsAt, a_endsAt, a_names, a_scopes, a_twice, a_open, a_stale, a_link, a_kept, a_stack, a_trial, a_opened)) :
    wpX_parse post (nI (gg_np G), f_built, f_nullable, f_productive, f_sp, f_depth, f_at, nA (gg_ru G), nA (gg_ln G), nA (gg_sy G), gg_ro G, nA (gg_sc G), nA md, nA us, a_first, a_follow, a_table, nA (tx_kd T), a_value, nA (tx_le T), z_fault, z_defs, z_refs, z_imports, z_defAt, z_refAt, z_scopeOf, z_importAt, z_around, z_beginsAt, z_endsAt, a_names, z_scopes, a_twice, a_open, a_stale, a_link, a_kept, a_stack, a_trial, a_opened) (nI f) := by
  obtain ⟨K, hK⟩ := mm_halt (nt := true) hG L (tx_tok10 (T := T) (f := f) hkd) tx_tokn
  unfold wpX_parse
  dsimp only
  unfold wpX_begin
  dsimp only
  rw [nI_clamp (show f < 2 ^ 31 by omega), vb_1, vb_m1, show vp_nar .byte 56 = nI 56 from vb_v (n := 56) (by omega)]
  refine nm_e ⟨pk_in f 4 hf, nm_e ⟨pk_in f 4 hf, nm_e (xr_forget hf ?_)⟩⟩
  dsimp only
  refine ⟨K + 2, ?_⟩
  refine xq_3 (z_scopes := z_scopes) (z_around := z_around) (z_beginsAt := z_beginsAt) (z_endsAt := z_endsAt) (z_scopeOf := z_scopeOf) (z_defs := z_defs) (z_refs := z_refs) (z_imports := z_imports) (z_defAt := z_defAt) (z_refAt := z_refAt) (z_importAt := z_importAt) hG L hkd h20 hf hB ?_ ?_ K 0 [56] 0 0 _ _ _ _ _ _ _ _ _ _ _ _ _ (by rw [Nat.zero_add]; exact hK) ⟨pk_us, trivial⟩ ?_
  · intro k a f_sp f_depth a_stack a_opened a_scopes a_around a_beginsAt a_endsAt a_scopeOf a_defs a_refs a_imports a_defAt a_refAt a_importAt hI
    dsimp only
    have hR := xp_R hI
    have ha := mm_pl tx_tokn k _ _ hR
    have hq := mm_fault hG L (tx_tok10 hkd) tx_tokn hR rfl
    refine br_f (by decide) ⟨pk_in f 4 hf, ?_⟩
    refine pk_eq a (tx_le T f) (fun hl => ?_) (fun hl => ?_)
    · subst hl
      have hs : tx_sen G T f := hq.1.mpr ⟨rfl, rfl⟩
      obtain ⟨dp, op, ns, par, bg, en, so, h1, h2, h3, h4, h5, h6, h7, h8, h9⟩ := hI
      have hdp : dp = 0 := h3.2.1.1
      subst hdp
      refine hP f_sp f_depth _ a_stack a_opened _ a_scopes a_around a_beginsAt a_endsAt a_scopeOf a_defs a_refs a_imports a_defAt a_refAt a_importAt ⟨?_, ?_, ?_, ?_, ns, h5.2.1, h3.1, by omega, fun _ => ?_⟩ h9 (fr1_u (fun _ _ => rfl))
      · rw [pk_us, tx_err_s hs]
      · rw [tx_ps_x hs h20]; exact h6
      · rw [tx_ps_x hs h20]; exact h7
      · rw [tx_ps_x hs h20]; exact h8
      · refine ⟨so, par, bg, en, h5.2.2.2, fun s s1 s2 => ?_, sp_end h3 h2⟩
        have := h5.2.2.1 s s1 s2
        exact ⟨this.1, this.2.1, this.2.2 (fun ⟨i, hi, _⟩ => by omega)⟩
    · exact xr_48 hG L hkd h20 hf hI (fun hs => hl (hq.1.mp hs).2) rfl (fr1_u (fun _ _ => rfl)) (fun a_fault' a_scopes' a_around' a_beginsAt' a_endsAt' a_scopeOf' a_defs' a_refs' a_imports' a_defAt' a_refAt' a_importAt' q1 q2 q3 => hP _ _ _ _ _ a_fault' a_scopes' a_around' a_beginsAt' a_endsAt' a_scopeOf' a_defs' a_refs' a_imports' a_defAt' a_refAt' a_importAt' q1 q2 q3)
  · intro k σ a f_sp f_depth a_stack a_opened a_scopes a_around a_beginsAt a_endsAt a_scopeOf a_defs a_refs a_imports a_defAt a_refAt a_importAt hI hst hne
    dsimp only
    have hR := xp_R hI
    have hq := mm_fault hG L (tx_tok10 hkd) tx_tokn hR hst
    refine br_t rfl ?_
    exact xr_48 hG L hkd h20 hf hI (fun hs => hne (hq.1.mp hs).1) hst (fr1_u (fun _ _ => rfl)) (fun a_fault' a_scopes' a_around' a_beginsAt' a_endsAt' a_scopeOf' a_defs' a_refs' a_imports' a_defAt' a_refAt' a_importAt' q1 q2 q3 => hP _ _ _ _ _ a_fault' a_scopes' a_around' a_beginsAt' a_endsAt' a_scopeOf' a_defs' a_refs' a_imports' a_defAt' a_refAt' a_importAt' q1 q2 q3)
  · refine ⟨0, fun _ => 0, 1, fun _ => 0, fun _ => 0, fun _ => 0, fun _ => 0, rfl, mm_R_0, sp_0 _ _ _ _ _, by omega, ⟨fun i hi => by omega, pk_us, fun s s1 s2 => by omega, fun q hq => by omega⟩, ⟨pk_us, fun d hd => absurd hd (Nat.not_lt_zero d)⟩, ⟨pk_us, fun d hd => absurd hd (Nat.not_lt_zero d)⟩, ⟨pk_us, fun d hd => absurd hd (Nat.not_lt_zero d)⟩, ?_⟩
    exact ⟨fr1_u (fun _ _ => rfl), fun _ _ => rfl, fun _ _ => rfl, fun _ _ => rfl, fun _ _ => rfl, fr1_u (fun _ _ => rfl), fr1_u (fun _ _ => rfl), fr1_u (fun _ _ => rfl), fun _ _ => rfl, fun _ _ => rfl, fun _ _ => rfl⟩
end XR
end
section
/-! what may come next -/
theorem xs_k_at {st : Nat → Int32} : ∀ (σ : List Nat) (i : Nat), xs_k st σ → i < σ.length → ∃ x, x ≤ 57 ∧ st i = nI x := by
  intro σ
  induction σ with
  | nil => intro i _ h; exact absurd h (Nat.not_lt_zero i)
  | cons e s ih =>
    intro i ⟨h1, h2⟩ hi
    have hi : i < s.length + 1 := hi
    by_cases h : i = s.length
    · subst h
      refine ⟨if 57 ≤ e then 57 else e, ?_, h1⟩
      by_cases he : 57 ≤ e
      · rw [if_pos he]; omega
      · rw [if_neg he]; omega
    · exact ih i h2 (by omega)
theorem xs_k_cp {st tr : Nat → Int32} : ∀ σ : List Nat, xs_k st σ → (∀ i, i < σ.length → tr i = st i) → xs_k tr σ := by
  intro σ
  induction σ with
  | nil => intro _ _; trivial
  | cons e s ih =>
    intro ⟨h1, h2⟩ h
    have hl : (e :: s).length = s.length + 1 := rfl
    exact ⟨by rw [h s.length (by omega)]; exact h1, ih h2 (fun i hi => h i (by omega))⟩
theorem nI_m1lt {x : Nat} (h : x < 2 ^ 31) : nI x + (-1) < nI x := by
  cases x with
  | zero => decide
  | succ x => rw [pk_m1]; exact nI_lt (by omega) h
/-- two texts alike before n: the runs are alike up to the first state at n -/
theorem mm_same {G : gg_T} {tok tok' : Nat → Nat} {nt : Bool} {n : Nat} (h : ∀ a, a < n → tok a = tok' a) : ∀ k, (∀ k' σ' a', k' < k → mm_R G tok nt k' = some (σ', a') → a' < n) → mm_R G tok' nt k = mm_R G tok nt k := by
  intro k
  induction k with
  | zero => intro _; rfl
  | succ k ih =>
    intro hk
    have h1 := ih (fun k' σ' a' hk' => hk k' σ' a' (by omega))
    cases hR : mm_R G tok nt k with
    | none => rw [mm_R_n hR, mm_R_n (by rw [h1]; exact hR)]
    | some s =>
      obtain ⟨σ, a⟩ := s
      have ha := hk k σ a (by omega) hR
      rw [mm_R_s hR, mm_R_s (by rw [h1]; exact hR)]
      cases σ with
      | nil => rfl
      | cons e s => unfold mm_st; dsimp only; rw [h a ha]
theorem tx_w0_t {T : tx_T} {f n : Nat} : tx_w0 T f n = tx_wt T f n 10 := by
  funext j
  unfold tx_w0 tx_wt
  by_cases h : j < n
  · rw [if_pos h, if_pos h]
  · rw [if_neg h, if_neg h]
    by_cases h2 : j = n
    · rw [if_pos h2]
    · rw [if_neg h2]
theorem tx_wt_b {T : tx_T} {f n t a : Nat} (h : a < n) (hn : n ≤ tx_le T f) : tx_tok T f a = tx_wt T f n t a := by
  unfold tx_tok tx_wt
  rw [if_pos h, if_pos (by omega)]
theorem tx_wt10 {T : tx_T} {f n t : Nat} (hkd : ∀ c, tx_kd T c < 10) (ht : t ≤ 10) (a : Nat) : tx_wt T f n t a ≤ 10 := by
  unfold tx_wt
  by_cases h : a < n
  · rw [if_pos h]; have := hkd (20 * f + a); omega
  · rw [if_neg h]
    by_cases h2 : a = n
    · rw [if_pos h2]; omega
    · rw [if_neg h2]; omega
theorem tx_wtn {T : tx_T} {f n t : Nat} : ∀ a, n + 1 ≤ a → tx_wt T f n t a = 10 := by
  intro a h
  unfold tx_wt
  rw [if_neg (by omega), if_neg (by omega)]
theorem tx_wt_n {T : tx_T} {f n t : Nat} : tx_wt T f n t n = t := by
  unfold tx_wt
  rw [if_neg (by omega), if_pos rfl]
theorem tx_w0n {T : tx_T} {f n : Nat} : ∀ a, n ≤ a → tx_wt T f n 10 a = 10 := by
  intro a h
  rw [← tx_w0_t]
  exact if_neg (by omega)
/-- a run passes every place below the one it is at -/
theorem mm_pass {G : gg_T} {tok : Nat → Nat} {nt : Bool} : ∀ k σ a, mm_R G tok nt k = some (σ, a) → ∀ q, q ≤ a → ∃ k' σ', mm_R G tok nt k' = some (σ', q) := by
  intro k
  induction k with
  | zero =>
    intro σ a h q hq
    rw [mm_R_0] at h
    injection h with h
    injection h with _ h
    exact ⟨0, [56], by rw [mm_R_0, show q = 0 by omega]⟩
  | succ k ih =>
    intro σ a h q hq
    by_cases e : q = a
    · subst e; exact ⟨k + 1, σ, h⟩
    · obtain ⟨σ0, a0, h1, h2⟩ := mm_R_p h
      cases σ0 with
      | nil => cases h2
      | cons x s =>
        rcases mm_st_c h2 with ⟨c1, c2, c3⟩ | ⟨c1, c2, c3, c4, c5⟩ | ⟨c1, c2, p, c3, c4, c5, c6⟩
        · exact ih _ _ h1 q (by omega)
        · exact ih _ _ h1 q (by omega)
        · exact ih _ _ h1 q (by omega)
theorem tx_xp_V {G : gg_T} {T : tx_T} {f n t : Nat} (hG : gg_ok G) (L : gg_LL G) (hkd : ∀ c, tx_kd T c < 10) (hn : n ≤ tx_le T f) (h : tx_xp G T f n t) : dd_V G (tx_tok T f) n [10] 0 := by
  rcases h with ⟨h1, h2⟩ | ⟨h1, h2⟩
  · obtain ⟨k, σ, hR⟩ := mm_fwd (nt := false) hG L (tx_wt10 hkd (by omega)) tx_wtn h2
    obtain ⟨k', σ', hR'⟩ := mm_pass k σ _ hR n (by omega)
    exact (dv_tok (fun a ha => tx_wt_b ha hn)).mpr (mm_backV hG hR')
  · rw [tx_w0_t] at h2
    exact (dv_tok (fun a ha => tx_wt_b ha hn)).mpr (dv_of h2)
/-- what the run on the text with t behind its first n kinds says -/
theorem tx_xp_l {G : gg_T} {T : tx_T} {f n t k : Nat} {σ : List Nat} (hG : gg_ok G) (L : gg_LL G) (hkd : ∀ c, tx_kd T c < 10) (ht : t ≤ 10) (hR : mm_R G (tx_wt T f n t) false k = some (σ, n)) (hs : mm_st G (tx_wt T f n t) false σ n = none) : tx_xp G T f n t ↔ (σ = [] ∧ t = 10) := by
  constructor
  · intro h
    rcases h with ⟨h1, h2⟩ | ⟨h1, h2⟩
    · have := (mm_fault hG L (tx_wt10 hkd ht) tx_wtn hR hs).2.2 (n + 1) h2
      omega
    · subst h1
      rw [tx_w0_t] at h2
      exact ⟨((mm_fault hG L (tx_wt10 hkd ht) tx_w0n hR hs).1.mp h2).1, rfl⟩
  · intro ⟨h1, h2⟩
    subst h1 h2
    refine Or.inr ⟨rfl, ?_⟩
    rw [tx_w0_t]
    exact mm_backE hG hR
section XE
variable {G : gg_T} {T : tx_T} {f_built f_nullable f_productive f_sp f_depth f_at : Int32} {a_first a_follow a_kind a_value a_length a_fault a_defs a_refs a_imports a_defAt a_refAt a_scopeOf a_importAt a_around a_beginsAt a_endsAt a_names a_scopes a_twice a_open a_stale a_link a_kept a_stack a_trial a_opened : Nat → Int32} {a_table : Nat → Int64} {md us : Nat → Nat}
theorem xe_122 {post : Int32 → SX → Prop} {J : Int32 → (Nat → Int32) → (Nat → Int32) → (Nat → Int32) → (Nat → Int32) → (Nat → Int32) → (Nat → Int32) → (Nat → Int32) → (Nat → Int32) → (Nat → Int32) → (Nat → Int64) → (Nat → Int32) → (Nat → Int32) → (Nat → Int32) → (Nat → Int32) → (Nat → Int32) → (Nat → Int32) → (Nat → Int32) → (Nat → Int32) → (Nat → Int32) → (Nat → Int32) → (Nat → Int32) → (Nat → Int32) → (Nat → Int32) → (Nat → Int32) → (Nat → Int32) → (Nat → Int32) → (Nat → Int32) → (Nat → Int32) → (Nat → Int32) → (Nat → Int32) → (Nat → Int32) → (Nat → Int32) → (Nat → Int32) → (Nat → Int32) →  Prop} {p : Nat} {s : List Nat} {x1 : Int32} (hG : gg_ok G) (hp : p < 14) (hlen : s.length + gg_ln G p ≤ 640)
    (hJ : ∀ a_trial, xs_k a_trial (mm_ce G p 0 ++ s) → J (nI (mm_ce G p 0 ++ s).length) (nA (gg_ru G)) (nA (gg_ln G)) (nA (gg_sy G)) (gg_ro G) (nA (gg_sc G)) (nA md) (nA us) a_first a_follow a_table a_kind a_value a_length a_fault a_defs a_refs a_imports a_defAt a_refAt a_scopeOf a_importAt a_around a_beginsAt a_endsAt a_names a_scopes a_twice a_open a_stale a_link a_kept a_stack a_trial a_opened) :
    ∀ m a_trial, m ≤ gg_ln G p → xs_k a_trial (mm_ce G p m ++ s) → wX_canBe_122 post J x1 (nI p) (nI (gg_np G)) f_built f_nullable f_productive f_sp f_depth f_at (m + 1) (nI (mm_ce G p m ++ s).length) (nI (4 * p + m) + (-1)) (nA (gg_ru G)) (nA (gg_ln G)) (nA (gg_sy G)) (gg_ro G) (nA (gg_sc G)) (nA md) (nA us) a_first a_follow a_table a_kind a_value a_length a_fault a_defs a_refs a_imports a_defAt a_refAt a_scopeOf a_importAt a_around a_beginsAt a_endsAt a_names a_scopes a_twice a_open a_stale a_link a_kept a_stack a_trial a_opened := by
  have hl := hG.2.2.1 p
  have e1 : (4 : Int32) * nI p = nI (4 * p) := by rw [show (4 : Int32) = nI 4 from rfl, pk_mul]
  intro m
  induction m with
  | zero =>
    intro a_trial hm hk
    refine br_t (by rw [e1, Nat.add_zero]; exact nI_m1lt (by omega)) (hJ a_trial hk)
  | succ m ih =>
    intro a_trial hm hk
    have el : (mm_ce G p (m + 1) ++ s).length = gg_ln G p - (m + 1) + s.length := by rw [List.length_append, mm_ce_len]
    rw [← Nat.add_assoc, pk_m1]
    refine br_f (by rw [e1]; exact nI_nlt (by omega) (by omega)) (nm_r (nI_1 _) ?_)
    rw [nI_clamp (show (mm_ce G p (m + 1) ++ s).length < 2 ^ 31 by omega), vb_w (show 4 * p + m < 128 by omega)]
    refine ⟨pk_in (mm_ce G p (m + 1) ++ s).length 640 (by omega), nm_e (nm_e ?_)⟩
    have ec : mm_ce G p m ++ s = (4 * p + m) :: (mm_ce G p (m + 1) ++ s) := by rw [mm_ce_c (by omega)]; rfl
    have := ih (upd a_trial (mm_ce G p (m + 1) ++ s).length (nI (4 * p + m))) (by omega) (by
      rw [ec]
      exact ⟨by rw [pk_us, if_neg (by omega)], xs_k_u _ (Nat.le_refl _) hk⟩)
    rw [ec] at this
    exact this
theorem xe_33 {post : Int32 → SX → Prop} {f n t : Nat} (hG : gg_ok G) (L : gg_LL G) (hkd : ∀ c, tx_kd T c < 10) (hn : n ≤ 20) (ht : t ≤ 10) (hB : xx_B G a_table)
    (hP1 : ∀ a_trial, tx_xp G T f n t → post 1 (nI (gg_np G), f_built, f_nullable, f_productive, f_sp, f_depth, f_at, nA (gg_ru G), nA (gg_ln G), nA (gg_sy G), gg_ro G, nA (gg_sc G), nA md, nA us, a_first, a_follow, a_table, a_kind, a_value, a_length, a_fault, a_defs, a_refs, a_imports, a_defAt, a_refAt, a_scopeOf, a_importAt, a_around, a_beginsAt, a_endsAt, a_names, a_scopes, a_twice, a_open, a_stale, a_link, a_kept, a_stack, a_trial, a_opened)) (hP0 : ∀ a_trial, ¬ tx_xp G T f n t → post 0 (nI (gg_np G), f_built, f_nullable, f_productive, f_sp, f_depth, f_at, nA (gg_ru G), nA (gg_ln G), nA (gg_sy G), gg_ro G, nA (gg_sc G), nA md, nA us, a_first, a_follow, a_table, a_kind, a_value, a_length, a_fault, a_defs, a_refs, a_imports, a_defAt, a_refAt, a_scopeOf, a_importAt, a_around, a_beginsAt, a_endsAt, a_names, a_scopes, a_twice, a_open, a_stale, a_link, a_kept, a_stack, a_trial, a_opened)) :
    ∀ d k σ a_trial, mm_R G (tx_wt T f n t) false (k + d) = none → mm_R G (tx_wt T f n t) false k = some (σ, n) → xs_k a_trial σ →
      wX_canBe_33 post (nI t) (nI (gg_np G)) f_built f_nullable f_productive f_sp f_depth f_at (d + 1) (nI σ.length) (nA (gg_ru G)) (nA (gg_ln G)) (nA (gg_sy G)) (gg_ro G) (nA (gg_sc G)) (nA md) (nA us) a_first a_follow a_table a_kind a_value a_length a_fault a_defs a_refs a_imports a_defAt a_refAt a_scopeOf a_importAt a_around a_beginsAt a_endsAt a_names a_scopes a_twice a_open a_stale a_link a_kept a_stack a_trial a_opened := by
  intro d
  induction d with
  | zero => intro k σ a_trial h1 hR; rw [Nat.add_zero] at h1; rw [h1] at hR; cases hR
  | succ d ih =>
    intro k σ a_trial h1 hR hk
    have hbd := mm_bd (nt := false) hG L (tx_wt10 hkd ht) hR hn
    cases σ with
    | nil =>
      have hx := tx_xp_l hG L hkd ht hR rfl
      refine br_t (show nI 0 ≤ 0 by decide) (pk_eq t 10 (fun h => hP1 a_trial (hx.mpr ⟨rfl, h⟩)) (fun h => hP0 a_trial (fun h' => h (hx.mp h').2)))
    | cons e s =>
      obtain ⟨hk1, hk2⟩ := hk
      have hl : (e :: s).length = s.length + 1 := rfl
      rw [hl] at hbd ⊢
      have he : e < 57 := xq_nm0 hG k _ _ hR e (List.mem_cons_self ..)
      rw [if_neg (by omega)] at hk1
      have h16 := mm_sym_16 hG e
      refine br_f (nI_nle (by omega) (by omega)) (nm_r (pk_m1 s.length) ?_)
      rw [nI_clamp (show s.length < 2 ^ 31 by omega), hk1]
      refine ⟨pk_in s.length 640 (by omega), nm_e ?_⟩
      have hne : ∀ (h : mm_st G (tx_wt T f n t) false (e :: s) n = none), ¬ tx_xp G T f n t := fun h hx => by
        have := ((tx_xp_l hG L hkd ht hR h).mp hx).1
        cases this
      have key : wX_canBe_64 post (wX_canBe_33 post (nI t) (nI (gg_np G)) f_built f_nullable f_productive f_sp f_depth f_at (d + 1)) (nI t) (nI s.length) (nI (mm_sym G e)) (nI (gg_np G)) f_built f_nullable f_productive f_sp f_depth f_at (nA (gg_ru G)) (nA (gg_ln G)) (nA (gg_sy G)) (gg_ro G) (nA (gg_sc G)) (nA md) (nA us) a_first a_follow a_table a_kind a_value a_length a_fault a_defs a_refs a_imports a_defAt a_refAt a_scopeOf a_importAt a_around a_beginsAt a_endsAt a_names a_scopes a_twice a_open a_stale a_link a_kept a_stack a_trial a_opened := by
        unfold wX_canBe_64
        refine pk_le 10 (mm_sym G e) (fun hx => ?_) (fun hx => ?_)
        · have es : nI (mm_sym G e) - 10 = nI (mm_sym G e - 10) := pk_sub (b := 10) (by omega)
          rw [es]
          refine xs_chosen (by omega) ht hB ?_
          cases hc : mm_ch G (mm_sym G e - 10) t with
          | zero => exact nm_e (br_f (by decide) (hP0 a_trial (hne (mm_st_0 he hx (by rw [tx_wt_n]; exact hc)))))
          | succ p =>
            have hp := mm_ch_15 hG hc
            have hlp := hG.2.2.1 p
            refine nm_r (nI_pred p) (br_t (nI_pos' (by omega)) ?_)
            have e4 : (4 : Int32) * nI p + nI (gg_ln G p) - 1 = nI (4 * p + gg_ln G p) + (-1) := by rw [sub1, show (4 : Int32) = nI 4 from rfl, pk_mul, nI_add]
            rw [nA_cl (show p < 2 ^ 31 by omega), e4]
            refine ⟨pk_in p 14 hp.2, nm_e ⟨gg_ln G p + 1, ?_⟩⟩
            have hmk : mm_mk G false p n = [] := if_neg (fun h => by cases h.1)
            have := xe_122 (f_built := f_built) (f_nullable := f_nullable) (f_productive := f_productive) (f_sp := f_sp) (f_depth := f_depth) (f_at := f_at) (post := post) (x1 := nI t) (s := s) (J := wX_canBe_33 post (nI t) (nI (gg_np G)) f_built f_nullable f_productive f_sp f_depth f_at (d + 1)) hG hp.2 (by omega) (fun tr htr => ih (k + 1) (mm_ce G p 0 ++ s) tr (by rw [← h1]; congr 1; omega) (by rw [mm_R_s hR, mm_st_n he hx (by rw [tx_wt_n]; exact hc), hmk]; rfl) htr) (gg_ln G p) a_trial (Nat.le_refl _) (by rw [mm_ce_n (Nat.le_refl _)]; exact hk2)
            rw [mm_ce_n (Nat.le_refl _)] at this
            exact this
        · refine pk_eq (mm_sym G e) t (fun hm => hP1 a_trial ?_) (fun hm => hP0 a_trial (hne (mm_st_f he hx (by rw [tx_wt_n]; exact hm))))
          refine Or.inl ⟨by omega, ?_⟩
          have hRs : mm_R G (tx_wt T f n t) false (k + 1) = some (s, n + 1) := by rw [mm_R_s hR]; exact mm_st_t he hx (by rw [tx_wt_n]; exact hm)
          exact mm_backV hG hRs
      by_cases he56 : e = 56
      · subst he56
        exact br_t rfl key
      · have ne56 : ¬ nI e = 56 := fun h => absurd (nI_inj (b := 56) (by omega) (by omega) h) (by omega)
        refine br_f ne56 ⟨pk_in e 56 (by omega), ?_⟩
        rw [nA_cl (show e < 2 ^ 31 by omega), ← mm_sym_lt (G := G) (show e < 56 by omega)]
        exact key
theorem xe_7 {post : Int32 → SX → Prop} {σ : List Nat} {x1 : Int32} (hl : σ.length ≤ 505) (hk : xs_k a_stack σ)
    (hQ : ∀ a_trial, xs_k a_trial σ → ∃ n33, wX_canBe_33 post x1 (nI (gg_np G)) f_built f_nullable f_productive (nI σ.length) f_depth f_at n33 (nI σ.length) (nA (gg_ru G)) (nA (gg_ln G)) (nA (gg_sy G)) (gg_ro G) (nA (gg_sc G)) (nA md) (nA us) a_first a_follow a_table a_kind a_value a_length a_fault a_defs a_refs a_imports a_defAt a_refAt a_scopeOf a_importAt a_around a_beginsAt a_endsAt a_names a_scopes a_twice a_open a_stale a_link a_kept a_stack a_trial a_opened) :
    ∀ d i a_trial, i + d = σ.length → (∀ j, j < i → a_trial j = a_stack j) → wX_canBe_7 post x1 (nI σ.length) (nI (gg_np G)) f_built f_nullable f_productive (nI σ.length) f_depth f_at (d + 1) (nI i) (nA (gg_ru G)) (nA (gg_ln G)) (nA (gg_sy G)) (gg_ro G) (nA (gg_sc G)) (nA md) (nA us) a_first a_follow a_table a_kind a_value a_length a_fault a_defs a_refs a_imports a_defAt a_refAt a_scopeOf a_importAt a_around a_beginsAt a_endsAt a_names a_scopes a_twice a_open a_stale a_link a_kept a_stack a_trial a_opened := by
  intro d
  induction d with
  | zero =>
    intro i a_trial hi h
    refine pk_le σ.length i (fun _ => hQ a_trial (xs_k_cp σ hk (fun j hj => h j (by omega)))) (fun h => absurd h (by omega))
  | succ d ih =>
    intro i a_trial hi h
    obtain ⟨x, hx, hx2⟩ := xs_k_at σ i hk (by omega)
    refine pk_le σ.length i (fun h => absurd h (by omega)) (fun hil => ?_)
    rw [nI_clamp (show i < 2 ^ 31 by omega), hx2, vb_v (by omega)]
    refine ⟨pk_in i 640 (by omega), pk_in i 640 (by omega), nm_e (nm_r (nI_1 i) (ih (i + 1) _ (by omega) (fun j hj => ?_)))⟩
    by_cases e : j = i
    · subst e; rw [pk_us, hx2]
    · rw [pk_un e]; exact h j (by omega)
theorem xe_60 {post : Int32 → SX → Prop} {f n k : Nat} {σ : List Nat} (hG : gg_ok G) (L : gg_LL G) (hkd : ∀ c, tx_kd T c < 10) (h20 : tx_le T f ≤ 20) (hn : n ≤ tx_le T f) (hB : xx_B G a_table) (hk : xs_k a_stack σ)
    (hR : mm_R G (tx_tok T f) false k = some (σ, n)) (hfi : ∀ k' σ' a', k' < k → mm_R G (tx_tok T f) false k' = some (σ', a') → a' < n)
    (hP : ∀ m a_trial, m < 2 ^ 11 → (∀ t, m.testBit t = true ↔ tx_xp G T f n t) → post (nI m) (nI (gg_np G), f_built, f_nullable, f_productive, nI σ.length, f_depth, f_at, nA (gg_ru G), nA (gg_ln G), nA (gg_sy G), gg_ro G, nA (gg_sc G), nA md, nA us, a_first, a_follow, a_table, a_kind, a_value, a_length, a_fault, a_defs, a_refs, a_imports, a_defAt, a_refAt, a_scopeOf, a_importAt, a_around, a_beginsAt, a_endsAt, a_names, a_scopes, a_twice, a_open, a_stale, a_link, a_kept, a_stack, a_trial, a_opened)) :
    ∀ d t m a_trial, t + d = 11 → m < 2 ^ 11 → (∀ t', m.testBit t' = true ↔ t' < t ∧ tx_xp G T f n t') → wX_expected_60 post (d + 1) (nI m) (nI t) (nI (gg_np G)) f_built f_nullable f_productive (nI σ.length) f_depth f_at (nA (gg_ru G)) (nA (gg_ln G)) (nA (gg_sy G)) (gg_ro G) (nA (gg_sc G)) (nA md) (nA us) a_first a_follow a_table a_kind a_value a_length a_fault a_defs a_refs a_imports a_defAt a_refAt a_scopeOf a_importAt a_around a_beginsAt a_endsAt a_names a_scopes a_twice a_open a_stale a_link a_kept a_stack a_trial a_opened := by
  have hbd := mm_bd (nt := false) hG L (tx_tok10 hkd) hR (by omega)
  intro d
  induction d with
  | zero =>
    intro t m a_trial ht hm hb
    have e : t = 11 := by omega
    subst e
    refine br_t (by decide) (hP m a_trial hm (fun t => ?_))
    rw [hb t]
    refine ⟨fun h => h.2, fun h => ⟨?_, h⟩⟩
    rcases h with ⟨h, _⟩ | ⟨h, _⟩ <;> omega
  | succ d ih =>
    intro t m a_trial ht hm hb
    refine pk_le 11 t (fun h => absurd h (by omega)) (fun ht11 => ?_)
    obtain ⟨K, hK⟩ := mm_halt (nt := false) hG L (tx_wt10 (f := f) (n := n) hkd (show t ≤ 10 by omega)) tx_wtn
    have hK : mm_R G (tx_wt T f n t) false (k + K) = none := by rw [Nat.add_comm]; exact mm_R_nn hK k
    have hR' : mm_R G (tx_wt T f n t) false k = some (σ, n) := by rw [mm_same (fun a ha => tx_wt_b ha hn) k hfi]; exact hR
    refine ⟨σ.length + 1, xe_7 hbd.1 hk ?_ σ.length 0 a_trial (by omega) (fun j hj => by omega)⟩
    intro a_trial htr
    refine ⟨K + 1, xe_33 (f := f) (n := n) hG L hkd (by omega) (by omega) hB ?_ ?_ K k σ a_trial hK hR' htr⟩
    · intro a_trial hx
      dsimp only
      refine br_f (by decide) ?_
      rw [nb_sh (by omega), nb_or]
      refine nm_e (nm_r (nI_1 t) (ih (t + 1) _ a_trial (by omega) (nb_orlt hm (Nat.pow_lt_pow_right (by omega) (by omega))) (fun t' => ?_)))
      rw [nb_or_t, nb_p_t, hb t']
      constructor
      · intro h
        rcases h with ⟨x, y⟩ | h
        · exact ⟨by omega, y⟩
        · subst h; exact ⟨by omega, hx⟩
      · intro ⟨x, y⟩
        by_cases e : t' = t
        · exact Or.inr e
        · exact Or.inl ⟨by omega, y⟩
    · intro a_trial hx
      dsimp only
      refine br_t rfl (nm_r (nI_1 t) (ih (t + 1) m a_trial (by omega) hm (fun t' => ?_)))
      rw [hb t']
      refine ⟨fun ⟨x, y⟩ => ⟨by omega, y⟩, fun ⟨x, y⟩ => ⟨?_, y⟩⟩
      by_cases e : t' = t
      · subst e; exact absurd y hx
      · omega
theorem xe_expected {post : Int32 → SX → Prop} {f n : Nat} (hG : gg_ok G) (L : gg_LL G) (hkd : ∀ c, tx_kd T c < 10) (h20 : tx_le T f ≤ 20) (hf : f < 4) (hn : n ≤ tx_le T f) (hB : xx_B G a_table)
    (hP : ∀ m f_sp f_depth f_at a_stack a_trial, m < 2 ^ 11 → (∀ t, m.testBit t = true ↔ tx_xp G T f n t) → post (nI m) (nI (gg_np G), 1, f_nullable, f_productive, f_sp, f_depth, f_at, nA (gg_ru G), nA (gg_ln G), nA (gg_sy G), gg_ro G, nA (gg_sc G), nA md, nA us, a_first, a_follow, a_table, nA (tx_kd T), a_value, nA (tx_le T), a_fault, a_defs, a_refs, a_imports, a_defAt, a_refAt, a_scopeOf, a_importAt, a_around, a_beginsAt, a_endsAt, a_names, a_scopes, a_twice, a_open, a_stale, a_link, a_kept, a_stack, a_trial, a_opened)) :
    wpX_expected post (nI (gg_np G), 1, f_nullable, f_productive, f_sp, f_depth, f_at, nA (gg_ru G), nA (gg_ln G), nA (gg_sy G), gg_ro G, nA (gg_sc G), nA md, nA us, a_first, a_follow, a_table, nA (tx_kd T), a_value, nA (tx_le T), a_fault, a_defs, a_refs, a_imports, a_defAt, a_refAt, a_scopeOf, a_importAt, a_around, a_beginsAt, a_endsAt, a_names, a_scopes, a_twice, a_open, a_stale, a_link, a_kept, a_stack, a_trial, a_opened) (nI f) (nI n) := by
  obtain ⟨K, hK⟩ := mm_halt (nt := false) hG L (tx_tok10 (T := T) (f := f) hkd) tx_tokn
  unfold wpX_expected
  dsimp only
  refine br_f (by decide) (xw_1 (n := 4) hf (by omega) (br_f (by decide) (br_f (nI_pos (by omega)) ?_)))
  rw [nA_cl (show f < 2 ^ 31 by omega)]
  refine ⟨pk_in f 4 hf, pk_le n (tx_le T f) (fun _ => ?_) (fun h => absurd h (by omega))⟩
  unfold wpX_begin
  dsimp only
  rw [show vp_nar .byte 56 = nI 56 from vb_v (n := 56) (by omega)]
  refine nm_e ⟨K + 2, ?_⟩
  have hnot : ∀ k σ a, mm_R G (tx_tok T f) false k = some (σ, a) → mm_st G (tx_tok T f) false σ a = none → a < n → ∀ t, (0 : Nat).testBit t = true ↔ tx_xp G T f n t := by
    intro k σ a hR hst ha t
    refine ⟨fun h => absurd h nb_0_t, fun h => ?_⟩
    have := (mm_fault hG L (tx_tok10 hkd) tx_tokn hR hst).2.2 n (tx_xp_V hG L hkd hn h)
    omega
  refine xq_0 hG L hkd h20 hf hB hn ?_ ?_ K 0 [56] 0 _ (by rw [Nat.zero_add]; exact hK) (fun k' σ' a' hk' => by omega) (by omega) ⟨pk_us, trivial⟩ mm_R_0
  · intro k σ a a_stack hR hk hor han hfi
    dsimp only
    refine br_f (by decide) (pk_le n a (fun hna => ?_) (fun hna => ?_))
    · have e : a = n := by omega
      subst e
      exact ⟨12, xe_60 (T := T) (f := f) hG L hkd h20 hn hB hk hR hfi (fun m tr h1 h2 => hP m _ _ _ _ tr h1 h2) 11 0 0 a_trial (by omega) (by omega) (fun t' => ⟨fun h => absurd h nb_0_t, fun h => by omega⟩)⟩
    · rcases hor with hor | hor
      · subst hor
        exact hP 0 _ _ _ _ _ (by omega) (hnot k [] a hR rfl hna)
      · omega
  · intro k σ a f_sp a_stack hR hst hne ha
    dsimp only
    exact br_t rfl (hP 0 _ _ _ _ _ (by omega) (hnot k σ a hR hst ha))
end XE
end
section
/-! names and links over lists of places -/
def tx_li (f : Nat) (P : Nat → Bool) : List Nat → Nat → Int32
  | [], _ => -1
  | q :: l, c => if P q = true then nI (32 * f + c) else tx_li f P l (c + 1)
theorem tx_li_c {f : Nat} {P Q : Nat → Bool} : ∀ l c, (∀ q, q ∈ l → P q = Q q) → tx_li f P l c = tx_li f Q l c := by
  intro l
  induction l with
  | nil => intro c _; rfl
  | cons q l ih =>
    intro c h
    show (if P q = true then _ else tx_li f P l (c + 1)) = (if Q q = true then _ else tx_li f Q l (c + 1))
    rw [h q (List.mem_cons_self ..), ih (c + 1) (fun x hx => h x (List.mem_cons_of_mem _ hx))]
theorem tx_li_n {f : Nat} {P : Nat → Bool} : ∀ l c, (∀ q, q ∈ l → P q = false) → tx_li f P l c = -1 := by
  intro l
  induction l with
  | nil => intro c _; rfl
  | cons q l ih =>
    intro c h
    show (if P q = true then _ else tx_li f P l (c + 1)) = _
    rw [h q (List.mem_cons_self ..), if_neg (by decide)]
    exact ih (c + 1) (fun x hx => h x (List.mem_cons_of_mem _ hx))
theorem tx_li_s {f : Nat} {P : Nat → Bool} : ∀ l c, (∃ q, q ∈ l ∧ P q = true) → ∃ c', c ≤ c' ∧ c' < c + l.length ∧ tx_li f P l c = nI (32 * f + c') ∧ P (l.getD (c' - c) 0) = true := by
  intro l
  induction l with
  | nil => intro c ⟨q, h, _⟩; cases h
  | cons q l ih =>
    intro c ⟨x, hx, hp⟩
    by_cases h : P q = true
    · have e : tx_li f P (q :: l) c = nI (32 * f + c) := if_pos h
      exact ⟨c, Nat.le_refl c, by show c < c + (l.length + 1); omega, e, by rw [Nat.sub_self]; exact h⟩
    · have e : tx_li f P (q :: l) c = tx_li f P l (c + 1) := if_neg h
      have hx' : ∃ q, q ∈ l ∧ P q = true := by
        rcases List.mem_cons.mp hx with rfl | hx
        · exact absurd hp h
        · exact ⟨x, hx, hp⟩
      obtain ⟨c', c1, c2, c3, c4⟩ := ih (c + 1) hx'
      refine ⟨c', by omega, by show c' < c + (l.length + 1); omega, by rw [e]; exact c3, ?_⟩
      rw [show c' - c = (c' - (c + 1)) + 1 by omega, List.getD_cons_succ]
      exact c4
noncomputable def tx_P (G : gg_T) (T : tx_T) (f : Nat) (sc : Int32) (nm : Nat) : Nat → Bool := fun q => decide (tx_inn G T f q = sc ∧ tx_va T (20 * f + q) = nm)
theorem tx_fd_l {G : gg_T} {T : tx_T} {f nm : Nat} {sc : Int32} : ∀ d a c, tx_fd G T f sc nm d a c = tx_li f (tx_P G T f sc nm) (tx_pr G T f 1 a d) c := by
  intro d
  induction d with
  | zero => intro a c; rfl
  | succ d ih =>
    intro a c
    by_cases hi : tx_is G T f a 1 = true
    · rw [tx_pr_t hi]
      have efd : tx_fd G T f sc nm (d + 1) a c = if tx_inn G T f a = sc ∧ tx_va T (20 * f + a) = nm then nI (32 * f + c) else tx_fd G T f sc nm d (a + 1) (c + 1) := if_pos hi
      have el : tx_li f (tx_P G T f sc nm) (a :: tx_pr G T f 1 (a + 1) d) c = if tx_P G T f sc nm a = true then nI (32 * f + c) else tx_li f (tx_P G T f sc nm) (tx_pr G T f 1 (a + 1) d) (c + 1) := rfl
      rw [efd, el, ih]
      by_cases hx : tx_inn G T f a = sc ∧ tx_va T (20 * f + a) = nm
      · rw [if_pos hx, if_pos (show tx_P G T f sc nm a = true from decide_eq_true hx)]
      · rw [if_neg hx, if_neg (by show ¬ decide _ = true; rw [decide_eq_false hx]; decide)]
    · have hf : tx_is G T f a 1 = false := by
        cases h : tx_is G T f a 1 with
        | false => rfl
        | true => exact absurd h hi
      rw [tx_pr_f hf, ← ih]
      exact if_neg hi
theorem tx_fi_l {G : gg_T} {T : tx_T} {f nm : Nat} {sc : Int32} : tx_fi G T f sc nm = tx_li f (tx_P G T f sc nm) (tx_ps G T f 1) 0 := by
  unfold tx_fi
  rw [tx_fd_l, tx_pr_ps]
theorem tx_ps_len {G : gg_T} {T : tx_T} {f x : Nat} : (tx_ps G T f x).length ≤ 20 := by rw [← tx_pr_ps]; exact tx_pr_l
theorem tx_ps_in {G : gg_T} {T : tx_T} {f x q : Nat} (h : q ∈ tx_ps G T f x) : q < 20 ∧ tx_is G T f q x = true := by
  rw [← tx_pr_ps] at h
  have := tx_pr_m h
  exact ⟨by omega, this.2.2⟩
theorem tx_fi_p {G : gg_T} {T : tx_T} {f nm : Nat} {sc : Int32} (hf : f < 4) : 0 ≤ tx_fi G T f sc nm ↔ ∃ q, q ∈ tx_ps G T f 1 ∧ tx_inn G T f q = sc ∧ tx_va T (20 * f + q) = nm := by
  rw [tx_fi_l]
  constructor
  · intro h
    apply Classical.byContradiction
    intro hn
    rw [tx_li_n (P := tx_P G T f sc nm) _ 0 (fun q hq => decide_eq_false (fun hx => hn ⟨q, hq, hx⟩))] at h
    exact nn_m1 h
  · intro ⟨q, h1, h2⟩
    obtain ⟨c', c1, c2, c3, _⟩ := tx_li_s (f := f) (P := tx_P G T f sc nm) (tx_ps G T f 1) 0 ⟨q, h1, decide_eq_true h2⟩
    rw [c3]
    have := tx_ps_len (G := G) (T := T) (f := f) (x := 1)
    exact nI_pos' (by omega)
theorem tx_fi_n {G : gg_T} {T : tx_T} {f nm : Nat} {sc : Int32} (h : ¬ ∃ q, q ∈ tx_ps G T f 1 ∧ tx_inn G T f q = sc ∧ tx_va T (20 * f + q) = nm) : tx_fi G T f sc nm = -1 := by
  rw [tx_fi_l]
  exact tx_li_n _ 0 (fun q hq => decide_eq_false (fun hx => h ⟨q, hq, hx⟩))
/-- the scan of sizes -/
theorem tx_l1_n {G : gg_T} {T : tx_T} {f a nm : Nat} : ∀ d z, (∀ z' i, z ≤ z' → z' < z + d → tx_ar G T f a z' = some i → ¬ 0 ≤ tx_fi G T f (nI (tx_cd i z')) nm) → tx_l1 G T f a nm d z = -1 := by
  intro d
  induction d with
  | zero => intro z _; rfl
  | succ d ih =>
    intro z h
    have el : tx_l1 G T f a nm (d + 1) z = match tx_ar G T f a z with
        | none => tx_l1 G T f a nm d (z + 1)
        | some i => if 0 ≤ tx_fi G T f (nI (tx_cd i z)) nm then tx_fi G T f (nI (tx_cd i z)) nm else tx_l1 G T f a nm d (z + 1) := rfl
    have hi := ih (z + 1) (fun z' i h1 h2 => h z' i (by omega) (by omega))
    rw [el]
    cases har : tx_ar G T f a z with
    | none => exact hi
    | some i =>
      show (if 0 ≤ tx_fi G T f (nI (tx_cd i z)) nm then _ else _) = _
      rw [if_neg (h z i (Nat.le_refl z) (by omega) har)]
      exact hi
theorem tx_l1_h {G : gg_T} {T : tx_T} {f a nm z0 i0 : Nat} (ha : tx_ar G T f a z0 = some i0) (h0 : 0 ≤ tx_fi G T f (nI (tx_cd i0 z0)) nm) :
    ∀ d z, z ≤ z0 → z0 < z + d → (∀ z' i, z ≤ z' → z' < z0 → tx_ar G T f a z' = some i → ¬ 0 ≤ tx_fi G T f (nI (tx_cd i z')) nm) → tx_l1 G T f a nm d z = tx_fi G T f (nI (tx_cd i0 z0)) nm := by
  intro d
  induction d with
  | zero => intro z h1 h2; omega
  | succ d ih =>
    intro z h1 h2 h
    have el : tx_l1 G T f a nm (d + 1) z = match tx_ar G T f a z with
        | none => tx_l1 G T f a nm d (z + 1)
        | some i => if 0 ≤ tx_fi G T f (nI (tx_cd i z)) nm then tx_fi G T f (nI (tx_cd i z)) nm else tx_l1 G T f a nm d (z + 1) := rfl
    rw [el]
    by_cases e : z = z0
    · subst e
      rw [ha]
      exact if_pos h0
    · have hi := ih (z + 1) (by omega) (by omega) (fun z' i h1 h2 => h z' i (by omega) h2)
      cases har : tx_ar G T f a z with
      | none => exact hi
      | some i =>
        show (if 0 ≤ tx_fi G T f (nI (tx_cd i z)) nm then _ else _) = _
        rw [if_neg (h z i (Nat.le_refl z) (by omega) har)]
        exact hi
theorem tx_fr_n {P : Nat → Bool} : ∀ d i, tx_fr P d i = none → ∀ j, i ≤ j → j < i + d → P j = false := by
  intro d
  induction d with
  | zero => intro i _ j h1 h2; omega
  | succ d ih =>
    intro i h j h1 h2
    by_cases hP : P i = true
    · have e : tx_fr P (d + 1) i = some i := if_pos hP
      rw [e] at h; cases h
    · have e : tx_fr P (d + 1) i = tx_fr P d (i + 1) := if_neg hP
      rw [e] at h
      by_cases ej : j = i
      · subst ej
        cases hb : P j with
        | false => rfl
        | true => exact absurd hb hP
      · exact ih (i + 1) h j (by omega) (by omega)
section LK
variable {G : gg_T} {T : tx_T} {f ns : Nat} {so par bg en : Nat → Nat}
theorem lk_nest (h : sp_fin G (tx_tok T f) (tx_le T f) ns so par bg en) {q t : Nat} (ht : 1 ≤ t) (hqt : bg t ≤ q ∧ q ≤ en t) : ∀ s, t ≤ s → s < ns → bg s ≤ q ∧ q ≤ en s → bg t ≤ bg s ∧ en s ≤ en t := by
  intro s
  induction s using Nat.strongRecOn with
  | ind s ih =>
    intro hts hs hqs
    by_cases e : t = s
    · subst e; exact ⟨Nat.le_refl _, Nat.le_refl _⟩
    · have h1 := h.2.1.1 s t q ht (by omega) hs hqs hqt
      have hs1 := h.1 s (by omega) hs
      have hp0 : par s ≠ 0 := by omega
      have h2 := h.2.1.2 s (bg s) (by omega) hs hp0 ⟨Nat.le_refl _, hs1.2.1⟩
      have h3 := h.2.1.2 s (en s) (by omega) hs hp0 ⟨hs1.2.1, Nat.le_refl _⟩
      have h4 := h.2.1.2 s q (by omega) hs hp0 hqs
      have := ih (par s) hs1.1 h1 (by omega) h4
      have h5 : bg (par s) ≤ bg s ∧ bg s ≤ en (par s) := h2
      have h6 : bg (par s) ≤ en s ∧ en s ≤ en (par s) := h3
      omega
theorem lk_sz (h : sp_fin G (tx_tok T f) (tx_le T f) ns so par bg en) {s : Nat} (h1 : 1 ≤ s) (h2 : s < ns) : pl_SI G (tx_tok T f) (bg s) (bg s + (en s + 1 - bg s)) := by
  have := h.1 s h1 h2
  rw [show bg s + (en s + 1 - bg s) = en s + 1 by omega]
  exact this.2.2.2
/-- an interval of the text is a scope's -/
theorem lk_of (h : sp_fin G (tx_tok T f) (tx_le T f) ns so par bg en) {a z i : Nat} (ha : tx_ar G T f a z = some i) : ∃ t, 1 ≤ t ∧ t < ns ∧ bg t = i ∧ en t + 1 = i + z ∧ bg t ≤ a ∧ a ≤ en t := by
  have hin := tx_fr_in _ _ _ ha
  obtain ⟨t, t1, t2, t3, t4⟩ := h.2.2.2 i (i + z) (pl_si_e.mp hin.2.2)
  exact ⟨t, t1, t2, t3, t4, by omega, by omega⟩
theorem lk_ar (h : sp_fin G (tx_tok T f) (tx_le T f) ns so par bg en) {a s : Nat} (h1 : 1 ≤ s) (h2 : s < ns) (h3 : bg s ≤ a ∧ a ≤ en s) : tx_ar G T f a (en s + 1 - bg s) = some (bg s) := by
  have hs := h.1 s h1 h2
  cases ha : tx_ar G T f a (en s + 1 - bg s) with
  | none =>
    have := tx_fr_n _ _ ha (bg s) (by omega) (by omega)
    rw [pl_si_e.mpr (lk_sz h h1 h2)] at this
    cases this
  | some i =>
    obtain ⟨t, t1, t2, t3, t4, t5⟩ := lk_of h ha
    have ht := h.1 t t1 t2
    rcases Nat.le_total t s with hle | hle
    · have := lk_nest h t1 t5 s hle h2 h3
      congr 1
      omega
    · have := lk_nest h h1 h3 t hle t2 t5
      congr 1
      omega
def lk_cd (bg en : Nat → Nat) (s : Nat) : Int32 := if s = 0 then -1 else nI (32 * bg s + en s)
theorem lk_cd_s (h : sp_fin G (tx_tok T f) (tx_le T f) ns so par bg en) {s : Nat} (h1 : 1 ≤ s) (h2 : s < ns) : lk_cd bg en s = nI (tx_cd (bg s) (en s + 1 - bg s)) := by
  have hs := h.1 s h1 h2
  unfold lk_cd tx_cd
  rw [if_neg (by omega)]
  exact congrArg nI (by omega)
theorem lk_ig (h : sp_fin G (tx_tok T f) (tx_le T f) ns so par bg en) {a : Nat} (ha : a < tx_le T f) (h20 : tx_le T f ≤ 20) : tx_inn G T f a = lk_cd bg en (so a) := by
  have hq := h.2.2.1 a ha
  by_cases hs : so a = 0
  · have key : ∀ d z, tx_ig G T f a d z = -1 := by
      intro d
      induction d with
      | zero => intro z; rfl
      | succ d ih =>
        intro z
        have e : tx_ig G T f a (d + 1) z = match tx_ar G T f a z with | some i => nI (tx_cd i z) | none => tx_ig G T f a d (z + 1) := rfl
        rw [e]
        cases har : tx_ar G T f a z with
        | none => exact ih (z + 1)
        | some i =>
          obtain ⟨t, t1, t2, t3, t4, t5⟩ := lk_of h har
          have := hq.2.2 t t1 t2 t5
          omega
    unfold tx_inn
    rw [key, lk_cd, if_pos hs]
  · have hin := hq.2.1 hs
    have hs1 := h.1 (so a) (by omega) hq.1
    have key : ∀ d z, z ≤ en (so a) + 1 - bg (so a) → en (so a) + 1 - bg (so a) < z + d → tx_ig G T f a d z = lk_cd bg en (so a) := by
      intro d
      induction d with
      | zero => intro z h1 h2; omega
      | succ d ih =>
        intro z h1 h2
        have e : tx_ig G T f a (d + 1) z = match tx_ar G T f a z with | some i => nI (tx_cd i z) | none => tx_ig G T f a d (z + 1) := rfl
        rw [e]
        by_cases ez : z = en (so a) + 1 - bg (so a)
        · rw [ez, lk_ar h (by omega) hq.1 hin, lk_cd_s h (by omega) hq.1]
        · cases har : tx_ar G T f a z with
          | none => exact ih (z + 1) (by omega) (by omega)
          | some i =>
            obtain ⟨t, t1, t2, t3, t4, t5⟩ := lk_of h har
            have hle := hq.2.2 t t1 t2 t5
            have := lk_nest h t1 t5 (so a) hle hq.1 hin
            omega
    exact key 20 1 (by omega) (by omega)
/-- scopes of tokens are alike when their codes are -/
theorem lk_same (h : sp_fin G (tx_tok T f) (tx_le T f) ns so par bg en) {a c : Nat} (ha : a < tx_le T f) (hc : c < tx_le T f) (h20 : tx_le T f ≤ 20) : tx_inn G T f a = tx_inn G T f c ↔ so a = so c := by
  rw [lk_ig h ha h20, lk_ig h hc h20]
  have qa := h.2.2.1 a ha
  have qc := h.2.2.1 c hc
  constructor
  · intro he
    unfold lk_cd at he
    by_cases s1 : so a = 0
    · by_cases s2 : so c = 0
      · omega
      · rw [if_pos s1, if_neg s2] at he
        have hs2 := h.1 (so c) (by omega) qc.1
        exact absurd (he ▸ nI_pos' (n := 32 * bg (so c) + en (so c)) (by omega)) nn_m1
    · have hs1 := h.1 (so a) (by omega) qa.1
      by_cases s2 : so c = 0
      · rw [if_neg s1, if_pos s2] at he
        exact absurd (he ▸ nI_pos' (n := 32 * bg (so a) + en (so a)) (by omega)) nn_m1
      · rw [if_neg s1, if_neg s2] at he
        have hs2 := h.1 (so c) (by omega) qc.1
        have := nI_inj (by omega) (by omega) he
        have e1 : bg (so a) = bg (so c) := by omega
        have e2 : en (so a) = en (so c) := by omega
        have i1 := qa.2.1 s1
        have i2 := qc.2.1 s2
        have j1 := qa.2.2 (so c) (by omega) qc.1 (by omega)
        have j2 := qc.2.2 (so a) (by omega) qa.1 (by omega)
        omega
  · intro he; rw [he]
end LK
end
section
theorem dr_c {l : List Nat} {d : Nat} (h : d < l.length) : l.drop d = l.getD d 0 :: l.drop (d + 1) := by
  rw [List.drop_eq_getElem_cons h, List.getD_eq_getElem?_getD, List.getElem?_eq_getElem h]
  rfl
theorem dr_m {l : List Nat} {d : Nat} (h : d < l.length) : l.getD d 0 ∈ l := by
  rw [List.getD_eq_getElem?_getD, List.getElem?_eq_getElem h]
  exact List.getElem_mem h
theorem dr_x {l : List Nat} {q : Nat} (h : q ∈ l) : ∃ d, d < l.length ∧ l.getD d 0 = q := by
  obtain ⟨d, hd, he⟩ := List.getElem_of_mem h
  exact ⟨d, hd, by rw [List.getD_eq_getElem?_getD, List.getElem?_eq_getElem hd]; exact he⟩
noncomputable def tx_l3l (G : gg_T) (T : tx_T) (f nm : Nat) : List Nat → Int32
  | [] => -1
  | q :: l => if 0 ≤ tx_fi G T (tx_va T (20 * f + q) % 4) (-1) nm then tx_fi G T (tx_va T (20 * f + q) % 4) (-1) nm else tx_l3l G T f nm l
noncomputable def tx_ul (G : gg_T) (T : tx_T) (f : Nat) : List Nat → Nat
  | [] => 0
  | q :: l => (if 0 ≤ tx_lk G T f q then 0 else 1) + tx_ul G T f l
noncomputable def tx_dl (G : gg_T) (T : tx_T) (f : Nat) : List Nat → Nat → Nat
  | [], _ => 0
  | q :: l, c => (if tx_fi G T f (tx_inn G T f q) (tx_va T (20 * f + q)) = nI (32 * f + c) then 0 else 1) + tx_dl G T f l (c + 1)
theorem bf_f {x : Bool} (h : ¬ x = true) : x = false := by
  cases x with
  | false => rfl
  | true => exact absurd rfl h
theorem tx_l3_l {G : gg_T} {T : tx_T} {f nm : Nat} : ∀ d i, tx_l3 G T f nm d i = tx_l3l G T f nm (tx_pr G T f 3 i d) := by
  intro d
  induction d with
  | zero => intro i; rfl
  | succ d ih =>
    intro i
    by_cases hi : tx_is G T f i 3 = true
    · rw [tx_pr_t hi]
      have e : tx_l3 G T f nm (d + 1) i = if 0 ≤ tx_fi G T (tx_va T (20 * f + i) % 4) (-1) nm then tx_fi G T (tx_va T (20 * f + i) % 4) (-1) nm else tx_l3 G T f nm d (i + 1) := if_pos hi
      rw [e, ih]; rfl
    · rw [tx_pr_f (bf_f hi), ← ih]
      exact if_neg hi
theorem tx_ug_l {G : gg_T} {T : tx_T} {f : Nat} : ∀ d i, tx_ug G T f d i = tx_ul G T f (tx_pr G T f 2 i d) := by
  intro d
  induction d with
  | zero => intro i; rfl
  | succ d ih =>
    intro i
    by_cases hi : tx_is G T f i 2 = true
    · rw [tx_pr_t hi]
      have e : tx_ug G T f (d + 1) i = (if 0 ≤ tx_lk G T f i then 0 else 1) + tx_ug G T f d (i + 1) := if_pos hi
      rw [e, ih]; rfl
    · rw [tx_pr_f (bf_f hi), ← ih]
      exact if_neg hi
theorem tx_du_l {G : gg_T} {T : tx_T} {f : Nat} : ∀ d i c, tx_du G T f d i c = tx_dl G T f (tx_pr G T f 1 i d) c := by
  intro d
  induction d with
  | zero => intro i c; rfl
  | succ d ih =>
    intro i c
    by_cases hi : tx_is G T f i 1 = true
    · rw [tx_pr_t hi]
      have e : tx_du G T f (d + 1) i c = (if tx_fi G T f (tx_inn G T f i) (tx_va T (20 * f + i)) = nI (32 * f + c) then 0 else 1) + tx_du G T f d (i + 1) (c + 1) := if_pos hi
      rw [e, ih]; rfl
    · rw [tx_pr_f (bf_f hi), ← ih]
      exact if_neg hi
theorem tx_l3_ps {G : gg_T} {T : tx_T} {f nm : Nat} : tx_l3 G T f nm 20 0 = tx_l3l G T f nm (tx_ps G T f 3) := by rw [tx_l3_l, tx_pr_ps]
theorem tx_un_ps {G : gg_T} {T : tx_T} {f : Nat} : tx_un G T f = tx_ul G T f (tx_ps G T f 2) := by unfold tx_un; rw [tx_ug_l, tx_pr_ps]
theorem tx_dup_ps {G : gg_T} {T : tx_T} {f : Nat} : tx_dup G T f = tx_dl G T f (tx_ps G T f 1) 0 := by unfold tx_dup; rw [tx_du_l, tx_pr_ps]
theorem tx_ul_le {G : gg_T} {T : tx_T} {f : Nat} : ∀ l, tx_ul G T f l ≤ l.length := by
  intro l
  induction l with
  | nil => exact Nat.le_refl 0
  | cons q l ih =>
    show (if 0 ≤ tx_lk G T f q then 0 else 1) + tx_ul G T f l ≤ l.length + 1
    by_cases h : 0 ≤ tx_lk G T f q
    · rw [if_pos h]; omega
    · rw [if_neg h]; omega
theorem tx_dl_le {G : gg_T} {T : tx_T} {f : Nat} : ∀ l c, tx_dl G T f l c ≤ l.length := by
  intro l
  induction l with
  | nil => intro c; exact Nat.le_refl 0
  | cons q l ih =>
    intro c
    have := ih (c + 1)
    show (if tx_fi G T f (tx_inn G T f q) (tx_va T (20 * f + q)) = nI (32 * f + c) then 0 else 1) + tx_dl G T f l (c + 1) ≤ l.length + 1
    by_cases h : tx_fi G T f (tx_inn G T f q) (tx_va T (20 * f + q)) = nI (32 * f + c)
    · rw [if_pos h]; omega
    · rw [if_neg h]; omega
theorem tx_dup_20 {G : gg_T} {T : tx_T} {f : Nat} : tx_dup G T f ≤ 20 := by
  rw [tx_dup_ps]
  have := tx_dl_le (G := G) (T := T) (f := f) (tx_ps G T f 1) 0
  have h := tx_ps_len (G := G) (T := T) (f := f) (x := 1)
  omega
theorem tx_un_20 {G : gg_T} {T : tx_T} {f : Nat} : tx_un G T f ≤ 20 := by
  rw [tx_un_ps]
  have := tx_ul_le (G := G) (T := T) (f := f) (tx_ps G T f 2)
  have h := tx_ps_len (G := G) (T := T) (f := f) (x := 2)
  omega
/-- the first match of a list -/
theorem tx_li_m {f : Nat} {P : Nat → Bool} : ∀ l c d, d < l.length → P (l.getD d 0) = true → ∃ m, m ≤ d ∧ tx_li f P l c = nI (32 * f + (c + m)) ∧ P (l.getD m 0) = true := by
  intro l
  induction l with
  | nil => intro c d hd; exact absurd hd (Nat.not_lt_zero d)
  | cons q l ih =>
    intro c d hd hP
    by_cases h : P q = true
    · exact ⟨0, by omega, if_pos h, h⟩
    · have e : tx_li f P (q :: l) c = tx_li f P l (c + 1) := if_neg h
      cases d with
      | zero => exact absurd hP h
      | succ d =>
        have hd : d + 1 < l.length + 1 := hd
        rw [List.getD_cons_succ] at hP
        obtain ⟨m, m1, m2, m3⟩ := ih (c + 1) d (by omega) hP
        exact ⟨m + 1, by omega, by rw [e, m2, show c + 1 + m = c + (m + 1) by omega], by rw [List.getD_cons_succ]; exact m3⟩
/-- a place's definition is the first of its name in its scope -/
theorem tx_fi_first {G : gg_T} {T : tx_T} {f d : Nat} (hf : f < 4) (hd : d < (tx_ps G T f 1).length) :
    (tx_fi G T f (tx_inn G T f ((tx_ps G T f 1).getD d 0)) (tx_va T (20 * f + (tx_ps G T f 1).getD d 0)) = nI (32 * f + d)) ↔
    ¬ ∃ d', d' < d ∧ tx_inn G T f ((tx_ps G T f 1).getD d' 0) = tx_inn G T f ((tx_ps G T f 1).getD d 0) ∧ tx_va T (20 * f + (tx_ps G T f 1).getD d' 0) = tx_va T (20 * f + (tx_ps G T f 1).getD d 0) := by
  have hl := tx_ps_len (G := G) (T := T) (f := f) (x := 1)
  rw [tx_fi_l]
  constructor
  · intro he ⟨d', h1, h2⟩
    obtain ⟨m, m1, m2, _⟩ := tx_li_m (f := f) (P := tx_P G T f (tx_inn G T f ((tx_ps G T f 1).getD d 0)) (tx_va T (20 * f + (tx_ps G T f 1).getD d 0))) (tx_ps G T f 1) 0 d' (by omega) (decide_eq_true h2)
    rw [m2] at he
    have := nI_inj (by omega) (by omega) he
    omega
  · intro hn
    obtain ⟨m, m1, m2, m3⟩ := tx_li_m (f := f) (P := tx_P G T f (tx_inn G T f ((tx_ps G T f 1).getD d 0)) (tx_va T (20 * f + (tx_ps G T f 1).getD d 0))) (tx_ps G T f 1) 0 d hd (decide_eq_true ⟨rfl, rfl⟩)
    have hm := of_decide_eq_true m3
    have e : m = d := by
      apply Classical.byContradiction
      intro hne
      exact hn ⟨m, by omega, hm⟩
    rw [m2, e, Nat.zero_add]
/-- what resolve finds among the scopes of its own file -/
theorem lk_hit {G : gg_T} {T : tx_T} {f ns nm a s : Nat} {so par bg en : Nat → Nat} (h : sp_fin G (tx_tok T f) (tx_le T f) ns so par bg en) (hf : f < 4) (h20 : tx_le T f ≤ 20) (ha : a < tx_le T f)
    (h1 : 1 ≤ s) (h2 : s < ns) (h3 : bg s ≤ a ∧ a ≤ en s) (hH : ∃ q, q ∈ tx_ps G T f 1 ∧ so q = s ∧ tx_va T (20 * f + q) = nm)
    (hN : ∀ t q, 1 ≤ t → t < ns → bg t ≤ a ∧ a ≤ en t → s < t → q ∈ tx_ps G T f 1 → so q = t → ¬ tx_va T (20 * f + q) = nm) :
    tx_l1 G T f a nm 20 1 = tx_fi G T f (lk_cd bg en s) nm ∧ 0 ≤ tx_fi G T f (lk_cd bg en s) nm := by
  have hs := h.1 s h1 h2
  have hpq : ∀ q, q ∈ tx_ps G T f 1 → q < tx_le T f := fun q hq => (tx_is_i.mp (tx_ps_in hq).2).2.1
  obtain ⟨q0, q1, q2, q3⟩ := hH
  have h0 : 0 ≤ tx_fi G T f (lk_cd bg en s) nm := (tx_fi_p hf).mpr ⟨q0, q1, by rw [lk_ig h (hpq q0 q1) h20, q2], q3⟩
  refine ⟨?_, h0⟩
  rw [lk_cd_s h h1 h2] at h0 ⊢
  refine tx_l1_h (lk_ar h h1 h2 h3) h0 20 1 (by omega) (by omega) ?_
  intro z i hz1 hz2 har hpos
  obtain ⟨t, t1, t2, t3, t4, t5⟩ := lk_of h har
  obtain ⟨q, w1, w2, w3⟩ := (tx_fi_p hf).mp hpos
  have hqn := hpq q w1
  have hQ := h.2.2.1 q hqn
  rw [lk_ig h hqn h20] at w2
  have ht := h.1 t t1 t2
  have e1 : nI (tx_cd i z) = lk_cd bg en t := by
    rw [lk_cd_s h t1 t2, t3, show en t + 1 - i = z by omega]
  rw [e1] at w2
  have hne : so q ≠ 0 := by
    intro e0
    unfold lk_cd at w2
    rw [if_pos e0, if_neg (by omega)] at w2
    exact absurd (w2 ▸ nI_pos' (n := 32 * bg t + en t) (by omega)) nn_m1
  have hsq := h.1 (so q) (by omega) hQ.1
  have e2 : bg (so q) = bg t ∧ en (so q) = en t := by
    unfold lk_cd at w2
    rw [if_neg hne, if_neg (by omega)] at w2
    have := nI_inj (by omega) (by omega) w2
    omega
  have hin : bg (so q) ≤ a ∧ a ≤ en (so q) := by omega
  rcases Nat.lt_trichotomy s (so q) with hlt | hlt | hlt
  · exact hN (so q) q (by omega) hQ.1 hin hlt w1 rfl w3
  · rw [← hlt] at e2; omega
  · have := lk_nest h (by omega) hin s (by omega) h2 h3
    omega
theorem lk_no {G : gg_T} {T : tx_T} {f ns nm a : Nat} {so par bg en : Nat → Nat} (h : sp_fin G (tx_tok T f) (tx_le T f) ns so par bg en) (hf : f < 4) (h20 : tx_le T f ≤ 20)
    (hN : ∀ t q, 1 ≤ t → t < ns → bg t ≤ a ∧ a ≤ en t → q ∈ tx_ps G T f 1 → so q = t → ¬ tx_va T (20 * f + q) = nm) : tx_l1 G T f a nm 20 1 = -1 := by
  have hpq : ∀ q, q ∈ tx_ps G T f 1 → q < tx_le T f := fun q hq => (tx_is_i.mp (tx_ps_in hq).2).2.1
  refine tx_l1_n 20 1 ?_
  intro z i hz1 hz2 har hpos
  obtain ⟨t, t1, t2, t3, t4, t5⟩ := lk_of h har
  obtain ⟨q, w1, w2, w3⟩ := (tx_fi_p hf).mp hpos
  have hqn := hpq q w1
  have hQ := h.2.2.1 q hqn
  rw [lk_ig h hqn h20] at w2
  have ht := h.1 t t1 t2
  have e1 : nI (tx_cd i z) = lk_cd bg en t := by
    rw [lk_cd_s h t1 t2, t3, show en t + 1 - i = z by omega]
  rw [e1] at w2
  have hne : so q ≠ 0 := by
    intro e0
    unfold lk_cd at w2
    rw [if_pos e0, if_neg (by omega)] at w2
    exact absurd (w2 ▸ nI_pos' (n := 32 * bg t + en t) (by omega)) nn_m1
  have hsq := h.1 (so q) (by omega) hQ.1
  have e2 : bg (so q) = bg t ∧ en (so q) = en t := by
    unfold lk_cd at w2
    rw [if_neg hne, if_neg (by omega)] at w2
    have := nI_inj (by omega) (by omega) w2
    omega
  exact hN (so q) q (by omega) hQ.1 (by omega) w1 rfl w3
theorem lk_fi {G : gg_T} {T : tx_T} {f ns nm s : Nat} {so par bg en : Nat → Nat} (h : sp_fin G (tx_tok T f) (tx_le T f) ns so par bg en) (h20 : tx_le T f ≤ 20) (hs : s < ns)
    (hH : ∃ q, q ∈ tx_ps G T f 1 ∧ so q = s) {P : Nat → Bool} (hP : ∀ q, q ∈ tx_ps G T f 1 → P q = decide (so q = s ∧ tx_va T (20 * f + q) = nm)) : tx_fi G T f (lk_cd bg en s) nm = tx_li f P (tx_ps G T f 1) 0 := by
  have hpq : ∀ q, q ∈ tx_ps G T f 1 → q < tx_le T f := fun q hq => (tx_is_i.mp (tx_ps_in hq).2).2.1
  obtain ⟨q0, q1, q2⟩ := hH
  rw [tx_fi_l]
  refine tx_li_c _ 0 (fun q hq => ?_)
  rw [hP q hq]
  show decide (tx_inn G T f q = lk_cd bg en s ∧ _) = _
  have : tx_inn G T f q = lk_cd bg en s ↔ so q = s := by
    rw [← q2, ← lk_ig h (hpq q0 q1) h20, lk_same h (hpq q hq) (hpq q0 q1) h20]
  apply decide_eq_decide.mpr
  rw [this]
end
section
/-! the class's names and links -/
def xc_ns (f ns : Nat) (T : tx_T) (l : List Nat) (d : Nat) (a_scopeOf a_names : Nat → Int32) : Prop :=
  ∀ s, s < ns → ∃ m, a_names (128 * f + s) = nI m ∧ m < 2 ^ 16 ∧ ∀ v, m.testBit v = true ↔ ∃ d', d' < d ∧ a_scopeOf (20 * f + l.getD d' 0) = nI s ∧ tx_va T (20 * f + l.getD d' 0) = v
theorem vc_n {m : Nat} (h : m < 2 ^ 16) : vp_nar .char (((nI m).toUInt32 % 65536).toInt32) = nI m := by
  rw [pk_vc, pk_char, pk_tn (by omega)]
  exact congrArg nI (by omega)
theorem vc_0 : vp_nar .char 0 = nI 0 := by rw [vp_nar_char]; decide
theorem nb_a0 {m v : Nat} (hm : m < 2 ^ 16) (hv : v < 16) : (nI m &&& nI (2 ^ v) : Int32) = 0 ↔ m.testBit v = false := by
  have hlt : m &&& 2 ^ v < 2 ^ 16 := Nat.and_lt_two_pow m (Nat.pow_lt_pow_right (by omega) hv)
  rw [nx_and, ← nI_0, nI_eq (by omega) (by omega)]
  constructor
  · intro h
    have := congrArg (fun x => x.testBit v) h
    simp only [Nat.testBit_and, Nat.zero_testBit, nb_p_t.mpr rfl, Bool.and_true] at this
    exact this
  · intro h
    apply nb_ext
    intro i
    rw [Nat.testBit_and, Bool.and_eq_true, nb_p_t]
    refine ⟨fun ⟨x, y⟩ => ?_, fun x => absurd x nb_0_t⟩
    subst y
    rw [h] at x
    cases x
section XC
variable {G : gg_T} {T : tx_T} {f_built f_nullable f_productive f_sp f_depth f_at : Int32} {a_first a_follow a_kind a_value a_length a_fault a_defs a_refs a_imports a_defAt a_refAt a_scopeOf a_importAt a_around a_beginsAt a_endsAt a_names a_scopes a_twice a_open a_stale a_link a_kept a_stack a_trial a_opened : Nat → Int32} {a_table : Nat → Int64} {md us : Nat → Nat} {z_names z_twice : Nat → Int32}
theorem xc_43 {post : SX → Prop} {f ns : Nat} (hf : f < 4) (hva : ∀ c, tx_va T c < 16) (h20 : tx_le T f ≤ 20) (hns : ns ≤ 121)
    (hA : xx_A G T f a_fault a_defs a_refs a_imports a_defAt a_refAt a_scopeOf a_importAt a_around a_beginsAt a_endsAt a_scopes) (hs : a_scopes f = nI ns)
    (hP : ∀ a_names a_twice, xx_N G T f a_scopeOf a_scopes a_names a_twice → fr3 f a_names z_names → fr1 f a_twice z_twice → post (nI (gg_np G), f_built, f_nullable, f_productive, f_sp, f_depth, f_at, nA (gg_ru G), nA (gg_ln G), nA (gg_sy G), gg_ro G, nA (gg_sc G), nA md, nA us, a_first, a_follow, a_table, a_kind, nA (tx_va T), a_length, a_fault, a_defs, a_refs, a_imports, a_defAt, a_refAt, a_scopeOf, a_importAt, a_around, a_beginsAt, a_endsAt, a_names, a_scopes, a_twice, a_open, a_stale, a_link, a_kept, a_stack, a_trial, a_opened)) :
    ∀ k d tw a_names a_twice, d + k = (tx_ps G T f 1).length → xc_ns f ns T (tx_ps G T f 1) d a_scopeOf a_names → a_twice f = nI tw → tw + tx_dl G T f ((tx_ps G T f 1).drop d) d = tx_dup G T f → fr3 f a_names z_names → fr1 f a_twice z_twice →
      wX_collectNames_43 post (nI f) (nI (gg_np G)) f_built f_nullable f_productive f_sp f_depth f_at (k + 1) (nI (20 * f + d)) (nA (gg_ru G)) (nA (gg_ln G)) (nA (gg_sy G)) (gg_ro G) (nA (gg_sc G)) (nA md) (nA us) a_first a_follow a_table a_kind (nA (tx_va T)) a_length a_fault a_defs a_refs a_imports a_defAt a_refAt a_scopeOf a_importAt a_around a_beginsAt a_endsAt a_names a_scopes a_twice a_open a_stale a_link a_kept a_stack a_trial a_opened := by
  have hl20 := tx_ps_len (G := G) (T := T) (f := f) (x := 1)
  have e20 : ∀ x : Nat, (20 : Int32) * nI f + nI x = nI (20 * f + x) := fun x => by rw [show (20 : Int32) = nI 20 from rfl, pk_mul, nI_add]
  have hlc : a_defs f = nI (tx_ps G T f 1).length := hA.2.1.1
  intro k
  induction k with
  | zero =>
    intro d tw a_names a_twice hd hn ht htw hf3 hf1
    refine ⟨pk_in f 4 hf, ?_⟩
    rw [nI_clamp (show f < 2 ^ 31 by omega), hlc, e20]
    refine pk_le (20 * f + (tx_ps G T f 1).length) (20 * f + d) (fun _ => hP a_names a_twice ⟨fun s hs1 hs2 => ?_, ?_⟩ hf3 hf1) (fun h => absurd h (by omega))
    · rw [hs, nI_ltI (by omega) (by omega)] at hs1
      obtain ⟨m, m1, m2, m3⟩ := hn s hs1
      refine ⟨m, m1, m2, fun v => ?_⟩
      rw [m3 v]
      constructor
      · intro ⟨d', h1, h2⟩; exact ⟨_, dr_m (by omega), h2⟩
      · intro ⟨q, h1, h2⟩
        obtain ⟨d', h3, h4⟩ := dr_x h1
        exact ⟨d', by omega, by rw [h4]; exact h2⟩
    · rw [ht, ← htw, List.drop_eq_nil_of_le (by omega)]; rfl
  | succ k ih =>
    intro d tw a_names a_twice hd hn ht htw hf3 hf1
    have hdl : d < (tx_ps G T f 1).length := by omega
    have hda := hA.2.1.2 d hdl
    have hqm := tx_ps_in (dr_m hdl)
    have hqi := tx_is_i.mp hqm.2
    obtain ⟨_, _, _, _, ns', n1, n2, n3, n4⟩ := hA
    obtain ⟨so, par, bg, en, w1, w2, w3⟩ := n4 hqi.1
    have hnn : ns' = ns := by rw [hs] at n1; exact (nI_inj (by omega) (by omega) n1).symm
    subst hnn
    have hso := w1 _ hqi.2.1
    have hsq := (w3.2.2.1 _ hqi.2.1).1
    obtain ⟨m, m1, m2, m3⟩ := hn _ hsq
    have hv := hva (20 * f + (tx_ps G T f 1).getD d 0)
    have e128 : (128 : Int32) * nI f + nI (so ((tx_ps G T f 1).getD d 0)) = nI (128 * f + so ((tx_ps G T f 1).getD d 0)) := by rw [show (128 : Int32) = nI 128 from rfl, pk_mul, nI_add]
    have htw20 := tx_dup_20 (G := G) (T := T) (f := f)
    refine ⟨pk_in f 4 hf, ?_⟩
    rw [nI_clamp (show f < 2 ^ 31 by omega), hlc, e20]
    refine pk_le (20 * f + (tx_ps G T f 1).length) (20 * f + d) (fun h => absurd h (by omega)) (fun _ => ?_)
    rw [nI_clamp (show 20 * f + d < 2 ^ 31 by omega), hda, e20, nA_cl (show 20 * f + (tx_ps G T f 1).getD d 0 < 2 ^ 31 by omega), nI_clamp (show 20 * f + (tx_ps G T f 1).getD d 0 < 2 ^ 31 by omega), hso, nb_sh (by omega), e128]
    refine ⟨pk_in (20 * f + d) 80 (by omega), pk_in (20 * f + (tx_ps G T f 1).getD d 0) 80 (by omega), nm_e ⟨pk_in (20 * f + d) 80 (by omega), pk_in (20 * f + (tx_ps G T f 1).getD d 0) 80 (by omega), nm_e ⟨pk_in (128 * f + so ((tx_ps G T f 1).getD d 0)) 512 (by omega), ?_⟩⟩⟩
    rw [nI_clamp (show 128 * f + so ((tx_ps G T f 1).getD d 0) < 2 ^ 31 by omega), m1]
    have hdup : m.testBit (tx_va T (20 * f + (tx_ps G T f 1).getD d 0)) = true ↔ ¬ (tx_fi G T f (tx_inn G T f ((tx_ps G T f 1).getD d 0)) (tx_va T (20 * f + (tx_ps G T f 1).getD d 0)) = nI (32 * f + d)) := by
      rw [m3, tx_fi_first hf hdl]
      constructor
      · intro ⟨d', h1, h2, h3⟩ hno
        have hqm' := tx_is_i.mp (tx_ps_in (dr_m (show d' < (tx_ps G T f 1).length by omega))).2
        refine hno ⟨d', h1, (lk_same w3 hqm'.2.1 hqi.2.1 h20).mpr ?_, h3⟩
        rw [w1 _ hqm'.2.1] at h2
        exact nI_inj (by have := (w3.2.2.1 _ hqm'.2.1).1; omega) (by omega) h2
      · intro hno
        obtain ⟨d', h1, h2, h3⟩ := Classical.not_not.mp hno
        have hqm' := tx_is_i.mp (tx_ps_in (dr_m (show d' < (tx_ps G T f 1).length by omega))).2
        refine ⟨d', h1, ?_, h3⟩
        rw [w1 _ hqm'.2.1, (lk_same w3 hqm'.2.1 hqi.2.1 h20).mp h2]
    have edl : tx_dl G T f ((tx_ps G T f 1).drop d) d = (if tx_fi G T f (tx_inn G T f ((tx_ps G T f 1).getD d 0)) (tx_va T (20 * f + (tx_ps G T f 1).getD d 0)) = nI (32 * f + d) then 0 else 1) + tx_dl G T f ((tx_ps G T f 1).drop (d + 1)) (d + 1) := by
      rw [dr_c hdl]; rfl
    rw [edl] at htw
    have next : ∀ tw' a_twice', a_twice' f = nI tw' → tw' + tx_dl G T f ((tx_ps G T f 1).drop (d + 1)) (d + 1) = tx_dup G T f → fr1 f a_twice' z_twice →
        wX_collectNames_124 post (wX_collectNames_43 post (nI f) (nI (gg_np G)) f_built f_nullable f_productive f_sp f_depth f_at (k + 1)) (nI f) (nI (20 * f + d)) (nI (2 ^ tx_va T (20 * f + (tx_ps G T f 1).getD d 0))) (nI (128 * f + so ((tx_ps G T f 1).getD d 0))) (nI (gg_np G)) f_built f_nullable f_productive f_sp f_depth f_at (nA (gg_ru G)) (nA (gg_ln G)) (nA (gg_sy G)) (gg_ro G) (nA (gg_sc G)) (nA md) (nA us) a_first a_follow a_table a_kind (nA (tx_va T)) a_length a_fault a_defs a_refs a_imports a_defAt a_refAt a_scopeOf a_importAt a_around a_beginsAt a_endsAt a_names a_scopes a_twice' a_open a_stale a_link a_kept a_stack a_trial a_opened := by
      intro tw' a_twice' g1 g2 g3
      have hm16 : m ||| 2 ^ tx_va T (20 * f + (tx_ps G T f 1).getD d 0) < 2 ^ 16 := nb_orlt m2 (Nat.pow_lt_pow_right (by omega) hv)
      unfold wX_collectNames_124
      rw [nI_clamp (show 128 * f + so ((tx_ps G T f 1).getD d 0) < 2 ^ 31 by omega), m1, nb_or, vc_n hm16]
      refine ⟨pk_in (128 * f + so ((tx_ps G T f 1).getD d 0)) 512 (by omega), pk_in (128 * f + so ((tx_ps G T f 1).getD d 0)) 512 (by omega), nm_e (nm_r (nI_1 _) ?_)⟩
      refine ih (d + 1) tw' _ a_twice' (by omega) (fun s hs' => ?_) g1 g2 (fr3_u hf3 (by omega)) g3
      by_cases e : s = so ((tx_ps G T f 1).getD d 0)
      · subst e
        refine ⟨_, pk_us, hm16, fun v => ?_⟩
        rw [nb_or_t, nb_p_t, m3 v]
        constructor
        · intro h
          rcases h with ⟨d', h1, h2⟩ | h
          · exact ⟨d', by omega, h2⟩
          · exact ⟨d, by omega, hso, h.symm⟩
        · intro ⟨d', h1, h2⟩
          by_cases ed : d' = d
          · subst ed; exact Or.inr h2.2.symm
          · exact Or.inl ⟨d', by omega, h2⟩
      · obtain ⟨m', m1', m2', m3'⟩ := hn s hs'
        refine ⟨m', by rw [pk_un (by omega)]; exact m1', m2', fun v => ?_⟩
        rw [m3' v]
        constructor
        · intro ⟨d', h1, h2⟩; exact ⟨d', by omega, h2⟩
        · intro ⟨d', h1, h2⟩
          refine ⟨d', ?_, h2⟩
          by_cases ed : d' = d
          · subst ed
            rw [hso] at h2
            exact absurd (nI_inj (by omega) (by omega) h2.1).symm e
          · omega
    by_cases hb : m.testBit (tx_va T (20 * f + (tx_ps G T f 1).getD d 0)) = true
    · rw [if_neg (hdup.mp hb)] at htw
      refine br_f (fun h => by rw [(nb_a0 m2 hv).mp h] at hb; cases hb) ?_
      rw [ht, nI_1, vb_w (show tw + 1 < 128 by omega)]
      exact ⟨pk_in f 4 hf, pk_in f 4 hf, nm_e (next (tw + 1) _ pk_us (by omega) (fr1_u hf1))⟩
    · have hfi := Classical.not_not.mp (fun h => hb (hdup.mpr h))
      rw [if_pos hfi, Nat.zero_add] at htw
      exact br_t ((nb_a0 m2 hv).mpr (bf_f hb)) (next tw a_twice ht htw hf1)
theorem xc_2 {post : SX → Prop} {f ns : Nat} (hf : f < 4) (hns : ns ≤ 121) (hs : a_scopes f = nI ns)
    (hQ : ∀ a_names, (∀ s, s < ns → a_names (128 * f + s) = nI 0) → fr3 f a_names z_names → ∃ n43, wX_collectNames_43 post (nI f) (nI (gg_np G)) f_built f_nullable f_productive f_sp f_depth f_at n43 (nI (20 * f)) (nA (gg_ru G)) (nA (gg_ln G)) (nA (gg_sy G)) (gg_ro G) (nA (gg_sc G)) (nA md) (nA us) a_first a_follow a_table a_kind (nA (tx_va T)) a_length a_fault a_defs a_refs a_imports a_defAt a_refAt a_scopeOf a_importAt a_around a_beginsAt a_endsAt a_names a_scopes (upd a_twice f (nI 0)) a_open a_stale a_link a_kept a_stack a_trial a_opened) :
    ∀ k s a_names, s + k = ns → (∀ s', s' < s → a_names (128 * f + s') = nI 0) → fr3 f a_names z_names → wX_collectNames_2 post (nI f) (nI (gg_np G)) f_built f_nullable f_productive f_sp f_depth f_at (k + 1) (nI s) (nA (gg_ru G)) (nA (gg_ln G)) (nA (gg_sy G)) (gg_ro G) (nA (gg_sc G)) (nA md) (nA us) a_first a_follow a_table a_kind (nA (tx_va T)) a_length a_fault a_defs a_refs a_imports a_defAt a_refAt a_scopeOf a_importAt a_around a_beginsAt a_endsAt a_names a_scopes a_twice a_open a_stale a_link a_kept a_stack a_trial a_opened := by
  intro k
  induction k with
  | zero =>
    intro s a_names hk h hf3
    have e20 : (20 : Int32) * nI f = nI (20 * f) := by rw [show (20 : Int32) = nI 20 from rfl, pk_mul]
    refine ⟨pk_in f 4 hf, ?_⟩
    rw [nI_clamp (show f < 2 ^ 31 by omega), hs, vb_0, e20]
    refine pk_le ns s (fun _ => ⟨pk_in f 4 hf, nm_e (nm_e (hQ a_names (fun s' hs' => h s' (by omega)) hf3))⟩) (fun h => absurd h (by omega))
  | succ k ih =>
    intro s a_names hk h hf3
    have e128 : (128 : Int32) * nI f + nI s = nI (128 * f + s) := by rw [show (128 : Int32) = nI 128 from rfl, pk_mul, nI_add]
    refine ⟨pk_in f 4 hf, ?_⟩
    rw [nI_clamp (show f < 2 ^ 31 by omega), hs, e128, nI_clamp (show 128 * f + s < 2 ^ 31 by omega), vc_0]
    refine pk_le ns s (fun h => absurd h (by omega)) (fun hsn => ⟨pk_in (128 * f + s) 512 (by omega), nm_e (nm_r (nI_1 s) (ih (s + 1) _ (by omega) (fun s' hs' => ?_) (fr3_u hf3 (by omega))))⟩)
    by_cases e : s' = s
    · subst e; exact pk_us
    · rw [pk_un (by omega)]; exact h s' (by omega)
theorem xc_names {post : SX → Prop} {f : Nat} (hf : f < 4) (hva : ∀ c, tx_va T c < 16) (h20 : tx_le T f ≤ 20)
    (hA : xx_A G T f a_fault a_defs a_refs a_imports a_defAt a_refAt a_scopeOf a_importAt a_around a_beginsAt a_endsAt a_scopes)
    (hP : ∀ a_names a_twice, xx_N G T f a_scopeOf a_scopes a_names a_twice → fr3 f a_names z_names → fr1 f a_twice z_twice → post (nI (gg_np G), f_built, f_nullable, f_productive, f_sp, f_depth, f_at, nA (gg_ru G), nA (gg_ln G), nA (gg_sy G), gg_ro G, nA (gg_sc G), nA md, nA us, a_first, a_follow, a_table, a_kind, nA (tx_va T), a_length, a_fault, a_defs, a_refs, a_imports, a_defAt, a_refAt, a_scopeOf, a_importAt, a_around, a_beginsAt, a_endsAt, a_names, a_scopes, a_twice, a_open, a_stale, a_link, a_kept, a_stack, a_trial, a_opened)) : wpX_collectNames post (nI (gg_np G), f_built, f_nullable, f_productive, f_sp, f_depth, f_at, nA (gg_ru G), nA (gg_ln G), nA (gg_sy G), gg_ro G, nA (gg_sc G), nA md, nA us, a_first, a_follow, a_table, a_kind, nA (tx_va T), a_length, a_fault, a_defs, a_refs, a_imports, a_defAt, a_refAt, a_scopeOf, a_importAt, a_around, a_beginsAt, a_endsAt, z_names, a_scopes, z_twice, a_open, a_stale, a_link, a_kept, a_stack, a_trial, a_opened) (nI f) := by
  obtain ⟨ns, n1, n2, n3, n4⟩ := hA.2.2.2.2
  refine ⟨ns + 1, xc_2 hf n3 n1 ?_ ns 0 z_names (by omega) (fun s hs => by omega) (fun _ _ => rfl)⟩
  intro a_names hz hf3
  refine ⟨(tx_ps G T f 1).length + 1, xc_43 (z_names := z_names) (z_twice := z_twice) hf hva h20 n3 hA n1 hP (tx_ps G T f 1).length 0 0 a_names _ (by omega) (fun s hs => ⟨0, hz s hs, by omega, fun v => ⟨fun h => absurd h nb_0_t, fun ⟨d', h, _⟩ => by omega⟩⟩) pk_us ?_ hf3 (fr1_u (fun _ _ => rfl))⟩
  rw [List.drop_zero, Nat.zero_add, tx_dup_ps]
/-- find -/
theorem xc_6 {post : Int32 → Prop} {f s nm : Nat} (hf : f < 4) (hva : ∀ c, tx_va T c < 16) (hnm : nm < 16) (hls : xx_ls (tx_ps G T f 1) f a_defs a_defAt) :
    ∀ k d, d + k = (tx_ps G T f 1).length → (∃ d', d ≤ d' ∧ d' < (tx_ps G T f 1).length ∧ a_scopeOf (20 * f + (tx_ps G T f 1).getD d' 0) = nI s ∧ tx_va T (20 * f + (tx_ps G T f 1).getD d' 0) = nm) →
      post (tx_li f (fun q => decide (a_scopeOf (20 * f + q) = nI s ∧ tx_va T (20 * f + q) = nm)) ((tx_ps G T f 1).drop d) d) → wX_find_6 post (nI f) (nI s) (nI nm) (nI (gg_np G)) f_built f_nullable f_productive f_sp f_depth f_at (nA (gg_ru G)) (nA (gg_ln G)) (nA (gg_sy G)) (gg_ro G) (nA (gg_sc G)) (nA md) (nA us) a_first a_follow a_table a_kind (nA (tx_va T)) a_length a_fault a_defs a_refs a_imports a_defAt a_refAt a_scopeOf a_importAt a_around a_beginsAt a_endsAt a_names a_scopes a_twice a_open a_stale a_link a_kept a_stack a_trial a_opened (k + 1) (nI (20 * f + d)) := by
  have hl20 := tx_ps_len (G := G) (T := T) (f := f) (x := 1)
  have e20 : ∀ x : Nat, (20 : Int32) * nI f + nI x = nI (20 * f + x) := fun x => by rw [show (20 : Int32) = nI 20 from rfl, pk_mul, nI_add]
  intro k
  induction k with
  | zero => intro d hd ⟨d', h1, h2, _⟩; omega
  | succ k ih =>
    intro d hd ⟨d', h1, h2, h3⟩ hP
    have hdl : d < (tx_ps G T f 1).length := by omega
    have hda := hls.2 d hdl
    have hqm := tx_ps_in (dr_m hdl)
    have hv := hva (20 * f + (tx_ps G T f 1).getD d 0)
    have el : tx_li f (fun q => decide (a_scopeOf (20 * f + q) = nI s ∧ tx_va T (20 * f + q) = nm)) ((tx_ps G T f 1).drop d) d = if decide (a_scopeOf (20 * f + (tx_ps G T f 1).getD d 0) = nI s ∧ tx_va T (20 * f + (tx_ps G T f 1).getD d 0) = nm) = true then nI (32 * f + d) else tx_li f (fun q => decide (a_scopeOf (20 * f + q) = nI s ∧ tx_va T (20 * f + q) = nm)) ((tx_ps G T f 1).drop (d + 1)) (d + 1) := by
      rw [dr_c hdl]; rfl
    rw [el] at hP
    have next : ¬ (a_scopeOf (20 * f + (tx_ps G T f 1).getD d 0) = nI s ∧ tx_va T (20 * f + (tx_ps G T f 1).getD d 0) = nm) → wX_find_6 post (nI f) (nI s) (nI nm) (nI (gg_np G)) f_built f_nullable f_productive f_sp f_depth f_at (nA (gg_ru G)) (nA (gg_ln G)) (nA (gg_sy G)) (gg_ro G) (nA (gg_sc G)) (nA md) (nA us) a_first a_follow a_table a_kind (nA (tx_va T)) a_length a_fault a_defs a_refs a_imports a_defAt a_refAt a_scopeOf a_importAt a_around a_beginsAt a_endsAt a_names a_scopes a_twice a_open a_stale a_link a_kept a_stack a_trial a_opened (k + 1) (nI (20 * f + (d + 1))) := by
      intro hno
      rw [if_neg (by rw [decide_eq_false hno]; decide)] at hP
      refine ih (d + 1) (by omega) ⟨d', ?_, h2, h3⟩ hP
      by_cases e : d' = d
      · subst e; exact absurd h3 hno
      · omega
    refine ⟨pk_in (20 * f + d) 80 (by omega), ?_⟩
    rw [nI_clamp (show 20 * f + d < 2 ^ 31 by omega), hda, e20, nA_cl (show 20 * f + (tx_ps G T f 1).getD d 0 < 2 ^ 31 by omega), nI_clamp (show 20 * f + (tx_ps G T f 1).getD d 0 < 2 ^ 31 by omega)]
    refine ⟨pk_in (20 * f + (tx_ps G T f 1).getD d 0) 80 (by omega), br_c (fun hsc => ⟨pk_in (20 * f + d) 80 (by omega), pk_in (20 * f + (tx_ps G T f 1).getD d 0) 80 (by omega), ?_⟩) (fun hsc => nm_r (nI_1 _) (next (fun h => hsc h.1)))⟩
    refine pk_eq (tx_va T (20 * f + (tx_ps G T f 1).getD d 0)) nm (fun hvv => ?_) (fun hvv => nm_r (nI_1 _) (next (fun h => hvv h.2)))
    have e32 : (32 : Int32) * nI f + nI (20 * f + d) - 20 * nI f = nI (32 * f + d) := by
      rw [show (32 : Int32) = nI 32 from rfl, show (20 : Int32) = nI 20 from rfl, pk_mul, pk_mul, nI_add, pk_sub (by omega)]
      exact congrArg nI (by omega)
    rw [e32]
    rw [if_pos (decide_eq_true ⟨hsc, hvv⟩)] at hP
    exact hP
theorem xc_find {post : Int32 → Prop} {f s nm : Nat} (hf : f < 4) (hva : ∀ c, tx_va T c < 16) (hnm : nm < 16) (hls : xx_ls (tx_ps G T f 1) f a_defs a_defAt)
    (hx : ∃ q, q ∈ tx_ps G T f 1 ∧ a_scopeOf (20 * f + q) = nI s ∧ tx_va T (20 * f + q) = nm)
    (hP : post (tx_li f (fun q => decide (a_scopeOf (20 * f + q) = nI s ∧ tx_va T (20 * f + q) = nm)) (tx_ps G T f 1) 0)) : wpX_find post (nI (gg_np G), f_built, f_nullable, f_productive, f_sp, f_depth, f_at, nA (gg_ru G), nA (gg_ln G), nA (gg_sy G), gg_ro G, nA (gg_sc G), nA md, nA us, a_first, a_follow, a_table, a_kind, nA (tx_va T), a_length, a_fault, a_defs, a_refs, a_imports, a_defAt, a_refAt, a_scopeOf, a_importAt, a_around, a_beginsAt, a_endsAt, a_names, a_scopes, a_twice, a_open, a_stale, a_link, a_kept, a_stack, a_trial, a_opened) (nI f) (nI s) (nI nm) := by
  obtain ⟨q, q1, q2⟩ := hx
  obtain ⟨d, d1, d2⟩ := dr_x q1
  refine nm_r (e' := nI (20 * f)) (by rw [show (20 : Int32) = nI 20 from rfl, pk_mul]) ⟨(tx_ps G T f 1).length + 1, xc_6 hf hva hnm hls (tx_ps G T f 1).length 0 (by omega) ⟨d, by omega, d1, by rw [d2]; exact q2⟩ ?_⟩
  rw [List.drop_zero]
  exact hP
end XC
end
section
def xx_AN (G : gg_T) (T : tx_T) (f : Nat) (a_fault a_defs a_refs a_imports a_defAt a_refAt a_scopeOf a_importAt a_around a_beginsAt a_endsAt a_scopes a_names a_twice : Nat → Int32) : Prop :=
  xx_A G T f a_fault a_defs a_refs a_imports a_defAt a_refAt a_scopeOf a_importAt a_around a_beginsAt a_endsAt a_scopes ∧ xx_N G T f a_scopeOf a_scopes a_names a_twice
theorem tx_l3l_c {G : gg_T} {T : tx_T} {f nm : Nat} : ∀ l, tx_l3l G T f nm l = -1 ∨ ∃ g c, g < 4 ∧ c < 20 ∧ tx_l3l G T f nm l = nI (32 * g + c) := by
  intro l
  induction l with
  | nil => exact Or.inl rfl
  | cons q l ih =>
    have e : tx_l3l G T f nm (q :: l) = if 0 ≤ tx_fi G T (tx_va T (20 * f + q) % 4) (-1) nm then tx_fi G T (tx_va T (20 * f + q) % 4) (-1) nm else tx_l3l G T f nm l := rfl
    rw [e]
    by_cases h : 0 ≤ tx_fi G T (tx_va T (20 * f + q) % 4) (-1) nm
    · rw [if_pos h]
      rcases tx_fi_c (G := G) (T := T) (f := tx_va T (20 * f + q) % 4) (nm := nm) (sc := -1) with h1 | ⟨c, h1, h2⟩
      · exact Or.inl h1
      · exact Or.inr ⟨_, c, by omega, h1, h2⟩
    · rw [if_neg h]; exact ih
theorem tx_l1_c {G : gg_T} {T : tx_T} {f a nm : Nat} : ∀ d z, tx_l1 G T f a nm d z = -1 ∨ ∃ c, c < 20 ∧ tx_l1 G T f a nm d z = nI (32 * f + c) := by
  intro d
  induction d with
  | zero => intro z; exact Or.inl rfl
  | succ d ih =>
    intro z
    have el : tx_l1 G T f a nm (d + 1) z = match tx_ar G T f a z with
        | none => tx_l1 G T f a nm d (z + 1)
        | some i => if 0 ≤ tx_fi G T f (nI (tx_cd i z)) nm then tx_fi G T f (nI (tx_cd i z)) nm else tx_l1 G T f a nm d (z + 1) := rfl
    rw [el]
    cases har : tx_ar G T f a z with
    | none => exact ih (z + 1)
    | some i =>
      show (if 0 ≤ tx_fi G T f (nI (tx_cd i z)) nm then _ else _) = _ ∨ ∃ c, c < 20 ∧ (if 0 ≤ tx_fi G T f (nI (tx_cd i z)) nm then _ else _) = _
      by_cases h : 0 ≤ tx_fi G T f (nI (tx_cd i z)) nm
      · rw [if_pos h]; exact tx_fi_c
      · rw [if_neg h]; exact ih (z + 1)
theorem tx_lk_c {G : gg_T} {T : tx_T} {f a : Nat} (hf : f < 4) : tx_lk G T f a = -1 ∨ ∃ g c, g < 4 ∧ c < 20 ∧ tx_lk G T f a = nI (32 * g + c) := by
  unfold tx_lk
  by_cases h1 : 0 ≤ tx_l1 G T f a (tx_va T (20 * f + a)) 20 1
  · rw [if_pos h1]
    rcases tx_l1_c (G := G) (T := T) (f := f) (a := a) (nm := tx_va T (20 * f + a)) 20 1 with h | ⟨c, h, h'⟩
    · exact Or.inl h
    · exact Or.inr ⟨f, c, hf, h, h'⟩
  · rw [if_neg h1]
    unfold tx_l2
    by_cases h2 : 0 ≤ tx_fi G T f (-1) (tx_va T (20 * f + a))
    · rw [if_pos h2]
      rcases tx_fi_c (G := G) (T := T) (f := f) (nm := tx_va T (20 * f + a)) (sc := -1) with h | ⟨c, h, h'⟩
      · exact Or.inl h
      · exact Or.inr ⟨f, c, hf, h, h'⟩
    · rw [if_neg h2, tx_l3_ps]
      exact tx_l3l_c _
theorem vs_lk {G : gg_T} {T : tx_T} {f a : Nat} (hf : f < 4) : vp_nar .short ((tx_lk G T f a).toInt16.toInt32) = tx_lk G T f a := by
  rcases tx_lk_c (G := G) (T := T) (a := a) hf with h | ⟨g, c, h1, h2, h3⟩
  · rw [h]; exact vs_m1w
  · rw [h3]; exact vs_w (by omega)
theorem vs_lkv {G : gg_T} {T : tx_T} {f a : Nat} (hf : f < 4) : vp_nar .short (tx_lk G T f a) = tx_lk G T f a := by
  rcases tx_lk_c (G := G) (T := T) (a := a) hf with h | ⟨g, c, h1, h2, h3⟩
  · rw [h]; exact vs_m1
  · rw [h3]; exact vs_v (by omega)
section XL
variable {G : gg_T} {T : tx_T} {f_built f_nullable f_productive f_sp f_depth f_at : Int32} {a_first a_follow a_kind a_value a_length a_fault a_defs a_refs a_imports a_defAt a_refAt a_scopeOf a_importAt a_around a_beginsAt a_endsAt a_names a_scopes a_twice a_open a_stale a_link a_kept a_stack a_trial a_opened : Nat → Int32} {a_table : Nat → Int64} {md us : Nat → Nat}
/-- the root of file g -/
theorem xl_root {g nm : Nat} (hg : g < 4) (h20 : ∀ f, tx_le T f ≤ 20) (hva : ∀ c, tx_va T c < 16) (hnm : nm < 16) (hX : xx_AN G T g a_fault a_defs a_refs a_imports a_defAt a_refAt a_scopeOf a_importAt a_around a_beginsAt a_endsAt a_scopes a_names a_twice) :
    ∃ m, a_names (128 * g) = nI m ∧ m < 2 ^ 16 ∧ (m.testBit nm = true ↔ 0 ≤ tx_fi G T g (-1) nm) ∧ ∀ post : Int32 → Prop, m.testBit nm = true → post (tx_fi G T g (-1) nm) → wpX_find post (nI (gg_np G), f_built, f_nullable, f_productive, f_sp, f_depth, f_at, nA (gg_ru G), nA (gg_ln G), nA (gg_sy G), gg_ro G, nA (gg_sc G), nA md, nA us, a_first, a_follow, a_table, a_kind, nA (tx_va T), a_length, a_fault, a_defs, a_refs, a_imports, a_defAt, a_refAt, a_scopeOf, a_importAt, a_around, a_beginsAt, a_endsAt, a_names, a_scopes, a_twice, a_open, a_stale, a_link, a_kept, a_stack, a_trial, a_opened) (nI g) 0 (nI nm) := by
  obtain ⟨hA, hN⟩ := hX
  obtain ⟨ns, n1, n2, n3, n4⟩ := hA.2.2.2.2
  obtain ⟨m, m1, m2, m3⟩ := hN.1 0 (by rw [n1]; exact nI_lt (by omega) (by omega)) (by omega)
  have hpq : ∀ q, q ∈ tx_ps G T g 1 → tx_sen G T g ∧ q < tx_le T g := fun q hq => ⟨(tx_is_i.mp (tx_ps_in hq).2).1, (tx_is_i.mp (tx_ps_in hq).2).2.1⟩
  have hsc : ∀ q, q ∈ tx_ps G T g 1 → (a_scopeOf (20 * g + q) = nI 0 ↔ tx_inn G T g q = -1) := by
    intro q hq
    obtain ⟨hs, hqn⟩ := hpq q hq
    obtain ⟨so, par, bg, en, w1, w2, w3⟩ := n4 hs
    have hsq := (w3.2.2.1 q hqn).1
    rw [w1 q hqn, nI_eq (by omega) (by omega), lk_ig w3 hqn (h20 g)]
    unfold lk_cd
    by_cases e : so q = 0
    · rw [if_pos e]; exact ⟨fun _ => rfl, fun _ => e⟩
    · rw [if_neg e]
      have := w3.1 (so q) (by omega) hsq
      have h2 := h20 g
      exact ⟨fun h => absurd h e, fun h => absurd (h ▸ nI_pos' (n := 32 * bg (so q) + en (so q)) (by omega)) nn_m1⟩
  have hbit : m.testBit nm = true ↔ 0 ≤ tx_fi G T g (-1) nm := by
    rw [m3, tx_fi_p hg]
    constructor
    · intro ⟨q, h1, h2, h3⟩; exact ⟨q, h1, (hsc q h1).mp h2, h3⟩
    · intro ⟨q, h1, h2, h3⟩; exact ⟨q, h1, (hsc q h1).mpr h2, h3⟩
  refine ⟨m, m1, m2, hbit, fun post hb hP => ?_⟩
  refine xc_find (s := 0) hg hva hnm hA.2.1 ((m3 nm).mp hb) ?_
  have : tx_li g (fun q => decide (a_scopeOf (20 * g + q) = nI 0 ∧ tx_va T (20 * g + q) = nm)) (tx_ps G T g 1) 0 = tx_fi G T g (-1) nm := by
    rw [tx_fi_l]
    refine tx_li_c _ 0 (fun q hq => decide_eq_decide.mpr ?_)
    rw [hsc q hq]
  rw [this]
  exact hP
theorem xl_imp {post : Int32 → Prop} {f d : Nat} {l : List Nat} (hf : f < 4) (hva : ∀ c, tx_va T c < 16) (hls : xx_ls l f a_imports a_importAt) (hl : ∀ q, q ∈ l → q < 20) (hl20 : l.length ≤ 20) (hd : d < l.length)
    (hP : post (nI (tx_va T (20 * f + l.getD d 0) % 4))) : wpX_imported post (nI (gg_np G), f_built, f_nullable, f_productive, f_sp, f_depth, f_at, nA (gg_ru G), nA (gg_ln G), nA (gg_sy G), gg_ro G, nA (gg_sc G), nA md, nA us, a_first, a_follow, a_table, a_kind, nA (tx_va T), a_length, a_fault, a_defs, a_refs, a_imports, a_defAt, a_refAt, a_scopeOf, a_importAt, a_around, a_beginsAt, a_endsAt, a_names, a_scopes, a_twice, a_open, a_stale, a_link, a_kept, a_stack, a_trial, a_opened) (nI f) (nI (20 * f + d)) := by
  have hq := hl _ (dr_m hd)
  have hv := hva (20 * f + l.getD d 0)
  have e20 : ∀ x : Nat, (20 : Int32) * nI f + nI x = nI (20 * f + x) := fun x => by rw [show (20 : Int32) = nI 20 from rfl, pk_mul, nI_add]
  unfold wpX_imported
  dsimp only
  rw [nI_clamp (show 20 * f + d < 2 ^ 31 by omega), hls.2 d hd, e20, nA_cl (show 20 * f + l.getD d 0 < 2 ^ 31 by omega)]
  refine ⟨pk_in (20 * f + d) 80 (by omega), pk_in (20 * f + l.getD d 0) 80 (by omega), by decide, ?_⟩
  have := pk_rem (a := tx_va T (20 * f + l.getD d 0)) (d := 4) (by omega) (by omega) (by omega)
  rw [show (4 : Int32) = nI 4 from rfl, this]
  exact hP
theorem xl_75 {post : Int32 → Prop} {f nm : Nat} (hf : f < 4) (h20 : ∀ f, tx_le T f ≤ 20) (hva : ∀ c, tx_va T c < 16) (hnm : nm < 16) (hX : ∀ g, g < 4 → xx_AN G T g a_fault a_defs a_refs a_imports a_defAt a_refAt a_scopeOf a_importAt a_around a_beginsAt a_endsAt a_scopes a_names a_twice) :
    ∀ k i, i + k = (tx_ps G T f 3).length → post (tx_l3l G T f nm ((tx_ps G T f 3).drop i)) → wX_resolve_75 post (nI f) (nI nm) (nI (gg_np G)) f_built f_nullable f_productive f_sp f_depth f_at (nA (gg_ru G)) (nA (gg_ln G)) (nA (gg_sy G)) (gg_ro G) (nA (gg_sc G)) (nA md) (nA us) a_first a_follow a_table a_kind (nA (tx_va T)) a_length a_fault a_defs a_refs a_imports a_defAt a_refAt a_scopeOf a_importAt a_around a_beginsAt a_endsAt a_names a_scopes a_twice a_open a_stale a_link a_kept a_stack a_trial a_opened (k + 1) (nI (20 * f + i)) := by
  have hl20 := tx_ps_len (G := G) (T := T) (f := f) (x := 3)
  have e20 : ∀ x : Nat, (20 : Int32) * nI f + nI x = nI (20 * f + x) := fun x => by rw [show (20 : Int32) = nI 20 from rfl, pk_mul, nI_add]
  have hls := (hX f hf).1.2.2.2.1
  intro k
  induction k with
  | zero =>
    intro i hi hP
    refine ⟨pk_in f 4 hf, ?_⟩
    rw [nI_clamp (show f < 2 ^ 31 by omega), hls.1, e20]
    rw [List.drop_eq_nil_of_le (by omega)] at hP
    exact pk_le (20 * f + (tx_ps G T f 3).length) (20 * f + i) (fun _ => hP) (fun h => absurd h (by omega))
  | succ k ih =>
    intro i hi hP
    have hil : i < (tx_ps G T f 3).length := by omega
    refine ⟨pk_in f 4 hf, ?_⟩
    rw [nI_clamp (show f < 2 ^ 31 by omega), hls.1, e20]
    refine pk_le (20 * f + (tx_ps G T f 3).length) (20 * f + i) (fun h => absurd h (by omega)) (fun _ => ?_)
    refine xl_imp hf hva hls (fun q hq => (tx_ps_in hq).1) hl20 hil ?_
    have hg4 : tx_va T (20 * f + (tx_ps G T f 3).getD i 0) % 4 < 4 := by omega
    obtain ⟨m, m1, m2, m3, m4⟩ := xl_root (f_built := f_built) (f_nullable := f_nullable) (f_productive := f_productive) (f_sp := f_sp) (f_depth := f_depth) (f_at := f_at) (a_first := a_first) (a_follow := a_follow) (a_table := a_table) (a_kind := a_kind) (a_length := a_length) (a_open := a_open) (a_stale := a_stale) (a_link := a_link) (a_kept := a_kept) (a_stack := a_stack) (a_trial := a_trial) (a_opened := a_opened) (md := md) (us := us) hg4 h20 hva hnm (hX _ hg4)
    have e128 : (128 : Int32) * nI (tx_va T (20 * f + (tx_ps G T f 3).getD i 0) % 4) = nI (128 * (tx_va T (20 * f + (tx_ps G T f 3).getD i 0) % 4)) := by rw [show (128 : Int32) = nI 128 from rfl, pk_mul]
    rw [dr_c hil] at hP
    have el : tx_l3l G T f nm ((tx_ps G T f 3).getD i 0 :: (tx_ps G T f 3).drop (i + 1)) = if 0 ≤ tx_fi G T (tx_va T (20 * f + (tx_ps G T f 3).getD i 0) % 4) (-1) nm then tx_fi G T (tx_va T (20 * f + (tx_ps G T f 3).getD i 0) % 4) (-1) nm else tx_l3l G T f nm ((tx_ps G T f 3).drop (i + 1)) := rfl
    rw [el] at hP
    rw [e128, nI_clamp (show 128 * (tx_va T (20 * f + (tx_ps G T f 3).getD i 0) % 4) < 2 ^ 31 by omega), m1]
    refine ⟨pk_in (128 * (tx_va T (20 * f + (tx_ps G T f 3).getD i 0) % 4)) 512 (by omega), nb_b1 m nm (fun hb => ?_) (fun hb => ?_) (by omega) (by omega)⟩
    · rw [if_pos (m3.mp hb)] at hP
      exact m4 _ hb hP
    · rw [if_neg (fun h => by rw [m3.mpr h] at hb; cases hb)] at hP
      exact nm_r (nI_1 _) (ih (i + 1) (by omega) hP)
theorem xl_18 {post : Int32 → Prop} {f a ns : Nat} {so par bg en : Nat → Nat} (hf : f < 4) (h20 : ∀ f, tx_le T f ≤ 20) (hva : ∀ c, tx_va T c < 16) (ha : a < tx_le T f)
    (hX : ∀ g, g < 4 → xx_AN G T g a_fault a_defs a_refs a_imports a_defAt a_refAt a_scopeOf a_importAt a_around a_beginsAt a_endsAt a_scopes a_names a_twice)
    (hns : ns ≤ 121) (hsc : a_scopes f = nI ns) (w1 : ∀ a, a < tx_le T f → a_scopeOf (20 * f + a) = nI (so a)) (w2 : ∀ s, 1 ≤ s → s < ns → a_around (128 * f + s) = nI (par s) ∧ a_beginsAt (128 * f + s) = nI (bg s) ∧ a_endsAt (128 * f + s) = nI (en s))
    (w3 : sp_fin G (tx_tok T f) (tx_le T f) ns so par bg en) (hP : post (tx_lk G T f a)) :
    ∀ n s, s < n → s < ns → (s ≠ 0 → bg s ≤ a ∧ a ≤ en s) → (∀ t q, 1 ≤ t → t < ns → bg t ≤ a ∧ a ≤ en t → s < t → q ∈ tx_ps G T f 1 → so q = t → ¬ tx_va T (20 * f + q) = tx_va T (20 * f + a)) →
      wX_resolve_18 post (nI f) (nI (tx_va T (20 * f + a))) (nI (gg_np G)) f_built f_nullable f_productive f_sp f_depth f_at (nA (gg_ru G)) (nA (gg_ln G)) (nA (gg_sy G)) (gg_ro G) (nA (gg_sc G)) (nA md) (nA us) a_first a_follow a_table a_kind (nA (tx_va T)) a_length a_fault a_defs a_refs a_imports a_defAt a_refAt a_scopeOf a_importAt a_around a_beginsAt a_endsAt a_names a_scopes a_twice a_open a_stale a_link a_kept a_stack a_trial a_opened n (nI s) := by
  have hpq : ∀ q, q ∈ tx_ps G T f 1 → q < tx_le T f := fun q hq => (tx_is_i.mp (tx_ps_in hq).2).2.1
  have hnm := hva (20 * f + a)
  intro n
  induction n with
  | zero => intro s h; omega
  | succ n ih =>
    intro s hsn hs hin hN
    have e128 : (128 : Int32) * nI f + nI s = nI (128 * f + s) := by rw [show (128 : Int32) = nI 128 from rfl, pk_mul, nI_add]
    obtain ⟨m, m1, m2, m3⟩ := (hX f hf).2.1 s (by rw [hsc]; exact nI_lt hs (by omega)) (by omega)
    have hH : m.testBit (tx_va T (20 * f + a)) = true ↔ ∃ q, q ∈ tx_ps G T f 1 ∧ so q = s ∧ tx_va T (20 * f + q) = tx_va T (20 * f + a) := by
      rw [m3]
      constructor
      · intro ⟨q, h1, h2, h3⟩
        have hq := hpq q h1
        rw [w1 q hq] at h2
        exact ⟨q, h1, nI_inj (by have := (w3.2.2.1 q hq).1; omega) (by omega) h2, h3⟩
      · intro ⟨q, h1, h2, h3⟩
        exact ⟨q, h1, by rw [w1 q (hpq q h1), h2], h3⟩
    have hfe : (∃ q, q ∈ tx_ps G T f 1 ∧ so q = s) → tx_li f (fun q => decide (a_scopeOf (20 * f + q) = nI s ∧ tx_va T (20 * f + q) = tx_va T (20 * f + a))) (tx_ps G T f 1) 0 = tx_fi G T f (lk_cd bg en s) (tx_va T (20 * f + a)) := by
      intro hx
      refine (lk_fi w3 (h20 f) hs hx (fun q hq => decide_eq_decide.mpr ?_)).symm
      rw [w1 q (hpq q hq), nI_eq (by have := (w3.2.2.1 q (hpq q hq)).1; omega) (by omega)]
    refine ⟨by rw [e128]; exact pk_in (128 * f + s) 512 (by omega), ?_⟩
    rw [e128, nI_clamp (show 128 * f + s < 2 ^ 31 by omega), m1]
    refine nb_b1 m (tx_va T (20 * f + a)) (fun hb => ?_) (fun hb => ⟨pk_in (128 * f + s) 512 (by omega), ?_⟩) (by omega) (by omega)
    · obtain ⟨q, q1, q2, q3⟩ := hH.mp hb
      refine xc_find (s := s) hf hva hnm (hX f hf).1.2.1 ((m3 _).mp hb) ?_
      rw [hfe ⟨q, q1, q2⟩]
      by_cases e0 : s = 0
      · subst e0
        have hl1 := lk_no (a := a) (nm := tx_va T (20 * f + a)) w3 hf (h20 f) (fun t q t1 t2 t3 => hN t q t1 t2 t3 (by omega))
        have hcd : lk_cd bg en 0 = -1 := if_pos rfl
        have hf0 : 0 ≤ tx_fi G T f (-1) (tx_va T (20 * f + a)) := (tx_fi_p hf).mpr ⟨q, q1, by rw [lk_ig w3 (hpq q q1) (h20 f), q2]; exact hcd, q3⟩
        rw [hcd]
        unfold tx_lk tx_l2 at hP
        rw [hl1, if_neg nn_m1, if_pos hf0] at hP
        exact hP
      · obtain ⟨h1, h2⟩ := lk_hit w3 hf (h20 f) ha (by omega) hs (hin e0) ⟨q, q1, q2, q3⟩ hN
        unfold tx_lk at hP
        rw [h1, if_pos h2] at hP
        exact hP
    · have hnoS : ∀ q, q ∈ tx_ps G T f 1 → so q = s → ¬ tx_va T (20 * f + q) = tx_va T (20 * f + a) := fun q h1 h2 h3 => by
        rw [hH.mpr ⟨q, h1, h2, h3⟩] at hb
        cases hb
      by_cases e0 : s = 0
      · subst e0
        have hl1 := lk_no (a := a) (nm := tx_va T (20 * f + a)) w3 hf (h20 f) (fun t q t1 t2 t3 => hN t q t1 t2 t3 (by omega))
        have hf0 : ¬ 0 ≤ tx_fi G T f (-1) (tx_va T (20 * f + a)) := by
          intro h
          obtain ⟨q, q1, q2, q3⟩ := (tx_fi_p hf).mp h
          refine hnoS q q1 ?_ q3
          rw [lk_ig w3 (hpq q q1) (h20 f)] at q2
          unfold lk_cd at q2
          by_cases e : so q = 0
          · exact e
          · rw [if_neg e] at q2
            have hq := (w3.2.2.1 q (hpq q q1)).1
            have := w3.1 (so q) (by omega) hq
            have h2 := h20 f
            exact absurd (q2 ▸ nI_pos' (n := 32 * bg (so q) + en (so q)) (by omega)) nn_m1
        unfold tx_lk tx_l2 at hP
        rw [hl1, if_neg nn_m1, if_neg hf0, tx_l3_ps] at hP
        refine nm_e (br_t rfl (nm_r (e' := nI (20 * f)) (by rw [show (20 : Int32) = nI 20 from rfl, pk_mul]) ⟨(tx_ps G T f 3).length + 1, xl_75 hf h20 hva hnm hX (tx_ps G T f 3).length 0 (by omega) ?_⟩))
        rw [List.drop_zero]
        exact hP
      · have hp := w3.1 s (by omega) hs
        rw [(w2 s (by omega) hs).1]
        refine nm_e (br_f (nI_ne0 (by omega) (by omega)) (ih (par s) (by omega) (by omega) (fun h0 => w3.2.1.2 s a (by omega) hs h0 (hin e0)) (fun t q t1 t2 t3 t4 t5 t6 => ?_)))
        rcases Nat.lt_trichotomy s t with hlt | hlt | hlt
        · exact hN t q t1 t2 t3 hlt t5 t6
        · subst hlt; exact hnoS q t5 t6
        · have := w3.2.1.1 s t a t1 hlt hs (hin e0) t3
          omega
theorem xl_resolve {post : Int32 → Prop} {f a : Nat} (hf : f < 4) (h20 : ∀ f, tx_le T f ≤ 20) (hva : ∀ c, tx_va T c < 16) (hs : tx_sen G T f) (ha : a < tx_le T f)
    (hX : ∀ g, g < 4 → xx_AN G T g a_fault a_defs a_refs a_imports a_defAt a_refAt a_scopeOf a_importAt a_around a_beginsAt a_endsAt a_scopes a_names a_twice) (hP : post (tx_lk G T f a)) :
    wpX_resolve post (nI (gg_np G), f_built, f_nullable, f_productive, f_sp, f_depth, f_at, nA (gg_ru G), nA (gg_ln G), nA (gg_sy G), gg_ro G, nA (gg_sc G), nA md, nA us, a_first, a_follow, a_table, a_kind, nA (tx_va T), a_length, a_fault, a_defs, a_refs, a_imports, a_defAt, a_refAt, a_scopeOf, a_importAt, a_around, a_beginsAt, a_endsAt, a_names, a_scopes, a_twice, a_open, a_stale, a_link, a_kept, a_stack, a_trial, a_opened) (nI f) (nI (20 * f + a)) := by
  obtain ⟨ns, n1, n2, n3, n4⟩ := (hX f hf).1.2.2.2.2
  obtain ⟨so, par, bg, en, w1, w2, w3⟩ := n4 hs
  have h2 := h20 f
  have hq := w3.2.2.1 a ha
  unfold wpX_resolve
  dsimp only
  rw [nI_clamp (show 20 * f + a < 2 ^ 31 by omega), w1 a ha]
  refine ⟨pk_in (20 * f + a) 80 (by omega), nm_e ⟨pk_in (20 * f + a) 80 (by omega), nm_e ⟨so a + 1, ?_⟩⟩⟩
  refine xl_18 hf h20 hva ha hX n3 n1 w1 w2 w3 hP (so a + 1) (so a) (by omega) hq.1 hq.2.1 (fun t q t1 t2 t3 t4 => ?_)
  have := hq.2.2 t t1 t2 t3
  omega
/-- the links of a file -/
def xl_ok (G : gg_T) (T : tx_T) (f : Nat) (a_link a_open : Nat → Int32) : Prop := (∀ r, r < (tx_ps G T f 2).length → a_link (20 * f + r) = tx_lk G T f ((tx_ps G T f 2).getD r 0)) ∧ a_open f = nI (tx_un G T f)
theorem xl_29 {post : SX → Prop} {f : Nat} {z_link z_open : Nat → Int32} (hf : f < 4) (h20 : ∀ f, tx_le T f ≤ 20) (hva : ∀ c, tx_va T c < 16)
    (hX : ∀ g, g < 4 → xx_AN G T g a_fault a_defs a_refs a_imports a_defAt a_refAt a_scopeOf a_importAt a_around a_beginsAt a_endsAt a_scopes a_names a_twice)
    (hP : ∀ a_link a_open, xl_ok G T f a_link a_open → yo_fr f a_link z_link → fr1 f a_open z_open → post (nI (gg_np G), f_built, f_nullable, f_productive, f_sp, f_depth, f_at, nA (gg_ru G), nA (gg_ln G), nA (gg_sy G), gg_ro G, nA (gg_sc G), nA md, nA us, a_first, a_follow, a_table, a_kind, nA (tx_va T), a_length, a_fault, a_defs, a_refs, a_imports, a_defAt, a_refAt, a_scopeOf, a_importAt, a_around, a_beginsAt, a_endsAt, a_names, a_scopes, a_twice, a_open, a_stale, a_link, a_kept, a_stack, a_trial, a_opened)) :
    ∀ k r o a_link a_open, r + k = (tx_ps G T f 2).length → (∀ r', r' < r → a_link (20 * f + r') = tx_lk G T f ((tx_ps G T f 2).getD r' 0)) → a_open f = nI o → o + tx_ul G T f ((tx_ps G T f 2).drop r) = tx_un G T f → yo_fr f a_link z_link → fr1 f a_open z_open →
      wX_relink_29 post (nI f) (nI (gg_np G)) f_built f_nullable f_productive f_sp f_depth f_at (k + 1) (nI (20 * f + r)) (nA (gg_ru G)) (nA (gg_ln G)) (nA (gg_sy G)) (gg_ro G) (nA (gg_sc G)) (nA md) (nA us) a_first a_follow a_table a_kind (nA (tx_va T)) a_length a_fault a_defs a_refs a_imports a_defAt a_refAt a_scopeOf a_importAt a_around a_beginsAt a_endsAt a_names a_scopes a_twice a_open a_stale a_link a_kept a_stack a_trial a_opened := by
  have hl20 := tx_ps_len (G := G) (T := T) (f := f) (x := 2)
  have hun := tx_un_20 (G := G) (T := T) (f := f)
  have e20 : ∀ x : Nat, (20 : Int32) * nI f + nI x = nI (20 * f + x) := fun x => by rw [show (20 : Int32) = nI 20 from rfl, pk_mul, nI_add]
  have hls := (hX f hf).1.2.2.1
  intro k
  induction k with
  | zero =>
    intro r o a_link a_open hr hl ho hou hf1 hf2
    refine ⟨pk_in f 4 hf, ?_⟩
    rw [nI_clamp (show f < 2 ^ 31 by omega), hls.1, e20]
    rw [List.drop_eq_nil_of_le (by omega)] at hou
    exact pk_le (20 * f + (tx_ps G T f 2).length) (20 * f + r) (fun _ => hP a_link a_open ⟨fun r' hr' => hl r' (by omega), by rw [ho, ← hou]; rfl⟩ hf1 hf2) (fun h => absurd h (by omega))
  | succ k ih =>
    intro r o a_link a_open hr hl ho hou hf1 hf2
    have hrl : r < (tx_ps G T f 2).length := by omega
    have hqm := tx_ps_in (dr_m hrl)
    have hqi := tx_is_i.mp hqm.2
    have eu : tx_ul G T f ((tx_ps G T f 2).drop r) = (if 0 ≤ tx_lk G T f ((tx_ps G T f 2).getD r 0) then 0 else 1) + tx_ul G T f ((tx_ps G T f 2).drop (r + 1)) := by rw [dr_c hrl]; rfl
    rw [eu] at hou
    refine ⟨pk_in f 4 hf, ?_⟩
    rw [nI_clamp (show f < 2 ^ 31 by omega), hls.1, e20]
    refine pk_le (20 * f + (tx_ps G T f 2).length) (20 * f + r) (fun h => absurd h (by omega)) (fun _ => ⟨pk_in (20 * f + r) 80 (by omega), ?_⟩)
    rw [nI_clamp (show 20 * f + r < 2 ^ 31 by omega), hls.2 r hrl, e20]
    refine xl_resolve hf h20 hva hqi.1 hqi.2.1 hX ?_
    have hl2 : ∀ r', r' < r + 1 → upd a_link (20 * f + r) (tx_lk G T f ((tx_ps G T f 2).getD r 0)) (20 * f + r') = tx_lk G T f ((tx_ps G T f 2).getD r' 0) := by
      intro r' hr'
      by_cases e : r' = r
      · subst e; exact pk_us
      · rw [pk_un (by omega)]; exact hl r' (by omega)
    rw [vs_lk hf]
    refine ⟨pk_in (20 * f + r) 80 (by omega), nm_e ⟨pk_in (20 * f + r) 80 (by omega), ?_⟩⟩
    rw [pk_us]
    refine br_c (fun hge => ?_) (fun hge => ?_)
    · rw [if_pos hge, Nat.zero_add] at hou
      exact nm_r (nI_1 _) (ih (r + 1) o _ a_open (by omega) hl2 ho hou (yo_fr_u hf1 (by omega) (by omega)) hf2)
    · rw [if_neg hge] at hou
      rw [ho, nI_1, vb_w (show o + 1 < 128 by omega)]
      exact ⟨pk_in f 4 hf, pk_in f 4 hf, nm_e (nm_r (nI_1 _) (ih (r + 1) (o + 1) _ _ (by omega) hl2 pk_us (by omega) (yo_fr_u hf1 (by omega) (by omega)) (fr1_u hf2)))⟩
theorem xl_relink {post : SX → Prop} {f : Nat} {z_link z_open z_stale : Nat → Int32} (hf : f < 4) (h20 : ∀ f, tx_le T f ≤ 20) (hva : ∀ c, tx_va T c < 16)
    (hX : ∀ g, g < 4 → xx_AN G T g a_fault a_defs a_refs a_imports a_defAt a_refAt a_scopeOf a_importAt a_around a_beginsAt a_endsAt a_scopes a_names a_twice)
    (hL : z_stale f = 0 → xl_ok G T f z_link z_open)
    (hP : ∀ a_link a_open a_stale, a_stale f = 0 → xl_ok G T f a_link a_open → yo_fr f a_link z_link → fr1 f a_open z_open → fr1 f a_stale z_stale → post (nI (gg_np G), f_built, f_nullable, f_productive, f_sp, f_depth, f_at, nA (gg_ru G), nA (gg_ln G), nA (gg_sy G), gg_ro G, nA (gg_sc G), nA md, nA us, a_first, a_follow, a_table, a_kind, nA (tx_va T), a_length, a_fault, a_defs, a_refs, a_imports, a_defAt, a_refAt, a_scopeOf, a_importAt, a_around, a_beginsAt, a_endsAt, a_names, a_scopes, a_twice, a_open, a_stale, a_link, a_kept, a_stack, a_trial, a_opened)) :
    wpX_relink post (nI (gg_np G), f_built, f_nullable, f_productive, f_sp, f_depth, f_at, nA (gg_ru G), nA (gg_ln G), nA (gg_sy G), gg_ro G, nA (gg_sc G), nA md, nA us, a_first, a_follow, a_table, a_kind, nA (tx_va T), a_length, a_fault, a_defs, a_refs, a_imports, a_defAt, a_refAt, a_scopeOf, a_importAt, a_around, a_beginsAt, a_endsAt, a_names, a_scopes, a_twice, z_open, z_stale, z_link, a_kept, a_stack, a_trial, a_opened) (nI f) := by
  unfold wpX_relink
  dsimp only
  have e20 : (20 : Int32) * nI f = nI (20 * f) := by rw [show (20 : Int32) = nI 20 from rfl, pk_mul]
  rw [nI_clamp (show f < 2 ^ 31 by omega), vo_0, vb_0, e20]
  refine ⟨pk_in f 4 hf, br_c (fun h0 => hP z_link z_open z_stale h0 (hL h0) (fun _ _ => rfl) (fun _ _ => rfl) (fun _ _ => rfl)) (fun h0 => ⟨pk_in f 4 hf, nm_e ⟨pk_in f 4 hf, nm_e (nm_e ⟨(tx_ps G T f 2).length + 1, ?_⟩)⟩⟩)⟩
  refine xl_29 (z_link := z_link) (z_open := z_open) hf h20 hva hX ?_ (tx_ps G T f 2).length 0 0 z_link _ (by omega) (fun r' hr' => by omega) pk_us (by rw [List.drop_zero, Nat.zero_add, tx_un_ps]) (fun _ _ => rfl) (fr1_u (fun _ _ => rfl))
  intro a_link a_open g1 g2 g3
  exact hP a_link a_open _ pk_us g1 g2 g3 (fr1_u (fun _ _ => rfl))
end XL
end
section
/-! texts alike in a file -/
section CG
variable {G : gg_T} {T T' : tx_T} {f : Nat}
theorem cg_sen (ht : tx_tok T f = tx_tok T' f) (hl : tx_le T f = tx_le T' f) : tx_sen G T f = tx_sen G T' f := by unfold tx_sen; rw [ht, hl]
theorem cg_err (ht : tx_tok T f = tx_tok T' f) (hl : tx_le T f = tx_le T' f) : tx_err G T f = tx_err G T' f := by
  unfold tx_err tx_sen tx_Q
  rw [ht, hl]
theorem cg_is (ht : tx_tok T f = tx_tok T' f) (hl : tx_le T f = tx_le T' f) : tx_is G T f = tx_is G T' f := by
  funext a x
  unfold tx_is tx_sen
  rw [ht, hl]
theorem cg_ps (ht : tx_tok T f = tx_tok T' f) (hl : tx_le T f = tx_le T' f) : tx_ps G T f = tx_ps G T' f := by
  funext x
  unfold tx_ps
  rw [cg_is ht hl]
theorem cg_ar (ht : tx_tok T f = tx_tok T' f) : tx_ar G T f = tx_ar G T' f := by
  funext a z
  unfold tx_ar
  rw [ht]
theorem cg_inn (ht : tx_tok T f = tx_tok T' f) : tx_inn G T f = tx_inn G T' f := by
  funext a
  have h : ∀ d z, tx_ig G T f a d z = tx_ig G T' f a d z := by
    intro d
    induction d with
    | zero => intro z; rfl
    | succ d ih =>
      intro z
      have e : ∀ T : tx_T, tx_ig G T f a (d + 1) z = match tx_ar G T f a z with | some i => nI (tx_cd i z) | none => tx_ig G T f a d (z + 1) := fun _ => rfl
      rw [e T, e T', cg_ar ht, ih]
  exact h 20 1
theorem cg_fi (ht : tx_tok T f = tx_tok T' f) (hl : tx_le T f = tx_le T' f) (hv : ∀ a, a < 20 → tx_va T (20 * f + a) = tx_va T' (20 * f + a)) : tx_fi G T f = tx_fi G T' f := by
  funext sc nm
  rw [tx_fi_l, tx_fi_l, cg_ps ht hl]
  refine tx_li_c _ 0 (fun q hq => ?_)
  show decide _ = decide _
  rw [cg_inn ht, hv q (tx_ps_in hq).1]
theorem cg_dup (ht : tx_tok T f = tx_tok T' f) (hl : tx_le T f = tx_le T' f) (hv : ∀ a, a < 20 → tx_va T (20 * f + a) = tx_va T' (20 * f + a)) : tx_dup G T f = tx_dup G T' f := by
  rw [tx_dup_ps, tx_dup_ps, cg_ps ht hl]
  have h : ∀ l c, (∀ q, q ∈ l → q < 20) → tx_dl G T f l c = tx_dl G T' f l c := by
    intro l
    induction l with
    | nil => intro c _; rfl
    | cons q l ih =>
      intro c hq
      have e : ∀ T : tx_T, tx_dl G T f (q :: l) c = (if tx_fi G T f (tx_inn G T f q) (tx_va T (20 * f + q)) = nI (32 * f + c) then 0 else 1) + tx_dl G T f l (c + 1) := fun _ => rfl
      rw [e T, e T', cg_fi ht hl hv, cg_inn ht, hv q (hq q (List.mem_cons_self ..)), ih (c + 1) (fun x hx => hq x (List.mem_cons_of_mem _ hx))]
  exact h _ 0 (fun q hq => (tx_ps_in hq).1)
theorem cg_l1 (ht : tx_tok T f = tx_tok T' f) (hl : tx_le T f = tx_le T' f) (hv : ∀ a, a < 20 → tx_va T (20 * f + a) = tx_va T' (20 * f + a)) {a nm : Nat} : ∀ d z, tx_l1 G T f a nm d z = tx_l1 G T' f a nm d z := by
  intro d
  induction d with
  | zero => intro z; rfl
  | succ d ih =>
    intro z
    have el : ∀ T : tx_T, tx_l1 G T f a nm (d + 1) z = match tx_ar G T f a z with
        | none => tx_l1 G T f a nm d (z + 1)
        | some i => if 0 ≤ tx_fi G T f (nI (tx_cd i z)) nm then tx_fi G T f (nI (tx_cd i z)) nm else tx_l1 G T f a nm d (z + 1) := fun _ => rfl
    rw [el T, el T', cg_ar ht, cg_fi ht hl hv, ih]
theorem cg_lk (ht : tx_tok T f = tx_tok T' f) (hl : tx_le T f = tx_le T' f) (hv : ∀ a, a < 20 → tx_va T (20 * f + a) = tx_va T' (20 * f + a))
    (hi : ∀ q, q ∈ tx_ps G T f 3 → tx_fi G T (tx_va T (20 * f + q) % 4) (-1) = tx_fi G T' (tx_va T (20 * f + q) % 4) (-1)) {a : Nat} (ha : a < 20) : tx_lk G T f a = tx_lk G T' f a := by
  have h : ∀ nm l, (∀ q, q ∈ l → q ∈ tx_ps G T f 3) → tx_l3l G T f nm l = tx_l3l G T' f nm l := by
    intro nm l
    induction l with
    | nil => intro _; rfl
    | cons q l ih =>
      intro hq
      have e : ∀ T : tx_T, tx_l3l G T f nm (q :: l) = if 0 ≤ tx_fi G T (tx_va T (20 * f + q) % 4) (-1) nm then tx_fi G T (tx_va T (20 * f + q) % 4) (-1) nm else tx_l3l G T f nm l := fun _ => rfl
      have hq0 := hq q (List.mem_cons_self ..)
      rw [e T, e T', ih (fun x hx => hq x (List.mem_cons_of_mem _ hx)), ← hv q (tx_ps_in hq0).1, hi q hq0]
  have h3 : ∀ nm, tx_l3 G T f nm 20 0 = tx_l3 G T' f nm 20 0 := by
    intro nm
    rw [tx_l3_ps, tx_l3_ps, ← cg_ps ht hl]
    exact h nm _ (fun q hq => hq)
  unfold tx_lk tx_l2
  rw [cg_l1 ht hl hv, cg_fi ht hl hv, h3, hv a ha]
theorem cg_un (hk : ∀ a, a < 20 → tx_lk G T f a = tx_lk G T' f a) (hp : tx_ps G T f = tx_ps G T' f) : tx_un G T f = tx_un G T' f := by
  rw [tx_un_ps, tx_un_ps, hp]
  have h : ∀ l, (∀ q, q ∈ l → q < 20) → tx_ul G T f l = tx_ul G T' f l := by
    intro l
    induction l with
    | nil => intro _; rfl
    | cons q l ih =>
      intro hq
      have e : ∀ T : tx_T, tx_ul G T f (q :: l) = (if 0 ≤ tx_lk G T f q then 0 else 1) + tx_ul G T f l := fun _ => rfl
      rw [e T, e T', hk q (hq q (List.mem_cons_self ..)), ih (fun x hx => hq x (List.mem_cons_of_mem _ hx))]
  exact h _ (fun q hq => (tx_ps_in hq).1)
variable {a_fault a_defs a_refs a_imports a_defAt a_refAt a_scopeOf a_importAt a_around a_beginsAt a_endsAt a_scopes a_names a_twice a_open a_stale a_link : Nat → Int32}
theorem cg_A (ht : tx_tok T f = tx_tok T' f) (hl : tx_le T f = tx_le T' f) (h : xx_A G T f a_fault a_defs a_refs a_imports a_defAt a_refAt a_scopeOf a_importAt a_around a_beginsAt a_endsAt a_scopes) :
    xx_A G T' f a_fault a_defs a_refs a_imports a_defAt a_refAt a_scopeOf a_importAt a_around a_beginsAt a_endsAt a_scopes := by
  unfold xx_A xx_S at h ⊢
  rw [cg_err ht hl, cg_ps ht hl, cg_sen ht hl, ht, hl] at h
  exact h
theorem cg_N (ht : tx_tok T f = tx_tok T' f) (hl : tx_le T f = tx_le T' f) (hv : ∀ a, a < 20 → tx_va T (20 * f + a) = tx_va T' (20 * f + a)) (h : xx_N G T f a_scopeOf a_scopes a_names a_twice) : xx_N G T' f a_scopeOf a_scopes a_names a_twice := by
  refine ⟨fun s s1 s2 => ?_, by rw [h.2, cg_dup ht hl hv]⟩
  obtain ⟨m, m1, m2, m3⟩ := h.1 s s1 s2
  refine ⟨m, m1, m2, fun v => ?_⟩
  rw [m3 v, cg_ps ht hl]
  constructor
  · intro ⟨q, h1, h2, h3⟩; exact ⟨q, h1, h2, by rw [← hv q (tx_ps_in h1).1]; exact h3⟩
  · intro ⟨q, h1, h2, h3⟩; exact ⟨q, h1, h2, by rw [hv q (tx_ps_in h1).1]; exact h3⟩
end CG
/-! files that a change doesn't touch -/
section FR
variable {G : gg_T} {T : tx_T} {f g : Nat} {z_scopes z_around z_beginsAt z_endsAt z_scopeOf z_defs z_refs z_imports z_defAt z_refAt z_importAt a_scopes a_around a_beginsAt a_endsAt a_scopeOf a_defs a_refs a_imports a_defAt a_refAt a_importAt a_fault z_fault a_names z_names a_twice z_twice : Nat → Int32}
theorem fr_ls {l : List Nat} {cn cn' at_ at' : Nat → Int32} (hg : g ≠ f) (hl : l.length ≤ 20) (h1 : fr1 f cn' cn) (h2 : yo_fr f at' at_) (h : xx_ls l g cn at_) : xx_ls l g cn' at' :=
  ⟨by rw [h1 g hg]; exact h.1, fun d hd => by rw [h2 _ (by omega)]; exact h.2 d hd⟩
theorem fr_A (hg : g ≠ f) (h20 : tx_le T g ≤ 20) (hf : xp_fr f z_scopes z_around z_beginsAt z_endsAt z_scopeOf z_defs z_refs z_imports z_defAt z_refAt z_importAt a_scopes a_around a_beginsAt a_endsAt a_scopeOf a_defs a_refs a_imports a_defAt a_refAt a_importAt) (hfa : fr1 f a_fault z_fault) (h : xx_A G T g z_fault z_defs z_refs z_imports z_defAt z_refAt z_scopeOf z_importAt z_around z_beginsAt z_endsAt z_scopes) :
    xx_A G T g a_fault a_defs a_refs a_imports a_defAt a_refAt a_scopeOf a_importAt a_around a_beginsAt a_endsAt a_scopes := by
  obtain ⟨q1, q2, q3, q4, q5, q6, q7, q8, q9, q10, q11⟩ := hf
  obtain ⟨h1, h2, h3, h4, ns, n1, n2, n3, n4⟩ := h
  refine ⟨by rw [hfa g hg]; exact h1, fr_ls hg tx_ps_len q6 q9 h2, fr_ls hg tx_ps_len q7 q10 h3, fr_ls hg tx_ps_len q8 q11 h4, ns, by rw [q1 g hg]; exact n1, n2, n3, fun hs => ?_⟩
  obtain ⟨so, par, bg, en, w1, w2, w3⟩ := n4 hs
  refine ⟨so, par, bg, en, fun a ha => by rw [q5 _ (by omega)]; exact w1 a ha, fun s s1 s2 => ?_, w3⟩
  rw [q2 _ (by omega), q3 _ (by omega), q4 _ (by omega)]
  exact w2 s s1 s2
theorem fr_N (hg : g ≠ f) (h1 : fr1 f a_scopes z_scopes) (h2 : yo_fr f a_scopeOf z_scopeOf) (h3 : fr3 f a_names z_names) (h4 : fr1 f a_twice z_twice) (h : xx_N G T g z_scopeOf z_scopes z_names z_twice) : xx_N G T g a_scopeOf a_scopes a_names a_twice := by
  refine ⟨fun s s1 s2 => ?_, by rw [h4 g hg]; exact h.2⟩
  rw [h1 g hg] at s1
  obtain ⟨m, m1, m2, m3⟩ := h.1 s s1 s2
  refine ⟨m, by rw [h3 _ (by omega)]; exact m1, m2, fun v => ?_⟩
  rw [m3 v]
  constructor
  · intro ⟨q, w1, w2, w3⟩; have := (tx_ps_in w1).1; exact ⟨q, w1, by rw [h2 _ (by omega)]; exact w2, w3⟩
  · intro ⟨q, w1, w2, w3⟩; have := (tx_ps_in w1).1; exact ⟨q, w1, by rw [← h2 _ (by omega)]; exact w2, w3⟩
end FR
section XF
variable {G : gg_T} {T : tx_T} {f_built f_nullable f_productive f_sp f_depth f_at : Int32} {a_first a_follow a_kind a_value a_length a_fault a_defs a_refs a_imports a_defAt a_refAt a_scopeOf a_importAt a_around a_beginsAt a_endsAt a_names a_scopes a_twice a_open a_stale a_link a_kept a_stack a_trial a_opened : Nat → Int32} {a_table : Nat → Int64} {md us : Nat → Nat} {z_scopes z_around z_beginsAt z_endsAt z_scopeOf z_defs z_refs z_imports z_defAt z_refAt z_importAt z_fault z_names z_twice z_stale : Nat → Int32}
theorem xf_5 {post : Int32 → Prop} {g f : Nat} {l : List Nat} (hg : g < 4) (hf : f < 4) (hva : ∀ c, tx_va T c < 16) (hls : xx_ls l g a_imports a_importAt) (hl : ∀ q, q ∈ l → q < 20) (hl20 : l.length ≤ 20)
    (h1 : (∃ q, q ∈ l ∧ tx_va T (20 * g + q) % 4 = f) → post 1) (h0 : (¬ ∃ q, q ∈ l ∧ tx_va T (20 * g + q) % 4 = f) → post 0) :
    ∀ k i, i + k = l.length → (∀ i', i' < i → tx_va T (20 * g + l.getD i' 0) % 4 ≠ f) → wX_importsFrom_5 post (nI g) (nI f) (nI (gg_np G)) f_built f_nullable f_productive f_sp f_depth f_at (nA (gg_ru G)) (nA (gg_ln G)) (nA (gg_sy G)) (gg_ro G) (nA (gg_sc G)) (nA md) (nA us) a_first a_follow a_table a_kind (nA (tx_va T)) a_length a_fault a_defs a_refs a_imports a_defAt a_refAt a_scopeOf a_importAt a_around a_beginsAt a_endsAt a_names a_scopes a_twice a_open a_stale a_link a_kept a_stack a_trial a_opened (k + 1) (nI (20 * g + i)) := by
  have e20 : ∀ x : Nat, (20 : Int32) * nI g + nI x = nI (20 * g + x) := fun x => by rw [show (20 : Int32) = nI 20 from rfl, pk_mul, nI_add]
  intro k
  induction k with
  | zero =>
    intro i hi hno
    refine ⟨pk_in g 4 hg, ?_⟩
    rw [nI_clamp (show g < 2 ^ 31 by omega), hls.1, e20]
    refine pk_le (20 * g + l.length) (20 * g + i) (fun _ => h0 (fun ⟨q, q1, q2⟩ => ?_)) (fun h => absurd h (by omega))
    obtain ⟨d, d1, d2⟩ := dr_x q1
    exact hno d (by omega) (by rw [d2]; exact q2)
  | succ k ih =>
    intro i hi hno
    refine ⟨pk_in g 4 hg, ?_⟩
    rw [nI_clamp (show g < 2 ^ 31 by omega), hls.1, e20]
    refine pk_le (20 * g + l.length) (20 * g + i) (fun h => absurd h (by omega)) (fun _ => ?_)
    refine xl_imp hg hva hls hl hl20 (by omega) ?_
    refine pk_eq (tx_va T (20 * g + l.getD i 0) % 4) f (fun he => h1 ⟨_, dr_m (by omega), he⟩) (fun he => nm_r (nI_1 _) (ih (i + 1) (by omega) (fun i' hi' => ?_)))
    by_cases e : i' = i
    · subst e; exact he
    · exact hno i' (by omega)
theorem xf_imp {post : Int32 → Prop} {g f : Nat} {l : List Nat} (hg : g < 4) (hf : f < 4) (hva : ∀ c, tx_va T c < 16) (hls : xx_ls l g a_imports a_importAt) (hl : ∀ q, q ∈ l → q < 20) (hl20 : l.length ≤ 20)
    (h1 : (∃ q, q ∈ l ∧ tx_va T (20 * g + q) % 4 = f) → post 1) (h0 : (¬ ∃ q, q ∈ l ∧ tx_va T (20 * g + q) % 4 = f) → post 0) : wpX_importsFrom post (nI (gg_np G), f_built, f_nullable, f_productive, f_sp, f_depth, f_at, nA (gg_ru G), nA (gg_ln G), nA (gg_sy G), gg_ro G, nA (gg_sc G), nA md, nA us, a_first, a_follow, a_table, a_kind, nA (tx_va T), a_length, a_fault, a_defs, a_refs, a_imports, a_defAt, a_refAt, a_scopeOf, a_importAt, a_around, a_beginsAt, a_endsAt, a_names, a_scopes, a_twice, a_open, a_stale, a_link, a_kept, a_stack, a_trial, a_opened) (nI g) (nI f) :=
  nm_r (e' := nI (20 * g)) (by rw [show (20 : Int32) = nI 20 from rfl, pk_mul]) ⟨l.length + 1, xf_5 hg hf hva hls hl hl20 h1 h0 l.length 0 (by omega) (fun i' hi' => by omega)⟩
theorem xf_23 {post : SX → Prop} {f : Nat} {L : Nat → List Nat} (hf : f < 4) (hva : ∀ c, tx_va T c < 16) (hL : ∀ g, g < 4 → xx_ls (L g) g a_imports a_importAt ∧ (∀ q, q ∈ L g → q < 20) ∧ (L g).length ≤ 20)
    (hP : ∀ a_stale, a_stale f = nI 1 → (∀ g, g < 4 → g ≠ f → a_stale g = 0 → z_stale g = 0 ∧ ∀ q, q ∈ L g → tx_va T (20 * g + q) % 4 ≠ f) → post (nI (gg_np G), f_built, f_nullable, f_productive, f_sp, f_depth, f_at, nA (gg_ru G), nA (gg_ln G), nA (gg_sy G), gg_ro G, nA (gg_sc G), nA md, nA us, a_first, a_follow, a_table, a_kind, nA (tx_va T), a_length, a_fault, a_defs, a_refs, a_imports, a_defAt, a_refAt, a_scopeOf, a_importAt, a_around, a_beginsAt, a_endsAt, a_names, a_scopes, a_twice, a_open, a_stale, a_link, a_kept, a_stack, a_trial, a_opened)) :
    ∀ k g a_stale, g + k = 4 → a_stale f = nI 1 → (∀ g', g' < g → g' ≠ f → a_stale g' = 0 → z_stale g' = 0 ∧ ∀ q, q ∈ L g' → tx_va T (20 * g' + q) % 4 ≠ f) → (∀ g', g ≤ g' → g' ≠ f → a_stale g' = z_stale g') →
      wX_refresh_23 post (nI f) (nI (gg_np G)) f_built f_nullable f_productive f_sp f_depth f_at (k + 1) (nI g) (nA (gg_ru G)) (nA (gg_ln G)) (nA (gg_sy G)) (gg_ro G) (nA (gg_sc G)) (nA md) (nA us) a_first a_follow a_table a_kind (nA (tx_va T)) a_length a_fault a_defs a_refs a_imports a_defAt a_refAt a_scopeOf a_importAt a_around a_beginsAt a_endsAt a_names a_scopes a_twice a_open a_stale a_link a_kept a_stack a_trial a_opened := by
  intro k
  induction k with
  | zero =>
    intro g a_stale hg h1 h2 h3
    have e : g = 4 := by omega
    subst e
    exact br_t (by decide) (hP a_stale h1 h2)
  | succ k ih =>
    intro g a_stale hg h1 h2 h3
    have hg4 : g < 4 := by omega
    obtain ⟨l1, l2, l3⟩ := hL g hg4
    refine pk_le 4 g (fun h => absurd h (by omega)) (fun _ => ?_)
    refine xf_imp hg4 hf hva l1 l2 l3 (fun hx => ?_) (fun hx => ?_)
    · refine br_f (by decide) ?_
      rw [nI_clamp (show g < 2 ^ 31 by omega), vo_1]
      refine ⟨pk_in g 4 hg4, nm_e (nm_r (nI_1 g) (ih (g + 1) _ (by omega) ?_ (fun g' hg' hgf h0 => ?_) (fun g' hg' hgf => ?_)))⟩
      · by_cases e : f = g
        · subst e; exact pk_us
        · rw [pk_un e]; exact h1
      · by_cases e : g' = g
        · subst e; rw [pk_us] at h0; exact absurd h0 (by decide)
        · rw [pk_un e] at h0; exact h2 g' (by omega) hgf h0
      · rw [pk_un (by omega)]; exact h3 g' (by omega) hgf
    · refine br_t rfl (nm_r (nI_1 g) (ih (g + 1) a_stale (by omega) h1 (fun g' hg' hgf h0 => ?_) (fun g' hg' hgf => h3 g' (by omega) hgf)))
      by_cases e : g' = g
      · subst e
        rw [h3 g' (Nat.le_refl g') hgf] at h0
        exact ⟨h0, fun q hq he => hx ⟨q, hq, he⟩⟩
      · exact h2 g' (by omega) hgf h0
/-- a file's text has changed: values alone, or kinds too -/
theorem xf_9 {post : SX → Prop} {f : Nat} {L : Nat → List Nat} (hf : f < 4) (hva : ∀ c, tx_va T c < 16) (h20 : ∀ f, tx_le T f ≤ 20)
    (hA : xx_A G T f a_fault a_defs a_refs a_imports a_defAt a_refAt a_scopeOf a_importAt a_around a_beginsAt a_endsAt a_scopes)
    (hL : ∀ g, g < 4 → xx_ls (L g) g a_imports a_importAt ∧ (∀ q, q ∈ L g → q < 20) ∧ (L g).length ≤ 20)
    (hP : ∀ a_names a_twice a_stale, xx_N G T f a_scopeOf a_scopes a_names a_twice → fr3 f a_names z_names → fr1 f a_twice z_twice → a_stale f = nI 1 → (∀ g, g < 4 → g ≠ f → a_stale g = 0 → z_stale g = 0 ∧ ∀ q, q ∈ L g → tx_va T (20 * g + q) % 4 ≠ f) → post (nI (gg_np G), f_built, f_nullable, f_productive, f_sp, f_depth, f_at, nA (gg_ru G), nA (gg_ln G), nA (gg_sy G), gg_ro G, nA (gg_sc G), nA md, nA us, a_first, a_follow, a_table, a_kind, nA (tx_va T), a_length, a_fault, a_defs, a_refs, a_imports, a_defAt, a_refAt, a_scopeOf, a_importAt, a_around, a_beginsAt, a_endsAt, a_names, a_scopes, a_twice, a_open, a_stale, a_link, a_kept, a_stack, a_trial, a_opened)) :
    wX_refresh_9 post (nI f) (nI (gg_np G)) f_built f_nullable f_productive f_sp f_depth f_at (nA (gg_ru G)) (nA (gg_ln G)) (nA (gg_sy G)) (gg_ro G) (nA (gg_sc G)) (nA md) (nA us) a_first a_follow a_table a_kind (nA (tx_va T)) a_length a_fault a_defs a_refs a_imports a_defAt a_refAt a_scopeOf a_importAt a_around a_beginsAt a_endsAt z_names a_scopes z_twice a_open z_stale a_link a_kept a_stack a_trial a_opened := by
  unfold wX_refresh_9
  refine xc_names (z_names := z_names) (z_twice := z_twice) hf hva (h20 f) hA ?_
  intro a_names a_twice g1 g2 g3
  dsimp only
  rw [nI_clamp (show f < 2 ^ 31 by omega), vo_1]
  refine ⟨pk_in f 4 hf, nm_e ⟨5, xf_23 (z_stale := z_stale) hf hva hL (fun a_stale q1 q2 => hP a_names a_twice a_stale g1 g2 g3 q1 q2) 4 0 _ (by omega) pk_us (fun g' hg' => by omega) (fun g' _ hgf => pk_un hgf)⟩⟩
theorem xf_refresh1 {post : SX → Prop} {f : Nat} {L : Nat → List Nat} (hG : gg_ok G) (hLL : gg_LL G) (hkd : ∀ c, tx_kd T c < 10) (hf : f < 4) (hva : ∀ c, tx_va T c < 16) (h20 : ∀ f, tx_le T f ≤ 20) (hB : xx_B G a_table)
    (hL : ∀ g, g < 4 → g ≠ f → xx_ls (L g) g z_imports z_importAt ∧ (∀ q, q ∈ L g → q < 20) ∧ (L g).length ≤ 20)
    (hP : ∀ f_sp f_depth f_at a_stack a_opened a_fault a_scopes a_around a_beginsAt a_endsAt a_scopeOf a_defs a_refs a_imports a_defAt a_refAt a_importAt a_names a_twice a_stale, xx_AN G T f a_fault a_defs a_refs a_imports a_defAt a_refAt a_scopeOf a_importAt a_around a_beginsAt a_endsAt a_scopes a_names a_twice → xp_fr f z_scopes z_around z_beginsAt z_endsAt z_scopeOf z_defs z_refs z_imports z_defAt z_refAt z_importAt a_scopes a_around a_beginsAt a_endsAt a_scopeOf a_defs a_refs a_imports a_defAt a_refAt a_importAt → fr1 f a_fault z_fault → fr3 f a_names z_names → fr1 f a_twice z_twice →
      a_stale f = nI 1 → (∀ g, g < 4 → g ≠ f → a_stale g = 0 → z_stale g = 0 ∧ ∀ q, q ∈ L g → tx_va T (20 * g + q) % 4 ≠ f) → post (nI (gg_np G), f_built, f_nullable, f_productive, f_sp, f_depth, f_at, nA (gg_ru G), nA (gg_ln G), nA (gg_sy G), gg_ro G, nA (gg_sc G), nA md, nA us, a_first, a_follow, a_table, nA (tx_kd T), nA (tx_va T), nA (tx_le T), a_fault, a_defs, a_refs, a_imports, a_defAt, a_refAt, a_scopeOf, a_importAt, a_around, a_beginsAt, a_endsAt, a_names, a_scopes, a_twice, a_open, a_stale, a_link, a_kept, a_stack, a_trial, a_opened)) :
    wpX_refresh post (nI (gg_np G), f_built, f_nullable, f_productive, f_sp, f_depth, f_at, nA (gg_ru G), nA (gg_ln G), nA (gg_sy G), gg_ro G, nA (gg_sc G), nA md, nA us, a_first, a_follow, a_table, nA (tx_kd T), nA (tx_va T), nA (tx_le T), z_fault, z_defs, z_refs, z_imports, z_defAt, z_refAt, z_scopeOf, z_importAt, z_around, z_beginsAt, z_endsAt, z_names, z_scopes, z_twice, a_open, z_stale, a_link, a_kept, a_stack, a_trial, a_opened) (nI f) 1 := by
  refine br_f (by decide) ?_
  refine xr_parse (z_scopes := z_scopes) (z_around := z_around) (z_beginsAt := z_beginsAt) (z_endsAt := z_endsAt) (z_scopeOf := z_scopeOf) (z_defs := z_defs) (z_refs := z_refs) (z_imports := z_imports) (z_defAt := z_defAt) (z_refAt := z_refAt) (z_importAt := z_importAt) (z_fault := z_fault) hG hLL hkd (h20 f) hf hB ?_
  intro f_sp f_depth f_at a_stack a_opened a_fault a_scopes a_around a_beginsAt a_endsAt a_scopeOf a_defs a_refs a_imports a_defAt a_refAt a_importAt hA hfr hfa
  dsimp only
  refine xf_9 (L := fun g => if g = f then tx_ps G T f 3 else L g) hf hva h20 hA (fun g hg => ?_) ?_
  · by_cases e : g = f
    · subst e
      simp only [if_true]
      exact ⟨hA.2.2.2.1, fun q hq => (tx_ps_in hq).1, tx_ps_len⟩
    · simp only [if_neg e]
      obtain ⟨l1, l2, l3⟩ := hL g hg e
      exact ⟨fr_ls e l3 hfr.2.2.2.2.2.2.2.1 hfr.2.2.2.2.2.2.2.2.2.2 l1, l2, l3⟩
  · intro a_names a_twice a_stale q1 q2 q3 q4 q5
    refine hP f_sp f_depth f_at a_stack a_opened a_fault a_scopes a_around a_beginsAt a_endsAt a_scopeOf a_defs a_refs a_imports a_defAt a_refAt a_importAt a_names a_twice a_stale ⟨hA, q1⟩ hfr hfa q2 q3 q4 (fun g hg hgf h0 => ?_)
    have := q5 g hg hgf h0
    simp only [if_neg hgf] at this
    exact this
theorem xf_refresh0 {post : SX → Prop} {f : Nat} {L : Nat → List Nat} (hf : f < 4) (hva : ∀ c, tx_va T c < 16) (h20 : ∀ f, tx_le T f ≤ 20)
    (hA : xx_A G T f a_fault a_defs a_refs a_imports a_defAt a_refAt a_scopeOf a_importAt a_around a_beginsAt a_endsAt a_scopes)
    (hL : ∀ g, g < 4 → xx_ls (L g) g a_imports a_importAt ∧ (∀ q, q ∈ L g → q < 20) ∧ (L g).length ≤ 20)
    (hP : ∀ a_names a_twice a_stale, xx_N G T f a_scopeOf a_scopes a_names a_twice → fr3 f a_names z_names → fr1 f a_twice z_twice → a_stale f = nI 1 → (∀ g, g < 4 → g ≠ f → a_stale g = 0 → z_stale g = 0 ∧ ∀ q, q ∈ L g → tx_va T (20 * g + q) % 4 ≠ f) → post (nI (gg_np G), f_built, f_nullable, f_productive, f_sp, f_depth, f_at, nA (gg_ru G), nA (gg_ln G), nA (gg_sy G), gg_ro G, nA (gg_sc G), nA md, nA us, a_first, a_follow, a_table, a_kind, nA (tx_va T), a_length, a_fault, a_defs, a_refs, a_imports, a_defAt, a_refAt, a_scopeOf, a_importAt, a_around, a_beginsAt, a_endsAt, a_names, a_scopes, a_twice, a_open, a_stale, a_link, a_kept, a_stack, a_trial, a_opened)) :
    wpX_refresh post (nI (gg_np G), f_built, f_nullable, f_productive, f_sp, f_depth, f_at, nA (gg_ru G), nA (gg_ln G), nA (gg_sy G), gg_ro G, nA (gg_sc G), nA md, nA us, a_first, a_follow, a_table, a_kind, nA (tx_va T), a_length, a_fault, a_defs, a_refs, a_imports, a_defAt, a_refAt, a_scopeOf, a_importAt, a_around, a_beginsAt, a_endsAt, z_names, a_scopes, z_twice, a_open, z_stale, a_link, a_kept, a_stack, a_trial, a_opened) (nI f) 0 :=
  br_t rfl (xf_9 hf hva h20 hA hL hP)
end XF
end
section
/-! the class's sets, by worklists -/
theorem gg_pl_un {P Q : Nat → Prop} : ∀ l : List Nat, (∀ x, x ∈ l → 10 ≤ x → Q (x - 10) → P (x - 10)) → gg_pl Q l → gg_pl P l := by
  intro l
  induction l with
  | nil => intro _ _; trivial
  | cons x l ih => intro h ⟨h1, h2⟩; exact ⟨fun hx => h x (List.mem_cons_self ..) hx (h1 hx), ih (fun y hy => h y (List.mem_cons_of_mem _ hy)) h2⟩
theorem gg_nl_un {P Q : Nat → Prop} : ∀ l : List Nat, (∀ x, x ∈ l → 10 ≤ x → Q (x - 10) → P (x - 10)) → gg_nl Q l → gg_nl P l := by
  intro l
  induction l with
  | nil => intro _ _; trivial
  | cons x l ih => intro h ⟨⟨h0, h1⟩, h2⟩; exact ⟨⟨h0, h x (List.mem_cons_self ..) h0 h1⟩, ih (fun y hy => h y (List.mem_cons_of_mem _ hy)) h2⟩
theorem gg_fl_un {N P Q : Nat → Prop} {t : Nat} : ∀ l : List Nat, (∀ x, x ∈ l → 10 ≤ x → Q (x - 10) → P (x - 10)) → gg_fl N Q t l → gg_fl N P t l := by
  intro l
  induction l with
  | nil => intro _ h; exact h
  | cons x l ih =>
    intro h h1
    rcases h1 with h1 | ⟨h1, h2⟩ | ⟨h1, h2⟩
    · exact Or.inl h1
    · exact Or.inr (Or.inl ⟨h1, h x (List.mem_cons_self ..) h1 h2⟩)
    · exact Or.inr (Or.inr ⟨h1, ih (fun y hy => h y (List.mem_cons_of_mem _ hy)) h2⟩)
theorem gg_sl_m {G : gg_T} {p x : Nat} (h : x ∈ gg_sl G p 0) : ∃ m, m < gg_ln G p ∧ gg_sy G (4 * p + m) = x := by
  unfold gg_sl at h
  obtain ⟨i, h1, h2⟩ := List.mem_map.mp h
  have := List.mem_range'_1.mp h1
  exact ⟨i, by omega, h2⟩
/-- pending productions -/
def xd_pe (np pe : Nat) : Prop := pe < 2 ^ 14 ∧ ∀ p, pe.testBit p = true → p < np
theorem xd_all (np : Nat) (h : np ≤ 14) : (2 ^ np - 1 : Nat) < 2 ^ 14 ∧ ∀ p, (2 ^ np - 1).testBit p = true ↔ p < np := by
  have h1 : 2 ^ np ≤ 2 ^ 14 := Nat.pow_le_pow_right (by omega) h
  have h2 := Nat.two_pow_pos np
  refine ⟨by omega, fun p => ?_⟩
  rw [Nat.testBit_two_pow_sub_one, decide_eq_true_eq]
noncomputable def xd_c (pe : Nat) : Nat := kk_cnt (fun p => pe.testBit p = true) 14
theorem xd_c_cl {pe p : Nat} (hp : p < 14) (h : pe.testBit p = true) : xd_c (nb_cl pe p) < xd_c pe := by
  apply kk_lt 14
  · intro i _ hi; exact (nb_cl_i.mp hi).1
  · exact ⟨p, hp, h, fun hi => (nb_cl_i.mp hi).2 rfl⟩
theorem xd_c_14 (pe : Nat) : xd_c pe ≤ 14 := kk_le _ 14
theorem xd_c0 {pe : Nat} (h0 : pe ≠ 0) (h : pe < 2 ^ 14) : ∃ p, p < 14 ∧ pe.testBit p = true := by
  apply Classical.byContradiction
  intro hn
  apply h0
  apply nb_ext
  intro i
  refine ⟨fun hi => ?_, fun hi => absurd hi nb_0_t⟩
  exact absurd ⟨i, nb_ge h hi, hi⟩ hn
theorem xd_low {post : Int32 → Prop} {pe : Nat} (h0 : pe ≠ 0) (h : pe < 2 ^ 14) (hP : ∀ p, p < 14 → pe.testBit p = true → post (nI p)) : wpX_lowest post (nI pe) := by
  obtain ⟨p, p1, p2⟩ := xd_c0 h0 h
  have key : ∀ d i, i + d = p → wX_lowest_2 post (nI pe) (d + 1) (nI i) := by
    intro d
    induction d with
    | zero =>
      intro i hi
      have e : i = p := by omega
      subst e
      exact br_f (nI_ge (b := 31) (by omega) (by omega)) (nb_b0 pe i (fun hb => by rw [hb] at p2; cases p2) (fun hb => hP i p1 hb) (by omega) (by omega))
    | succ d ih =>
      intro i hi
      exact br_f (nI_ge (b := 31) (by omega) (by omega)) (nb_b0 pe i (fun hb => nm_r (nI_1 i) (ih (i + 1) (by omega))) (fun hb => hP i (by omega) hb) (by omega) (by omega))
  exact ⟨p + 1, key p 0 (by omega)⟩
theorem an_1 {x : Nat} (h : x ≤ 1) : nI x &&& 1 = nI x := by
  rw [pk_andN (by omega) 1 (by decide)]
  exact congrArg nI (by omega)
theorem an_0 (x : Int32) : x &&& 0 = nI 0 := by
  rw [Int32.and_zero]; rfl
section XD
variable {G : gg_T} {f_built f_nullable f_productive f_sp f_depth f_at : Int32} {a_first a_follow a_kind a_value a_length a_fault a_defs a_refs a_imports a_defAt a_refAt a_scopeOf a_importAt a_around a_beginsAt a_endsAt a_names a_scopes a_twice a_open a_stale a_link a_kept a_stack a_trial a_opened : Nat → Int32} {a_table : Nat → Int64} {md us : Nat → Nat}
/-- sound masks of the rules that derive something, and of the nullable ones; closed for what isn't pending -/
def xd_I (G : gg_T) (pe pr nu : Nat) : Prop :=
  xd_pe (gg_np G) pe ∧ (pr < 2 ^ 6 ∧ ∀ A, pr.testBit A = true → gg_Pr G A) ∧ (nu < 2 ^ 6 ∧ ∀ A, nu.testBit A = true → gg_Nu G A) ∧
  (∀ p, p < gg_np G → pe.testBit p = false → (gg_pl (yl_em pr) (gg_sl G p 0) → pr.testBit (gg_ru G p) = true) ∧ (gg_nl (yl_em nu) (gg_sl G p 0) → nu.testBit (gg_ru G p) = true))
noncomputable def xd_b (m : Nat) : Nat := kk_cnt (fun p => m.testBit p = true) 6
theorem xd_b6 (m : Nat) : xd_b m ≤ 6 := kk_le _ 6
theorem xd_b_or {m n : Nat} (hn : n < 6) (h : ¬ m.testBit n = true) : xd_b m < xd_b (m ||| 2 ^ n) := by
  apply kk_lt 6
  · intro i _ hi; exact nb_or_t.mpr (Or.inl hi)
  · exact ⟨n, hn, nb_or_t.mpr (Or.inr (nb_p_t.mpr rfl)), h⟩
theorem or_id {m n : Nat} (h : m.testBit n = true) : m ||| 2 ^ n = m := by
  apply nb_ext
  intro i
  rw [nb_or_t, nb_p_t]
  exact ⟨fun h' => h'.elim (fun h => h) (fun e => by rw [e]; exact h), Or.inl⟩
theorem or_ne {m n : Nat} (h : ¬ m.testBit n = true) : m ||| 2 ^ n ≠ m := by
  intro e
  apply h
  rw [← e]
  exact nb_or_t.mpr (Or.inr (nb_p_t.mpr rfl))
/-- adding the rule n to a mask, with its users pending -/
theorem xd_cl {pr n x : Nat} {P : (Nat → Prop) → List Nat → Prop} {q : Nat} (hP : ∀ A B : Nat → Prop, (∀ x, x ∈ gg_sl G q 0 → 10 ≤ x → B (x - 10) → A (x - 10)) → P B (gg_sl G q 0) → P A (gg_sl G q 0))
    (hno : ¬ ∃ m, m < gg_ln G q ∧ gg_sy G (4 * q + m) = n + 10) (hx : ∀ A, A ≠ n → x.testBit A = true → pr.testBit A = true) (h : P (yl_em x) (gg_sl G q 0)) : P (yl_em pr) (gg_sl G q 0) := by
  refine hP _ _ (fun y hy h10 hb => ?_) h
  refine hx (y - 10) (fun e => ?_) hb
  obtain ⟨m, m1, m2⟩ := gg_sl_m hy
  exact hno ⟨m, m1, by omega⟩
theorem xd_68 {post : SX → Prop} {J : Int32 → Int32 → Int32 → Prop} {p pe pr nu : Nat} {x3 x4 : Int32} (hG : gg_ok G) (hp : p < 14) (hpr : pr < 2 ^ 6) (hnu : nu < 2 ^ 6)
    (hJ : ∀ de em, de ≤ 1 → em ≤ 1 → (de = 1 ↔ gg_pl (yl_em pr) (gg_sl G p 0)) → (em = 1 ↔ gg_nl (yl_em nu) (gg_sl G p 0)) →
      ((nI de = 0 → (wX_solveDerived_174 post J (nI pe) x3 x4 (nI em) (nI (gg_np G)) f_built (nI nu) (nI pr) f_sp f_depth f_at (nA (gg_ru G)) (nA (gg_ln G)) (nA (gg_sy G)) (gg_ro G) (nA (gg_sc G)) (nA md) (nA us) a_first a_follow a_table a_kind a_value a_length a_fault a_defs a_refs a_imports a_defAt a_refAt a_scopeOf a_importAt a_around a_beginsAt a_endsAt a_names a_scopes a_twice a_open a_stale a_link a_kept a_stack a_trial a_opened)) ∧ (¬ nI de = 0 → (∀ f_productive_17 : Int32, f_productive_17 = nI pr ||| ((1 : Int32) <<< (x3 &&& 31)) → (wX_solveDerived_174 post J (nI pe) x3 x4 (nI em) (nI (gg_np G)) f_built (nI nu) f_productive_17 f_sp f_depth f_at (nA (gg_ru G)) (nA (gg_ln G)) (nA (gg_sy G)) (gg_ro G) (nA (gg_sc G)) (nA md) (nA us) a_first a_follow a_table a_kind a_value a_length a_fault a_defs a_refs a_imports a_defAt a_refAt a_scopeOf a_importAt a_around a_beginsAt a_endsAt a_names a_scopes a_twice a_open a_stale a_link a_kept a_stack a_trial a_opened))))) :
    ∀ d m de em, m + d = gg_ln G p → de ≤ 1 → em ≤ 1 → ((de = 1 ∧ gg_pl (yl_em pr) (gg_sl G p m)) ↔ gg_pl (yl_em pr) (gg_sl G p 0)) → ((em = 1 ∧ gg_nl (yl_em nu) (gg_sl G p m)) ↔ gg_nl (yl_em nu) (gg_sl G p 0)) →
      wX_solveDerived_68 post J (nI pe) (nI p) x3 x4 (nI (gg_np G)) f_built (nI nu) (nI pr) f_sp f_depth f_at (nA (gg_ru G)) (nA (gg_ln G)) (nA (gg_sy G)) (gg_ro G) (nA (gg_sc G)) (nA md) (nA us) a_first a_follow a_table a_kind a_value a_length a_fault a_defs a_refs a_imports a_defAt a_refAt a_scopeOf a_importAt a_around a_beginsAt a_endsAt a_names a_scopes a_twice a_open a_stale a_link a_kept a_stack a_trial a_opened (d + 1) (nI de) (nI em) (nI (4 * p + m)) := by
  have hl := hG.2.2.1 p
  have e1 : (4 : Int32) * nI p + nI (gg_ln G p) = nI (4 * p + gg_ln G p) := by rw [show (4 : Int32) = nI 4 from rfl, pk_mul, nI_add]
  intro d
  induction d with
  | zero =>
    intro m de em hm h1 h2 h3 h4
    refine ⟨pk_in p 14 hp, ?_⟩
    rw [nA_cl (show p < 2 ^ 31 by omega), e1]
    rw [gg_sl_n (by omega)] at h3 h4
    refine pk_le (4 * p + gg_ln G p) (4 * p + m) (fun _ => ?_) (fun h => absurd h (by omega))
    exact hJ de em h1 h2 ⟨fun h => h3.mp ⟨h, trivial⟩, fun h => (h3.mpr h).1⟩ ⟨fun h => h4.mp ⟨h, trivial⟩, fun h => (h4.mpr h).1⟩
  | succ d ih =>
    intro m de em hm h1 h2 h3 h4
    have h16 := hG.2.2.2.1 (4 * p + m)
    have hml : m < gg_ln G p := by omega
    refine ⟨pk_in p 14 hp, ?_⟩
    rw [nA_cl (show p < 2 ^ 31 by omega), e1]
    refine pk_le (4 * p + gg_ln G p) (4 * p + m) (fun h => absurd h (by omega)) (fun _ => ⟨pk_in (4 * p + m) 56 (by omega), ?_⟩)
    rw [nA_cl (show 4 * p + m < 2 ^ 31 by omega)]
    rw [gg_sl_c hml] at h3 h4
    by_cases ht : gg_sy G (4 * p + m) < 10
    · have hneg : nI (gg_sy G (4 * p + m)) - 10 < 0 := pk_sneg (b := 10) (by omega) ht
      refine nm_e (br_t hneg ?_)
      unfold wX_solveDerived_115 wX_solveDerived_120
      rw [an_1 h1, an_0]
      refine nm_e (br_t hneg (nm_e (nm_r (nI_1 _) (ih (m + 1) de 0 (by omega) h1 (by omega) ⟨fun h => h3.mp ⟨h.1, fun h' => absurd h' (by omega), h.2⟩, fun h => ⟨(h3.mpr h).1, (h3.mpr h).2.2⟩⟩ ⟨fun h => by omega, fun h => ?_⟩))))
      have := (h4.mpr h).2.1.1
      omega
    · have es : nI (gg_sy G (4 * p + m)) - 10 = nI (gg_sy G (4 * p + m) - 10) := pk_sub (b := 10) (by omega)
      rw [es]
      refine nm_e (br_f (nI_pos (by omega)) ?_)
      have tail : ∀ de', de' ≤ 1 → ((de' = 1 ∧ gg_pl (yl_em pr) (gg_sl G p (m + 1))) ↔ gg_pl (yl_em pr) (gg_sl G p 0)) → ∀ z, nI de &&& z = nI de' →
          wX_solveDerived_120 post J (wX_solveDerived_68 post J (nI pe) (nI p) x3 x4 (nI (gg_np G)) f_built (nI nu) (nI pr) f_sp f_depth f_at (nA (gg_ru G)) (nA (gg_ln G)) (nA (gg_sy G)) (gg_ro G) (nA (gg_sc G)) (nA md) (nA us) a_first a_follow a_table a_kind a_value a_length a_fault a_defs a_refs a_imports a_defAt a_refAt a_scopeOf a_importAt a_around a_beginsAt a_endsAt a_names a_scopes a_twice a_open a_stale a_link a_kept a_stack a_trial a_opened (d + 1)) (nI pe) (nI p) x3 x4 (nI em) (nI (4 * p + m)) (nI (gg_sy G (4 * p + m) - 10)) z (nI de) (nI (gg_np G)) f_built (nI nu) (nI pr) f_sp f_depth f_at (nA (gg_ru G)) (nA (gg_ln G)) (nA (gg_sy G)) (gg_ro G) (nA (gg_sc G)) (nA md) (nA us) a_first a_follow a_table a_kind a_value a_length a_fault a_defs a_refs a_imports a_defAt a_refAt a_scopeOf a_importAt a_around a_beginsAt a_endsAt a_names a_scopes a_twice a_open a_stale a_link a_kept a_stack a_trial a_opened := by
        intro de' hd1 hd2 z hz
        unfold wX_solveDerived_120
        rw [hz, an_1 h2, an_0]
        refine nm_e (br_f (nI_pos (by omega)) (nb_b1 nu (gg_sy G (4 * p + m) - 10) (fun hb => ?_) (fun hb => ?_) (by omega) (by omega)))
        · exact nm_e (nm_r (nI_1 _) (ih (m + 1) de' em (by omega) hd1 h2 hd2 ⟨fun h => h4.mp ⟨h.1, ⟨by omega, hb⟩, h.2⟩, fun h => ⟨(h4.mpr h).1, (h4.mpr h).2.2⟩⟩))
        · refine nm_e (nm_r (nI_1 _) (ih (m + 1) de' 0 (by omega) hd1 (by omega) hd2 ⟨fun h => by omega, fun h => ?_⟩))
          have := (h4.mpr h).2.1.2
          unfold yl_em at this
          rw [hb] at this
          cases this
      refine nb_b1 pr (gg_sy G (4 * p + m) - 10) (fun hb => ?_) (fun hb => ?_) (by omega) (by omega)
      · unfold wX_solveDerived_115
        exact tail de h1 ⟨fun h => h3.mp ⟨h.1, fun _ => hb, h.2⟩, fun h => ⟨(h3.mpr h).1, (h3.mpr h).2.2⟩⟩ 1 (an_1 h1)
      · refine tail 0 (by omega) ⟨fun h => by omega, fun h => ?_⟩ 0 (an_0 _)
        have := (h3.mpr h).2.1 (by omega)
        unfold yl_em at this
        rw [hb] at this
        cases this
theorem xd_19 {post : SX → Prop} (hG : gg_ok G) (hm : xx_m G md us)
    (hP : ∀ pr nu, pr < 2 ^ 6 → nu < 2 ^ 6 → (∀ A, A < 6 → (pr.testBit A = true ↔ gg_Pr G A)) → (∀ A, A < 6 → (nu.testBit A = true ↔ gg_Nu G A)) → post (nI (gg_np G), f_built, nI nu, nI pr, f_sp, f_depth, f_at, nA (gg_ru G), nA (gg_ln G), nA (gg_sy G), gg_ro G, nA (gg_sc G), nA md, nA us, a_first, a_follow, a_table, a_kind, a_value, a_length, a_fault, a_defs, a_refs, a_imports, a_defAt, a_refAt, a_scopeOf, a_importAt, a_around, a_beginsAt, a_endsAt, a_names, a_scopes, a_twice, a_open, a_stale, a_link, a_kept, a_stack, a_trial, a_opened)) :
    ∀ d pe pr nu, 15 * (12 - (xd_b pr + xd_b nu)) + xd_c pe < d → xd_I G pe pr nu → wX_solveDerived_19 post (nI (gg_np G)) f_built f_sp f_depth f_at (nA (gg_ru G)) (nA (gg_ln G)) (nA (gg_sy G)) (gg_ro G) (nA (gg_sc G)) (nA md) (nA us) a_first a_follow a_table a_kind a_value a_length a_fault a_defs a_refs a_imports a_defAt a_refAt a_scopeOf a_importAt a_around a_beginsAt a_endsAt a_names a_scopes a_twice a_open a_stale a_link a_kept a_stack a_trial a_opened d (nI pe) (nI nu) (nI pr) := by
  have h14 := hG.1
  intro d
  induction d with
  | zero => intro pe pr nu h; omega
  | succ d ih =>
    intro pe pr nu hd hI
    obtain ⟨⟨i1, i2⟩, ⟨i3, i4⟩, ⟨i5, i6⟩, i7⟩ := hI
    refine pk_eq pe 0 (fun h0 => ?_) (fun h0 => ?_)
    · subst h0
      have hc : ∀ p, p < gg_np G → (gg_pl (yl_em pr) (gg_sl G p 0) → pr.testBit (gg_ru G p) = true) ∧ (gg_nl (yl_em nu) (gg_sl G p 0) → nu.testBit (gg_ru G p) = true) := fun p hp => i7 p hp (by simp)
      refine hP pr nu i3 i5 (fun A hA => ⟨i4 A, fun ⟨k, hk⟩ => ?_⟩) (fun A hA => ⟨i6 A, fun ⟨k, hk⟩ => ?_⟩)
      · have : ∀ k A, A < 6 → gg_sP G k A → pr.testBit A = true := by
          intro k
          induction k with
          | zero => intro A _ h; exact h.elim
          | succ k ihk => intro A _ ⟨p, p1, p2, p3⟩; rw [← p2]; exact (hc p p1).1 (gg_pl_lt _ (fun y hy => gg_sl_lt hG hy) (fun A hA h => ihk A hA h) p3)
        exact this k A hA hk
      · have : ∀ k A, A < 6 → gg_sN G k A → nu.testBit A = true := by
          intro k
          induction k with
          | zero => intro A _ h; exact h.elim
          | succ k ihk => intro A _ ⟨p, p1, p2, p3⟩; rw [← p2]; exact (hc p p1).2 (gg_nl_lt _ (fun y hy => gg_sl_lt hG hy) (fun A hA h => ihk A hA h) p3)
        exact this k A hA hk
    · refine xd_low h0 i1 ?_
      intro p p1 p2
      have hpn := i2 p p2
      have hr := hG.2.1 p
      have hl := hG.2.2.1 p
      have hu := (hm (gg_ru G p) hr).2
      rw [nA_cl (show p < 2 ^ 31 by omega), nb_clr pe (by omega)]
      have e4 : (4 : Int32) * nI p = nI (4 * p + 0) := by rw [show (4 : Int32) = nI 4 from rfl, pk_mul]; rfl
      have eb : nI pr + nI nu * 64 = nI (pr + nu * 64) := by rw [show (64 : Int32) = nI 64 from rfl, pk_mul, nI_add]
      refine ⟨pk_in p 14 p1, nm_e (nm_e (nm_e (nm_r e4 ⟨gg_ln G p + 1, ?_⟩)))⟩
      rw [eb]
      refine xd_68 hG p1 i3 i5 ?_ (gg_ln G p) 0 1 1 (by omega) (by omega) (by omega) ⟨fun h => h.2, fun h => ⟨rfl, h⟩⟩ ⟨fun h => h.2, fun h => ⟨rfl, h⟩⟩
      intro de em hde hem hde2 hem2
      have hcl := xd_c_cl p1 p2
      have hpe1 : nb_cl pe p < 2 ^ 14 := nb_cllt i1
      -- the last join
      have last : ∀ pr' nu', (pr' = pr ∨ (pr' = pr ||| 2 ^ gg_ru G p ∧ gg_pl (yl_em pr) (gg_sl G p 0))) → (nu' = nu ∨ (nu' = nu ||| 2 ^ gg_ru G p ∧ gg_nl (yl_em nu) (gg_sl G p 0))) →
          (gg_pl (yl_em pr) (gg_sl G p 0) → pr'.testBit (gg_ru G p) = true) → (gg_nl (yl_em nu) (gg_sl G p 0) → nu'.testBit (gg_ru G p) = true) → (¬ gg_pl (yl_em pr) (gg_sl G p 0) → pr' = pr) → (¬ gg_nl (yl_em nu) (gg_sl G p 0) → nu' = nu) →
          wX_solveDerived_191 post (wX_solveDerived_19 post (nI (gg_np G)) f_built f_sp f_depth f_at (nA (gg_ru G)) (nA (gg_ln G)) (nA (gg_sy G)) (gg_ro G) (nA (gg_sc G)) (nA md) (nA us) a_first a_follow a_table a_kind a_value a_length a_fault a_defs a_refs a_imports a_defAt a_refAt a_scopeOf a_importAt a_around a_beginsAt a_endsAt a_names a_scopes a_twice a_open a_stale a_link a_kept a_stack a_trial a_opened d) (nI (nb_cl pe p)) (nI (gg_ru G p)) (nI (pr + nu * 64)) (nI (gg_np G)) f_built (nI nu') (nI pr') f_sp f_depth f_at (nA (gg_ru G)) (nA (gg_ln G)) (nA (gg_sy G)) (gg_ro G) (nA (gg_sc G)) (nA md) (nA us) a_first a_follow a_table a_kind a_value a_length a_fault a_defs a_refs a_imports a_defAt a_refAt a_scopeOf a_importAt a_around a_beginsAt a_endsAt a_names a_scopes a_twice a_open a_stale a_link a_kept a_stack a_trial a_opened := by
        intro pr' nu' hpr' hnu' hg1 hg2 hk1 hk2
        have b1 : pr' < 2 ^ 6 := by
          rcases hpr' with h | ⟨h, _⟩
          · rw [h]; exact i3
          · rw [h]; exact nb_orlt i3 (Nat.pow_lt_pow_right (by omega) hr)
        have b2 : nu' < 2 ^ 6 := by
          rcases hnu' with h | ⟨h, _⟩
          · rw [h]; exact i5
          · rw [h]; exact nb_orlt i5 (Nat.pow_lt_pow_right (by omega) hr)
        have s1 : ∀ A, pr'.testBit A = true → gg_Pr G A := by
          intro A hA
          rcases hpr' with h | ⟨h, h'⟩
          · rw [h] at hA; exact i4 A hA
          · rw [h] at hA
            rcases nb_or_t.mp hA with hA | hA
            · exact i4 A hA
            · rw [nb_p_t.mp hA]; exact gg_Pr_i hpn (gg_pl_mono i4 _ h')
        have s2 : ∀ A, nu'.testBit A = true → gg_Nu G A := by
          intro A hA
          rcases hnu' with h | ⟨h, h'⟩
          · rw [h] at hA; exact i6 A hA
          · rw [h] at hA
            rcases nb_or_t.mp hA with hA | hA
            · exact i6 A hA
            · rw [nb_p_t.mp hA]; exact gg_Nu_i hpn (gg_nl_mono i6 _ h')
        have o1 : ∀ A, A ≠ gg_ru G p → pr'.testBit A = true → pr.testBit A = true := by
          intro A hA h
          rcases hpr' with e | ⟨e, _⟩
          · rw [e] at h; exact h
          · rw [e] at h
            rcases nb_or_t.mp h with h | h
            · exact h
            · exact absurd (nb_p_t.mp h) hA
        have o2 : ∀ A, A ≠ gg_ru G p → nu'.testBit A = true → nu.testBit A = true := by
          intro A hA h
          rcases hnu' with e | ⟨e, _⟩
          · rw [e] at h; exact h
          · rw [e] at h
            rcases nb_or_t.mp h with h | h
            · exact h
            · exact absurd (nb_p_t.mp h) hA
        have mo1 : ∀ A, pr.testBit A = true → pr'.testBit A = true := by
          intro A h
          rcases hpr' with e | ⟨e, _⟩
          · rw [e]; exact h
          · rw [e]; exact nb_or_t.mpr (Or.inl h)
        have mo2 : ∀ A, nu.testBit A = true → nu'.testBit A = true := by
          intro A h
          rcases hnu' with e | ⟨e, _⟩
          · rw [e]; exact h
          · rw [e]; exact nb_or_t.mpr (Or.inl h)
        have cp : (gg_pl (yl_em pr') (gg_sl G p 0) → pr'.testBit (gg_ru G p) = true) ∧ (gg_nl (yl_em nu') (gg_sl G p 0) → nu'.testBit (gg_ru G p) = true) := by
          refine ⟨fun h => ?_, fun h => ?_⟩
          · by_cases hx : gg_pl (yl_em pr) (gg_sl G p 0)
            · exact hg1 hx
            · rw [hk1 hx] at h; exact absurd h hx
          · by_cases hx : gg_nl (yl_em nu) (gg_sl G p 0)
            · exact hg2 hx
            · rw [hk2 hx] at h; exact absurd h hx
        have cb1 : xd_b pr ≤ xd_b pr' := kk_mono 6 (fun i _ h => mo1 i h)
        have cb2 : xd_b nu ≤ xd_b nu' := kk_mono 6 (fun i _ h => mo2 i h)
        have c6 := xd_b6 pr'
        have c7 := xd_b6 nu'
        unfold wX_solveDerived_191
        have eb' : nI pr' + nI nu' * 64 = nI (pr' + nu' * 64) := by rw [show (64 : Int32) = nI 64 from rfl, pk_mul, nI_add]
        rw [eb']
        refine pk_eq (pr' + nu' * 64) (pr + nu * 64) (fun he => ?_) (fun he => ⟨pk_in (gg_ru G p) 6 hr, ?_⟩)
        · have e1 : pr' = pr := by omega
          have e2 : nu' = nu := by omega
          subst e1 e2
          refine ih (nb_cl pe p) pr' nu' (by omega) ⟨⟨hpe1, fun q hq => i2 q (nb_cl_i.mp hq).1⟩, ⟨i3, i4⟩, ⟨i5, i6⟩, fun q hq hqb => ?_⟩
          by_cases eq : q = p
          · subst eq; exact cp
          · refine i7 q hq (bf_f (fun h => ?_))
            rw [nb_cl_i.mpr ⟨h, eq⟩] at hqb
            cases hqb
        · rw [nA_cl (show gg_ru G p < 2 ^ 31 by omega), nb_or]
          have hgrow : xd_b pr + xd_b nu < xd_b pr' + xd_b nu' := by
            by_cases e1 : pr' = pr
            · have e2 : nu' ≠ nu := fun e2 => he (by rw [e1, e2])
              rcases hnu' with h | ⟨h, _⟩
              · exact absurd h e2
              · have hnb : ¬ nu.testBit (gg_ru G p) = true := fun hb => e2 (by rw [h, or_id hb])
                have := xd_b_or hr hnb
                rw [← h] at this
                omega
            · rcases hpr' with h | ⟨h, _⟩
              · exact absurd h e1
              · have hnb : ¬ pr.testBit (gg_ru G p) = true := fun hb => e1 (by rw [h, or_id hb])
                have := xd_b_or hr hnb
                rw [← h] at this
                omega
          have c14 := xd_c_14 (nb_cl pe p ||| us (gg_ru G p))
          refine nm_e (ih _ pr' nu' (by omega) ⟨⟨nb_orlt hpe1 hu.1, fun q hq => ?_⟩, ⟨b1, s1⟩, ⟨b2, s2⟩, fun q hq hqb => ?_⟩)
          · rcases nb_or_t.mp hq with hq | hq
            · exact i2 q (nb_cl_i.mp hq).1
            · exact ((hu.2 q).mp hq).1
          · have hnou : ¬ ∃ m, m < gg_ln G q ∧ gg_sy G (4 * q + m) = gg_ru G p + 10 := fun hx => by
              rw [nb_or_t.mpr (Or.inr ((hu.2 q).mpr ⟨hq, hx⟩))] at hqb
              cases hqb
            by_cases eq : q = p
            · subst eq; exact cp
            · have hqo : pe.testBit q = false := bf_f (fun h => by
                rw [nb_or_t.mpr (Or.inl (nb_cl_i.mpr ⟨h, eq⟩))] at hqb
                cases hqb)
              have h7 := i7 q hq hqo
              exact ⟨fun h => mo1 _ (h7.1 (xd_cl (P := gg_pl) (fun A B hh => gg_pl_un _ hh) hnou o1 h)), fun h => mo2 _ (h7.2 (xd_cl (P := gg_nl) (fun A B hh => gg_nl_un _ hh) hnou o2 h))⟩
      have j174 : ∀ pr', (pr' = pr ∨ (pr' = pr ||| 2 ^ gg_ru G p ∧ gg_pl (yl_em pr) (gg_sl G p 0))) → (gg_pl (yl_em pr) (gg_sl G p 0) → pr'.testBit (gg_ru G p) = true) → (¬ gg_pl (yl_em pr) (gg_sl G p 0) → pr' = pr) →
          wX_solveDerived_174 post (wX_solveDerived_19 post (nI (gg_np G)) f_built f_sp f_depth f_at (nA (gg_ru G)) (nA (gg_ln G)) (nA (gg_sy G)) (gg_ro G) (nA (gg_sc G)) (nA md) (nA us) a_first a_follow a_table a_kind a_value a_length a_fault a_defs a_refs a_imports a_defAt a_refAt a_scopeOf a_importAt a_around a_beginsAt a_endsAt a_names a_scopes a_twice a_open a_stale a_link a_kept a_stack a_trial a_opened d) (nI (nb_cl pe p)) (nI (gg_ru G p)) (nI (pr + nu * 64)) (nI em) (nI (gg_np G)) f_built (nI nu) (nI pr') f_sp f_depth f_at (nA (gg_ru G)) (nA (gg_ln G)) (nA (gg_sy G)) (gg_ro G) (nA (gg_sc G)) (nA md) (nA us) a_first a_follow a_table a_kind a_value a_length a_fault a_defs a_refs a_imports a_defAt a_refAt a_scopeOf a_importAt a_around a_beginsAt a_endsAt a_names a_scopes a_twice a_open a_stale a_link a_kept a_stack a_trial a_opened := by
        intro pr' hpr' hg1 hk1
        unfold wX_solveDerived_174
        refine pk_eq em 0 (fun h0 => ?_) (fun h0 => ?_)
        · have hn : ¬ gg_nl (yl_em nu) (gg_sl G p 0) := fun h => by have := hem2.mpr h; omega
          exact last pr' nu hpr' (Or.inl rfl) hg1 (fun h => absurd h hn) hk1 (fun _ => rfl)
        · have hn := hem2.mp (by omega)
          rw [nb_sh (by omega), nb_or]
          exact nm_e (last pr' _ hpr' (Or.inr ⟨rfl, hn⟩) hg1 (fun _ => nb_or_t.mpr (Or.inr (nb_p_t.mpr rfl))) hk1 (fun h => absurd hn h))
      refine pk_eq de 0 (fun h0 => ?_) (fun h0 => ?_)
      · have hn : ¬ gg_pl (yl_em pr) (gg_sl G p 0) := fun h => by have := hde2.mpr h; omega
        exact j174 pr (Or.inl rfl) (fun h => absurd h hn) (fun _ => rfl)
      · have hn := hde2.mp (by omega)
        rw [nb_sh (by omega), nb_or]
        exact nm_e (j174 _ (Or.inr ⟨rfl, hn⟩) (fun _ => nb_or_t.mpr (Or.inr (nb_p_t.mpr rfl))) (fun h => absurd hn h))
theorem xd_derived {post : SX → Prop} (hG : gg_ok G) (hm : xx_m G md us)
    (hP : ∀ pr nu, pr < 2 ^ 6 → nu < 2 ^ 6 → (∀ A, A < 6 → (pr.testBit A = true ↔ gg_Pr G A)) → (∀ A, A < 6 → (nu.testBit A = true ↔ gg_Nu G A)) → post (nI (gg_np G), f_built, nI nu, nI pr, f_sp, f_depth, f_at, nA (gg_ru G), nA (gg_ln G), nA (gg_sy G), gg_ro G, nA (gg_sc G), nA md, nA us, a_first, a_follow, a_table, a_kind, a_value, a_length, a_fault, a_defs, a_refs, a_imports, a_defAt, a_refAt, a_scopeOf, a_importAt, a_around, a_beginsAt, a_endsAt, a_names, a_scopes, a_twice, a_open, a_stale, a_link, a_kept, a_stack, a_trial, a_opened)) : wpX_solveDerived post (nI (gg_np G), f_built, f_nullable, f_productive, f_sp, f_depth, f_at, nA (gg_ru G), nA (gg_ln G), nA (gg_sy G), gg_ro G, nA (gg_sc G), nA md, nA us, a_first, a_follow, a_table, a_kind, a_value, a_length, a_fault, a_defs, a_refs, a_imports, a_defAt, a_refAt, a_scopeOf, a_importAt, a_around, a_beginsAt, a_endsAt, a_names, a_scopes, a_twice, a_open, a_stale, a_link, a_kept, a_stack, a_trial, a_opened) := by
  have hall := xd_all (gg_np G) hG.1
  have h14 := hG.1
  unfold wpX_solveDerived
  dsimp only
  have e : ((1 : Int32) <<< (nI (gg_np G) &&& 31)) - 1 = nI (2 ^ gg_np G - 1) := by
    rw [nb_sh (by omega)]
    exact pk_sub (b := 1) (Nat.two_pow_pos _)
  refine nm_r e ⟨_, xd_19 hG hm hP (15 * (12 - (xd_b 0 + xd_b 0)) + xd_c (2 ^ gg_np G - 1) + 1) (2 ^ gg_np G - 1) 0 0 (by omega) ⟨⟨hall.1, fun p hp => (hall.2 p).mp hp⟩, ⟨by omega, fun A h => absurd h nb_0_t⟩, ⟨by omega, fun A h => absurd h nb_0_t⟩, fun p hp hb => ?_⟩⟩
  rw [(hall.2 p).mpr hp] at hb
  cases hb
end XD
end
section
/-- masks of the nullable rules, exact -/
def xd_nu (G : gg_T) (nu : Nat) : Prop := nu < 2 ^ 6 ∧ ∀ A, A < 6 → (nu.testBit A = true ↔ gg_Nu G A)
theorem xd_nl {G : gg_T} {nu : Nat} (hG : gg_ok G) (h : xd_nu G nu) {p m : Nat} : gg_nl (yl_em nu) (gg_sl G p m) ↔ gg_NL G (gg_sl G p m) :=
  ⟨gg_nl_lt _ (fun y hy => gg_sl_lt hG hy) (fun A hA x => (h.2 A hA).mp x), gg_nl_lt _ (fun y hy => gg_sl_lt hG hy) (fun A hA x => (h.2 A hA).mpr x)⟩
theorem mod_t {r t : Nat} : (r % 1024).testBit t = true ↔ t < 10 ∧ r.testBit t = true := by
  rw [show (1024 : Nat) = 2 ^ 10 from rfl, Nat.testBit_mod_two_pow, Bool.and_eq_true, decide_eq_true_eq]
section XI
variable {G : gg_T} {f_built f_nullable f_productive f_sp f_depth f_at : Int32} {a_first a_follow a_kind a_value a_length a_fault a_defs a_refs a_imports a_defAt a_refAt a_scopeOf a_importAt a_around a_beginsAt a_endsAt a_names a_scopes a_twice a_open a_stale a_link a_kept a_stack a_trial a_opened : Nat → Int32} {a_table : Nat → Int64} {md us : Nat → Nat} {nu : Nat} {fi : Nat → Nat}
theorem xi_9 {post : Int32 → Prop} {p : Nat} (hG : gg_ok G) (hp : p < 14) (hnu : nu < 2 ^ 6) (hfi : ∀ A, A < 6 → a_first A = nI (fi A) ∧ fi A < 2 ^ 10) :
    ∀ d m acc, m + d = gg_ln G p → acc < 2 ^ 10 → (∀ r, r < 2 ^ 12 → (∀ t, t < 11 → (r.testBit t = true ↔ acc.testBit t = true ∨ gg_fl (yl_em nu) (yl_fi fi t) t (gg_sl G p m))) → (r.testBit 11 = true ↔ gg_nl (yl_em nu) (gg_sl G p m)) → post (nI r)) →
      wX_firstOf_9 post (nI p) (nI (gg_np G)) f_built (nI nu) f_productive f_sp f_depth f_at (nA (gg_ru G)) (nA (gg_ln G)) (nA (gg_sy G)) (gg_ro G) (nA (gg_sc G)) (nA md) (nA us) a_first a_follow a_table a_kind a_value a_length a_fault a_defs a_refs a_imports a_defAt a_refAt a_scopeOf a_importAt a_around a_beginsAt a_endsAt a_names a_scopes a_twice a_open a_stale a_link a_kept a_stack a_trial a_opened (d + 1) (nI acc) (nI (4 * p + m)) := by
  have hl := hG.2.2.1 p
  have e1 : (4 : Int32) * nI p + nI (gg_ln G p) = nI (4 * p + gg_ln G p) := by rw [show (4 : Int32) = nI 4 from rfl, pk_mul, nI_add]
  have no11 : ∀ x, x < 2 ^ 10 → ¬ x.testBit 11 = true := fun x hx h => by have := nb_ge hx h; omega
  intro d
  induction d with
  | zero =>
    intro m acc hm ha hP
    refine ⟨pk_in p 14 hp, ?_⟩
    rw [nA_cl (show p < 2 ^ 31 by omega), e1]
    rw [gg_sl_n (by omega)] at hP
    refine pk_le (4 * p + gg_ln G p) (4 * p + m) (fun _ => ?_) (fun h => absurd h (by omega))
    rw [show (2048 : Int32) = nI (2 ^ 11) from rfl, nb_or]
    refine hP _ (nb_orlt (nb_lt_of ha (by omega)) (by omega)) (fun t ht => ?_) ?_
    · rw [nb_or_t, nb_p_t]
      exact ⟨fun h => h.elim Or.inl (fun h => by omega), fun h => h.elim Or.inl (fun h => h.elim)⟩
    · rw [nb_or_t, nb_p_t]
      exact ⟨fun _ => trivial, fun _ => Or.inr rfl⟩
  | succ d ih =>
    intro m acc hm ha hP
    have h16 := hG.2.2.2.1 (4 * p + m)
    have hml : m < gg_ln G p := by omega
    refine ⟨pk_in p 14 hp, ?_⟩
    rw [nA_cl (show p < 2 ^ 31 by omega), e1]
    refine pk_le (4 * p + gg_ln G p) (4 * p + m) (fun h => absurd h (by omega)) (fun _ => ⟨pk_in (4 * p + m) 56 (by omega), ?_⟩)
    rw [nA_cl (show 4 * p + m < 2 ^ 31 by omega)]
    rw [gg_sl_c hml] at hP
    by_cases ht : gg_sy G (4 * p + m) < 10
    · have hneg : nI (gg_sy G (4 * p + m)) - 10 < 0 := pk_sneg (b := 10) (by omega) ht
      have es : nI (gg_sy G (4 * p + m)) - 10 + 10 = nI (gg_sy G (4 * p + m)) := Int32.sub_add_cancel _ _
      refine nm_e (br_f (fun h => absurd hneg (Int32.not_lt.mpr h)) ?_)
      rw [es, nb_sh (by omega), nb_or]
      have hp10 : acc ||| 2 ^ gg_sy G (4 * p + m) < 2 ^ 10 := nb_orlt ha (Nat.pow_lt_pow_right (by omega) ht)
      refine hP _ (nb_lt_of hp10 (by omega)) (fun t ht' => ?_) ⟨fun h => absurd h (no11 _ hp10), fun h => absurd h.1.1 (by omega)⟩
      rw [nb_or_t, nb_p_t]
      constructor
      · intro h
        rcases h with h | h
        · exact Or.inl h
        · exact Or.inr (Or.inl ⟨by omega, by omega⟩)
      · intro h
        rcases h with h | h | h | h
        · exact Or.inl h
        · exact Or.inr (by omega)
        · omega
        · omega
    · have es : nI (gg_sy G (4 * p + m)) - 10 = nI (gg_sy G (4 * p + m) - 10) := pk_sub (b := 10) (by omega)
      have hf := hfi (gg_sy G (4 * p + m) - 10) (by omega)
      rw [es]
      refine nm_e (br_t (nI_pos' (by omega)) ?_)
      rw [nI_clamp (show gg_sy G (4 * p + m) - 10 < 2 ^ 31 by omega), hf.1, nb_or]
      have hr := nb_orlt ha hf.2
      refine ⟨pk_in (gg_sy G (4 * p + m) - 10) 6 (by omega), nm_e (nb_b0 nu (gg_sy G (4 * p + m) - 10) (fun hb => ?_) (fun hb => nm_r (nI_1 _) (ih (m + 1) _ (by omega) hr (fun r h1 h2 h3 => hP r h1 (fun t ht' => ?_) ?_))) (by omega) (by omega))⟩
      · have hnn : ¬ (10 ≤ gg_sy G (4 * p + m) ∧ yl_em nu (gg_sy G (4 * p + m) - 10)) := fun h => by
          have := h.2
          unfold yl_em at this
          rw [hb] at this
          cases this
        refine hP _ (nb_lt_of hr (by omega)) (fun t ht' => ?_) ⟨fun h => absurd h (no11 _ hr), fun h => absurd h.1 hnn⟩
        rw [nb_or_t]
        constructor
        · intro h
          rcases h with h | h
          · exact Or.inl h
          · exact Or.inr (Or.inr (Or.inl ⟨by omega, h⟩))
        · intro h
          rcases h with h | h | h | h
          · exact Or.inl h
          · omega
          · exact Or.inr h.2
          · exact absurd h.1 hnn
      · rw [h2 t ht', nb_or_t]
        constructor
        · intro h
          rcases h with (h | h) | h
          · exact Or.inl h
          · exact Or.inr (Or.inr (Or.inl ⟨by omega, h⟩))
          · exact Or.inr (Or.inr (Or.inr ⟨⟨by omega, hb⟩, h⟩))
        · intro h
          rcases h with h | h | h | h
          · exact Or.inl (Or.inl h)
          · omega
          · exact Or.inl (Or.inr h.2)
          · exact Or.inr h.2
      · rw [h3]
        exact ⟨fun h => ⟨⟨by omega, hb⟩, h⟩, fun h => h.2⟩
theorem xi_first {post : Int32 → Prop} {p : Nat} (hG : gg_ok G) (hp : p < 14) (hnu : nu < 2 ^ 6) (hfi : ∀ A, A < 6 → a_first A = nI (fi A) ∧ fi A < 2 ^ 10)
    (hP : ∀ r, r < 2 ^ 12 → (∀ t, t < 11 → (r.testBit t = true ↔ gg_fl (yl_em nu) (yl_fi fi t) t (gg_sl G p 0))) → (r.testBit 11 = true ↔ gg_nl (yl_em nu) (gg_sl G p 0)) → post (nI r)) : wpX_firstOf post (nI (gg_np G), f_built, nI nu, f_productive, f_sp, f_depth, f_at, nA (gg_ru G), nA (gg_ln G), nA (gg_sy G), gg_ro G, nA (gg_sc G), nA md, nA us, a_first, a_follow, a_table, a_kind, a_value, a_length, a_fault, a_defs, a_refs, a_imports, a_defAt, a_refAt, a_scopeOf, a_importAt, a_around, a_beginsAt, a_endsAt, a_names, a_scopes, a_twice, a_open, a_stale, a_link, a_kept, a_stack, a_trial, a_opened) (nI p) 0 := by
  refine nm_r (e' := nI (4 * p + 0)) (by show nI 4 * nI p + nI 0 = _; rw [pk_mul, nI_add]) ⟨gg_ln G p + 1, xi_9 hG hp hnu hfi (gg_ln G p) 0 0 (by omega) (by omega) (fun r h1 h2 h3 => hP r h1 (fun t ht => ?_) h3)⟩
  rw [h2 t ht]
  exact ⟨fun h => h.elim (fun h => absurd h nb_0_t) (fun h => h), Or.inr⟩
noncomputable def xi_c (fi : Nat → Nat) : Nat := kk_cnt (fun q => (fi (q / 11)).testBit (q % 11) = true) 66
theorem xi_c66 (fi : Nat → Nat) : xi_c fi ≤ 66 := kk_le _ 66
theorem xi_c_lt {fi fi' : Nat → Nat} (h : ∀ A t, A < 6 → (fi A).testBit t = true → (fi' A).testBit t = true) (hx : ∃ A t, A < 6 ∧ t < 11 ∧ (fi' A).testBit t = true ∧ ¬ (fi A).testBit t = true) : xi_c fi < xi_c fi' := by
  apply kk_lt 66
  · intro i hi hb; exact h _ _ (by omega) hb
  · obtain ⟨A, t, h1, h2, h3, h4⟩ := hx
    refine ⟨11 * A + t, by omega, ?_, ?_⟩
    · show (fi' ((11 * A + t) / 11)).testBit ((11 * A + t) % 11) = true
      rw [show (11 * A + t) / 11 = A by omega, show (11 * A + t) % 11 = t by omega]; exact h3
    · show ¬ (fi ((11 * A + t) / 11)).testBit ((11 * A + t) % 11) = true
      rw [show (11 * A + t) / 11 = A by omega, show (11 * A + t) % 11 = t by omega]; exact h4
/-- a mask that grew has a new bit -/
theorem xi_new {x y k : Nat} (hy : y < 2 ^ k) (h : ∀ t, x.testBit t = true → y.testBit t = true) (hne : y ≠ x) : ∃ t, t < k ∧ y.testBit t = true ∧ ¬ x.testBit t = true := by
  apply Classical.byContradiction
  intro hn
  apply hne
  apply nb_ext
  intro i
  refine ⟨fun hi => ?_, h i⟩
  apply Classical.byContradiction
  intro hx
  exact hn ⟨i, nb_ge hy hi, hi, hx⟩
def xi_I (G : gg_T) (nu pe : Nat) (fi : Nat → Nat) (a_first : Nat → Int32) : Prop :=
  xd_pe (gg_np G) pe ∧ (∀ A, A < 6 → a_first A = nI (fi A) ∧ fi A < 2 ^ 10 ∧ ∀ t, (fi A).testBit t = true → gg_Fi G t A) ∧
  (∀ p, p < gg_np G → pe.testBit p = false → ∀ t, gg_fl (yl_em nu) (yl_fi fi t) t (gg_sl G p 0) → (fi (gg_ru G p)).testBit t = true)
/-- FIRST, exact -/
def xi_E (G : gg_T) (fi : Nat → Nat) (a_first : Nat → Int32) : Prop := ∀ A, A < 6 → a_first A = nI (fi A) ∧ fi A < 2 ^ 10 ∧ ∀ t, (fi A).testBit t = true ↔ gg_Fi G t A
theorem xi_30 {post : SX → Prop} (hG : gg_ok G) (hm : xx_m G md us) (hnu : xd_nu G nu) (hP : ∀ fi a_first, xi_E G fi a_first → post (nI (gg_np G), f_built, nI nu, f_productive, f_sp, f_depth, f_at, nA (gg_ru G), nA (gg_ln G), nA (gg_sy G), gg_ro G, nA (gg_sc G), nA md, nA us, a_first, a_follow, a_table, a_kind, a_value, a_length, a_fault, a_defs, a_refs, a_imports, a_defAt, a_refAt, a_scopeOf, a_importAt, a_around, a_beginsAt, a_endsAt, a_names, a_scopes, a_twice, a_open, a_stale, a_link, a_kept, a_stack, a_trial, a_opened)) :
    ∀ d pe fi a_first, 15 * (66 - xi_c fi) + xd_c pe < d → xi_I G nu pe fi a_first → wX_solveFirst_30 post (nI (gg_np G)) f_built (nI nu) f_productive f_sp f_depth f_at d (nI pe) (nA (gg_ru G)) (nA (gg_ln G)) (nA (gg_sy G)) (gg_ro G) (nA (gg_sc G)) (nA md) (nA us) a_first a_follow a_table a_kind a_value a_length a_fault a_defs a_refs a_imports a_defAt a_refAt a_scopeOf a_importAt a_around a_beginsAt a_endsAt a_names a_scopes a_twice a_open a_stale a_link a_kept a_stack a_trial a_opened := by
  have h14 := hG.1
  intro d
  induction d with
  | zero => intro pe fi a_first h; omega
  | succ d ih =>
    intro pe fi a_first hd hI
    obtain ⟨⟨i1, i2⟩, i3, i4⟩ := hI
    refine pk_eq pe 0 (fun h0 => ?_) (fun h0 => ?_)
    · subst h0
      refine hP fi a_first (fun A hA => ⟨(i3 A hA).1, (i3 A hA).2.1, fun t => ⟨(i3 A hA).2.2 t, fun ⟨k, hk⟩ => ?_⟩⟩)
      have : ∀ k A, A < 6 → gg_sF G t k A → (fi A).testBit t = true := by
        intro k
        induction k with
        | zero => intro A _ h; exact h.elim
        | succ k ihk =>
          intro A _ ⟨p, p1, p2, p3⟩
          rw [← p2]
          exact i4 p p1 (by simp) t (gg_fl_lt2 _ (fun y hy => gg_sl_lt hG hy) (fun A hA x => (hnu.2 A hA).mpr x) (fun A hA h => ihk A hA h) p3)
      exact this k A hA hk
    · refine xd_low h0 i1 ?_
      intro p p1 p2
      have hpn := i2 p p2
      have hr := hG.2.1 p
      have hu := (hm (gg_ru G p) hr).2
      have hcl := xd_c_cl p1 p2
      have hpe1 : nb_cl pe p < 2 ^ 14 := nb_cllt i1
      rw [nA_cl (show p < 2 ^ 31 by omega), nb_clr pe (by omega)]
      refine ⟨pk_in p 14 p1, nm_e (nm_e ⟨pk_in (gg_ru G p) 6 hr, ?_⟩)⟩
      refine xi_first hG p1 hnu.1 (fun A hA => ⟨(i3 A hA).1, (i3 A hA).2.1⟩) ?_
      intro r r1 r2 r3
      have e1023 : (nI r &&& 1023 : Int32) = nI (r % 1024) := pk_andN (by omega) 10 (by decide)
      have hf := i3 (gg_ru G p) hr
      rw [nI_clamp (show gg_ru G p < 2 ^ 31 by omega), hf.1, e1023, nb_or]
      have hx10 : fi (gg_ru G p) ||| r % 1024 < 2 ^ 10 := nb_orlt hf.2.1 (by omega)
      have hxm : ∀ t, (fi (gg_ru G p) ||| r % 1024).testBit t = true ↔ (fi (gg_ru G p)).testBit t = true ∨ (t < 10 ∧ gg_fl (yl_em nu) (yl_fi fi t) t (gg_sl G p 0)) := by
        intro t
        rw [nb_or_t, mod_t]
        exact ⟨fun h => h.elim Or.inl (fun h => Or.inr ⟨h.1, (r2 t (by omega)).mp h.2⟩), fun h => h.elim Or.inl (fun h => Or.inr ⟨h.1, (r2 t (by omega)).mpr h.2⟩)⟩
      have hlt10 : ∀ t, gg_fl (yl_em nu) (yl_fi fi t) t (gg_sl G p 0) → t < 10 := by
        intro t h
        exact gg_FL_lt (gg_fl_lt2 _ (fun y hy => gg_sl_lt hG hy) (fun A hA x => (hnu.2 A hA).mp x) (fun A hA x => (i3 A hA).2.2 t x) h)
      refine nm_e ⟨pk_in (gg_ru G p) 6 hr, ?_⟩
      refine pk_eq (fi (gg_ru G p) ||| r % 1024) (fi (gg_ru G p)) (fun he => ?_) (fun he => ⟨pk_in (gg_ru G p) 6 hr, nm_e ⟨pk_in (gg_ru G p) 6 hr, ?_⟩⟩) (hb := by have := hf.2.1; omega)
      · refine ih (nb_cl pe p) fi a_first (by omega) ⟨⟨hpe1, fun q hq => i2 q (nb_cl_i.mp hq).1⟩, i3, fun q hq hqb t ht => ?_⟩
        by_cases eq : q = p
        · subst eq
          rw [← he]
          exact (hxm t).mpr (Or.inr ⟨hlt10 t ht, ht⟩)
        · refine i4 q hq (bf_f (fun h => ?_)) t ht
          rw [nb_cl_i.mpr ⟨h, eq⟩] at hqb
          cases hqb
      · rw [show nA us (gg_ru G p) = nI (us (gg_ru G p)) from rfl, nb_or]
        have hmono : ∀ A t, A < 6 → (fi A).testBit t = true → (un fi (gg_ru G p) (fi (gg_ru G p) ||| r % 1024) A).testBit t = true := by
          intro A t _ h
          by_cases e : A = gg_ru G p
          · subst e; rw [un_s]; exact nb_or_t.mpr (Or.inl h)
          · rw [un_n e]; exact h
        have hgrow : xi_c fi < xi_c (un fi (gg_ru G p) (fi (gg_ru G p) ||| r % 1024)) := by
          obtain ⟨t, t1, t2, t3⟩ := xi_new hx10 (fun t h => nb_or_t.mpr (Or.inl h)) he
          exact xi_c_lt hmono ⟨gg_ru G p, t, hr, by omega, by rw [un_s]; exact t2, t3⟩
        have c66 := xi_c66 (un fi (gg_ru G p) (fi (gg_ru G p) ||| r % 1024))
        have c14 := xd_c_14 (nb_cl pe p ||| us (gg_ru G p))
        refine nm_e (ih _ (un fi (gg_ru G p) (fi (gg_ru G p) ||| r % 1024)) _ (by omega) ⟨⟨nb_orlt hpe1 hu.1, fun q hq => ?_⟩, fun A hA => ?_, fun q hq hqb t ht => ?_⟩)
        · rcases nb_or_t.mp hq with hq | hq
          · exact i2 q (nb_cl_i.mp hq).1
          · exact ((hu.2 q).mp hq).1
        · by_cases e : A = gg_ru G p
          · subst e
            rw [pk_us, un_s]
            refine ⟨rfl, hx10, fun t h => ?_⟩
            rcases (hxm t).mp h with h | ⟨_, h⟩
            · exact hf.2.2 t h
            · exact gg_Fi_i hpn (gg_fl_lt2 _ (fun y hy => gg_sl_lt hG hy) (fun A hA x => (hnu.2 A hA).mp x) (fun A hA x => (i3 A hA).2.2 t x) h)
          · rw [pk_un e, un_n e]; exact i3 A hA
        · have hnou : ¬ ∃ m, m < gg_ln G q ∧ gg_sy G (4 * q + m) = gg_ru G p + 10 := fun hx => by
            rw [nb_or_t.mpr (Or.inr ((hu.2 q).mpr ⟨hq, hx⟩))] at hqb
            cases hqb
          have hold : gg_fl (yl_em nu) (yl_fi fi t) t (gg_sl G q 0) := by
            refine gg_fl_un _ (fun y hy h10 hb => ?_) ht
            have hne : y - 10 ≠ gg_ru G p := fun e => by
              obtain ⟨m, m1, m2⟩ := gg_sl_m hy
              exact hnou ⟨m, m1, by omega⟩
            have hb : (un fi (gg_ru G p) (fi (gg_ru G p) ||| r % 1024) (y - 10)).testBit t = true := hb
            rw [un_n hne] at hb
            exact hb
          by_cases eq : q = p
          · subst eq
            rw [un_s]
            exact (hxm t).mpr (Or.inr ⟨hlt10 t hold, hold⟩)
          · have hqo : pe.testBit q = false := bf_f (fun h => by
              rw [nb_or_t.mpr (Or.inl (nb_cl_i.mpr ⟨h, eq⟩))] at hqb
              cases hqb)
            exact hmono _ t (hG.2.1 q) (i4 q hq hqo t hold)
theorem xi_2 {post : SX → Prop} (hQ : ∀ a_first, (∀ A, A < 6 → a_first A = nI 0) → ∀ x, x = ((1 : Int32) <<< (nI (gg_np G) &&& 31)) - 1 → ∃ n30, wX_solveFirst_30 post (nI (gg_np G)) f_built f_nullable f_productive f_sp f_depth f_at n30 x (nA (gg_ru G)) (nA (gg_ln G)) (nA (gg_sy G)) (gg_ro G) (nA (gg_sc G)) (nA md) (nA us) a_first a_follow a_table a_kind a_value a_length a_fault a_defs a_refs a_imports a_defAt a_refAt a_scopeOf a_importAt a_around a_beginsAt a_endsAt a_names a_scopes a_twice a_open a_stale a_link a_kept a_stack a_trial a_opened) :
    ∀ d k a_first, k + d = 6 → (∀ A, A < k → a_first A = nI 0) → wX_solveFirst_2 post (nI (gg_np G)) f_built f_nullable f_productive f_sp f_depth f_at (d + 1) (nI k) (nA (gg_ru G)) (nA (gg_ln G)) (nA (gg_sy G)) (gg_ro G) (nA (gg_sc G)) (nA md) (nA us) a_first a_follow a_table a_kind a_value a_length a_fault a_defs a_refs a_imports a_defAt a_refAt a_scopeOf a_importAt a_around a_beginsAt a_endsAt a_names a_scopes a_twice a_open a_stale a_link a_kept a_stack a_trial a_opened := by
  intro d
  induction d with
  | zero =>
    intro k a_first hk h
    have e : k = 6 := by omega
    subst e
    exact br_t (by decide) (hQ a_first h)
  | succ d ih =>
    intro k a_first hk h
    refine pk_le 6 k (fun h => absurd h (by omega)) (fun hk6 => ⟨pk_in k 6 hk6, ?_⟩)
    rw [nI_clamp (show k < 2 ^ 31 by omega)]
    refine nm_e (nm_r (nI_1 k) (ih (k + 1) _ (by omega) (fun A hA => ?_)))
    by_cases e : A = k
    · subst e; exact pk_us
    · rw [pk_un e]; exact h A (by omega)
theorem xd_e1 (hG : gg_ok G) : ((1 : Int32) <<< (nI (gg_np G) &&& 31)) - 1 = nI (2 ^ gg_np G - 1) := by
  have := hG.1
  rw [nb_sh (by omega)]
  exact pk_sub (b := 1) (Nat.two_pow_pos _)
theorem xi_solve {post : SX → Prop} (hG : gg_ok G) (hm : xx_m G md us) (hnu : xd_nu G nu) (hP : ∀ fi a_first, xi_E G fi a_first → post (nI (gg_np G), f_built, nI nu, f_productive, f_sp, f_depth, f_at, nA (gg_ru G), nA (gg_ln G), nA (gg_sy G), gg_ro G, nA (gg_sc G), nA md, nA us, a_first, a_follow, a_table, a_kind, a_value, a_length, a_fault, a_defs, a_refs, a_imports, a_defAt, a_refAt, a_scopeOf, a_importAt, a_around, a_beginsAt, a_endsAt, a_names, a_scopes, a_twice, a_open, a_stale, a_link, a_kept, a_stack, a_trial, a_opened)) : wpX_solveFirst post (nI (gg_np G), f_built, nI nu, f_productive, f_sp, f_depth, f_at, nA (gg_ru G), nA (gg_ln G), nA (gg_sy G), gg_ro G, nA (gg_sc G), nA md, nA us, a_first, a_follow, a_table, a_kind, a_value, a_length, a_fault, a_defs, a_refs, a_imports, a_defAt, a_refAt, a_scopeOf, a_importAt, a_around, a_beginsAt, a_endsAt, a_names, a_scopes, a_twice, a_open, a_stale, a_link, a_kept, a_stack, a_trial, a_opened) := by
  have hall := xd_all (gg_np G) hG.1
  refine ⟨7, xi_2 ?_ 6 0 a_first (by omega) (fun A hA => by omega)⟩
  intro a_first hz
  refine nm_r (xd_e1 hG) ⟨_, xi_30 hG hm hnu hP (15 * (66 - xi_c (fun _ => 0)) + xd_c (2 ^ gg_np G - 1) + 1) (2 ^ gg_np G - 1) (fun _ => 0) a_first (by omega) ⟨⟨hall.1, fun p hp => (hall.2 p).mp hp⟩, fun A hA => ⟨hz A hA, (by decide : (0 : Nat) < 2 ^ 10), fun t h => absurd h nb_0_t⟩, fun p hp hb => ?_⟩⟩
  rw [(hall.2 p).mpr hp] at hb
  cases hb
end XI
end
section
section XW
variable {G : gg_T} {f_built f_nullable f_productive f_sp f_depth f_at : Int32} {a_first a_follow a_kind a_value a_length a_fault a_defs a_refs a_imports a_defAt a_refAt a_scopeOf a_importAt a_around a_beginsAt a_endsAt a_names a_scopes a_twice a_open a_stale a_link a_kept a_stack a_trial a_opened : Nat → Int32} {a_table : Nat → Int64} {md us : Nat → Nat} {nu : Nat} {fi : Nat → Nat}
/-- what follows symbol m of q is in FOLLOW of it, as far as fo of q's rule is fr -/
def xw_c (G : gg_T) (q m fr : Nat) (fo : Nat → Nat) : Prop := ∀ A t, gg_sy G (4 * q + m) = A + 10 → (gg_FL G t (gg_sl G q (m + 1)) ∨ (gg_NL G (gg_sl G q (m + 1)) ∧ fr.testBit t = true)) → (fo A).testBit t = true
def xw_S (G : gg_T) (fo : Nat → Nat) (a_follow : Nat → Int32) : Prop := (∀ A, A < 6 → a_follow A = nI (fo A) ∧ fo A < 2 ^ 11 ∧ ∀ t, (fo A).testBit t = true → gg_Fo G t A) ∧ (fo 0).testBit 10 = true
def xw_I (G : gg_T) (pe : Nat) (fo : Nat → Nat) (a_follow : Nat → Int32) : Prop :=
  xd_pe (gg_np G) pe ∧ xw_S G fo a_follow ∧ (∀ q, q < gg_np G → pe.testBit q = false → ∀ m, m < gg_ln G q → xw_c G q m (fo (gg_ru G q)) fo)
def xw_E (G : gg_T) (fo : Nat → Nat) (a_follow : Nat → Int32) : Prop := ∀ A, A < 6 → a_follow A = nI (fo A) ∧ fo A < 2 ^ 11 ∧ ∀ t, (fo A).testBit t = true ↔ gg_Fo G t A
def xw_J (G : gg_T) (p m fr pe0 : Nat) (fo0 : Nat → Nat) (pe : Nat) (fo : Nat → Nat) (a_follow : Nat → Int32) : Prop :=
  xd_pe (gg_np G) pe ∧ xw_S G fo a_follow ∧ (∀ q, q < gg_np G → pe.testBit q = false → q ≠ p → ∀ m, m < gg_ln G q → xw_c G q m (fo (gg_ru G q)) fo) ∧
  (∀ m', m ≤ m' → m' < gg_ln G p → xw_c G p m' fr fo) ∧ (pe.testBit p = true ∨ fo (gg_ru G p) = fr) ∧ ((fo = fo0 ∧ pe = pe0) ∨ xi_c fo0 < xi_c fo)
def xw_b (G : gg_T) (p m fr be : Nat) : Prop := be < 2 ^ 11 ∧ ∀ t, be.testBit t = true ↔ gg_FL G t (gg_sl G p m) ∨ (gg_NL G (gg_sl G p m) ∧ fr.testBit t = true)
theorem xw_158 {post : SX → Prop} {J39 : Int32 → (Nat → Int32) → (Nat → Int32) → (Nat → Int32) → (Nat → Int32) → (Nat → Int32) → (Nat → Int32) → (Nat → Int32) → (Nat → Int32) → (Nat → Int32) → (Nat → Int64) → (Nat → Int32) → (Nat → Int32) → (Nat → Int32) → (Nat → Int32) → (Nat → Int32) → (Nat → Int32) → (Nat → Int32) → (Nat → Int32) → (Nat → Int32) → (Nat → Int32) → (Nat → Int32) → (Nat → Int32) → (Nat → Int32) → (Nat → Int32) → (Nat → Int32) → (Nat → Int32) → (Nat → Int32) → (Nat → Int32) → (Nat → Int32) → (Nat → Int32) → (Nat → Int32) → (Nat → Int32) → (Nat → Int32) → (Nat → Int32) →  Prop} {J82 : Int32 → Int32 → Int32 → (Nat → Int32) → (Nat → Int32) → (Nat → Int32) → (Nat → Int32) → (Nat → Int32) → (Nat → Int32) → (Nat → Int32) → (Nat → Int32) → (Nat → Int32) → (Nat → Int64) → (Nat → Int32) → (Nat → Int32) → (Nat → Int32) → (Nat → Int32) → (Nat → Int32) → (Nat → Int32) → (Nat → Int32) → (Nat → Int32) → (Nat → Int32) → (Nat → Int32) → (Nat → Int32) → (Nat → Int32) → (Nat → Int32) → (Nat → Int32) → (Nat → Int32) → (Nat → Int32) → (Nat → Int32) → (Nat → Int32) → (Nat → Int32) → (Nat → Int32) → (Nat → Int32) → (Nat → Int32) → (Nat → Int32) → (Nat → Int32) →  Prop} {p m fr be B : Nat} {x1 : Int32} (hG : gg_ok G) (hB : B < 6) (hm : m < gg_ln G p) (hs : gg_sy G (4 * p + m) = B + 10) (hnu : xd_nu G nu) (hfi : xi_E G fi a_first)
    (hbe : xw_b G p (m + 1) fr be) (hJ : ∀ be', xw_b G p m fr be' → J82 x1 (nI be') (nI (4 * p + m) + (-1)) (nA (gg_ru G)) (nA (gg_ln G)) (nA (gg_sy G)) (gg_ro G) (nA (gg_sc G)) (nA md) (nA us) a_first a_follow a_table a_kind a_value a_length a_fault a_defs a_refs a_imports a_defAt a_refAt a_scopeOf a_importAt a_around a_beginsAt a_endsAt a_names a_scopes a_twice a_open a_stale a_link a_kept a_stack a_trial a_opened) :
    wX_solveFollow_158 post J39 J82 x1 (nI p) (nI be) (nI (4 * p + m)) (nI B) (nI (gg_np G)) f_built (nI nu) f_productive f_sp f_depth f_at (nA (gg_ru G)) (nA (gg_ln G)) (nA (gg_sy G)) (gg_ro G) (nA (gg_sc G)) (nA md) (nA us) a_first a_follow a_table a_kind a_value a_length a_fault a_defs a_refs a_imports a_defAt a_refAt a_scopeOf a_importAt a_around a_beginsAt a_endsAt a_names a_scopes a_twice a_open a_stale a_link a_kept a_stack a_trial a_opened := by
  have hf := hfi B hB
  have hf11 : fi B < 2 ^ 11 := nb_lt_of hf.2.1 (by omega)
  have hn16 := hnu.1
  unfold wX_solveFollow_158
  rw [nI_clamp (show B < 2 ^ 31 by omega), hf.1, nb_or]
  have hcons : gg_sl G p m = (B + 10) :: gg_sl G p (m + 1) := by rw [gg_sl_c hm, hs]
  have e10 : B + 10 - 10 = B := by omega
  refine nb_b1 nu B (fun hb => ⟨pk_in B 6 hB, nm_e (nm_e (hJ _ ⟨nb_orlt hbe.1 hf11, fun t => ?_⟩))⟩) (fun hb => ⟨pk_in B 6 hB, nm_e (nm_e (hJ _ ⟨hf11, fun t => ?_⟩))⟩) (by omega) (by omega)
  · have hN : gg_Nu G B := (hnu.2 B hB).mp hb
    rw [nb_or_t, hbe.2 t, hf.2.2 t, hcons]
    constructor
    · intro h
      rcases h with (h | ⟨h, h'⟩) | h
      · exact Or.inl (Or.inr (Or.inr ⟨⟨by omega, by rw [e10]; exact hN⟩, h⟩))
      · exact Or.inr ⟨⟨⟨by omega, by rw [e10]; exact hN⟩, h⟩, h'⟩
      · exact Or.inl (Or.inr (Or.inl ⟨by omega, by rw [e10]; exact h⟩))
    · intro h
      rcases h with (h | h | h) | ⟨h, h'⟩
      · omega
      · rw [e10] at h; exact Or.inr h.2
      · exact Or.inl (Or.inl h.2)
      · exact Or.inl (Or.inr ⟨h.2, h'⟩)
  · have hN : ¬ gg_Nu G B := fun h => by rw [(hnu.2 B hB).mpr h] at hb; cases hb
    rw [hf.2.2 t, hcons]
    constructor
    · intro h; exact Or.inl (Or.inr (Or.inl ⟨by omega, by rw [e10]; exact h⟩))
    · intro h
      rcases h with (h | h | h) | ⟨h, h'⟩
      · omega
      · rw [e10] at h; exact h.2
      · have := h.1.2; rw [e10] at this; exact absurd this hN
      · have := h.1.2; rw [e10] at this; exact absurd this hN
theorem xw_82 {post : SX → Prop} {J39 : Int32 → (Nat → Int32) → (Nat → Int32) → (Nat → Int32) → (Nat → Int32) → (Nat → Int32) → (Nat → Int32) → (Nat → Int32) → (Nat → Int32) → (Nat → Int32) → (Nat → Int64) → (Nat → Int32) → (Nat → Int32) → (Nat → Int32) → (Nat → Int32) → (Nat → Int32) → (Nat → Int32) → (Nat → Int32) → (Nat → Int32) → (Nat → Int32) → (Nat → Int32) → (Nat → Int32) → (Nat → Int32) → (Nat → Int32) → (Nat → Int32) → (Nat → Int32) → (Nat → Int32) → (Nat → Int32) → (Nat → Int32) → (Nat → Int32) → (Nat → Int32) → (Nat → Int32) → (Nat → Int32) → (Nat → Int32) → (Nat → Int32) →  Prop} {p fr pe0 : Nat} {fo0 : Nat → Nat} (hG : gg_ok G) (hp : p < gg_np G) (hm : xx_m G md us) (hnu : xd_nu G nu) (hfi : xi_E G fi a_first) (hfr : ∀ t, fr.testBit t = true → gg_Fo G t (gg_ru G p))
    (hJ : ∀ pe fo a_follow, xw_J G p 0 fr pe0 fo0 pe fo a_follow → J39 (nI pe) (nA (gg_ru G)) (nA (gg_ln G)) (nA (gg_sy G)) (gg_ro G) (nA (gg_sc G)) (nA md) (nA us) a_first a_follow a_table a_kind a_value a_length a_fault a_defs a_refs a_imports a_defAt a_refAt a_scopeOf a_importAt a_around a_beginsAt a_endsAt a_names a_scopes a_twice a_open a_stale a_link a_kept a_stack a_trial a_opened) :
    ∀ m be pe fo a_follow, m ≤ gg_ln G p → xw_b G p m fr be → xw_J G p m fr pe0 fo0 pe fo a_follow →
      wX_solveFollow_82 post J39 (nI p) (nI (gg_np G)) f_built (nI nu) f_productive f_sp f_depth f_at (m + 1) (nI pe) (nI be) (nI (4 * p + m) + (-1)) (nA (gg_ru G)) (nA (gg_ln G)) (nA (gg_sy G)) (gg_ro G) (nA (gg_sc G)) (nA md) (nA us) a_first a_follow a_table a_kind a_value a_length a_fault a_defs a_refs a_imports a_defAt a_refAt a_scopeOf a_importAt a_around a_beginsAt a_endsAt a_names a_scopes a_twice a_open a_stale a_link a_kept a_stack a_trial a_opened := by
  have h14 := hG.1
  have hl := hG.2.2.1 p
  have e4 : (4 : Int32) * nI p = nI (4 * p) := by rw [show (4 : Int32) = nI 4 from rfl, pk_mul]
  intro m
  induction m with
  | zero =>
    intro be pe fo a_follow hml hbe hI
    exact br_t (by rw [e4, Nat.add_zero]; exact nI_m1lt (by omega)) (hJ pe fo a_follow hI)
  | succ m ih =>
    intro be pe fo a_follow hml hbe hI
    have h16 := hG.2.2.2.1 (4 * p + m)
    rw [← Nat.add_assoc, pk_m1]
    refine br_f (by rw [e4]; exact nI_nlt (by omega) (by omega)) ⟨pk_in (4 * p + m) 56 (by omega), ?_⟩
    rw [nA_cl (show 4 * p + m < 2 ^ 31 by omega)]
    by_cases ht : gg_sy G (4 * p + m) < 10
    · have hneg : nI (gg_sy G (4 * p + m)) - 10 < 0 := pk_sneg (b := 10) (by omega) ht
      have es : nI (gg_sy G (4 * p + m)) - 10 + 10 = nI (gg_sy G (4 * p + m)) := Int32.sub_add_cancel _ _
      refine nm_e (br_f (fun h => absurd hneg (Int32.not_lt.mpr h)) ?_)
      rw [es, nb_sh (by omega)]
      refine nm_e (nm_e (ih _ pe fo a_follow (by omega) ⟨Nat.pow_lt_pow_right (by omega) (by omega), fun t => ?_⟩ ?_))
      · rw [nb_p_t, gg_sl_c (by omega)]
        constructor
        · intro h; exact Or.inl (Or.inl ⟨by omega, by omega⟩)
        · intro h
          rcases h with (h | h | h) | ⟨h, _⟩
          · omega
          · omega
          · omega
          · have := h.1.1; omega
      · obtain ⟨j1, j2, j3, j4, j5, j6⟩ := hI
        refine ⟨j1, j2, j3, fun m' h1 h2 => ?_, j5, j6⟩
        by_cases e : m' = m
        · subst e; intro A t hA; omega
        · exact j4 m' (by omega) h2
    · obtain ⟨B, hB⟩ : ∃ B, gg_sy G (4 * p + m) = B + 10 := ⟨gg_sy G (4 * p + m) - 10, by omega⟩
      have hB6 : B < 6 := by omega
      have es : nI (gg_sy G (4 * p + m)) - 10 = nI B := by rw [hB]; exact (pk_sub (a := B + 10) (b := 10) (by omega)).trans (by rw [Nat.add_sub_cancel])
      rw [es]
      refine nm_e (br_t (nI_pos' (by omega)) ?_)
      have hI' := hI
      obtain ⟨⟨j1, j1'⟩, ⟨j2, j2'⟩, j3, j4, j5, j6⟩ := hI
      have hf := j2 B hB6
      rw [nI_clamp (show B < 2 ^ 31 by omega), hf.1, nb_or]
      have hx11 : fo B ||| be < 2 ^ 11 := nb_orlt hf.2.1 hbe.1
      refine ⟨pk_in B 6 hB6, pk_in B 6 hB6, pk_eq (fo B ||| be) (fo B) (fun he => ?_) (fun he => ⟨pk_in B 6 hB6, pk_in B 6 hB6, nm_e ⟨pk_in B 6 hB6, ?_⟩⟩) (hb := by have := hf.2.1; omega)⟩
      · refine xw_158 (fi := fi) hG hB6 (by omega) hB hnu hfi hbe (fun be' hbe' => ih be' pe fo a_follow (by omega) hbe' ⟨⟨j1, j1'⟩, ⟨j2, j2'⟩, j3, fun m' h1 h2 => ?_, j5, j6⟩)
        by_cases e : m' = m
        · subst e
          intro A t hA h
          have eA : A = B := by omega
          subst eA
          rw [← he]
          exact nb_or_t.mpr (Or.inr ((hbe.2 t).mpr h))
        · exact j4 m' (by omega) h2
      · have hmd := (hm B hB6).1
        rw [show nA md B = nI (md B) from rfl, nb_or]
        have hmono : ∀ A t, A < 6 → (fo A).testBit t = true → (un fo B (fo B ||| be) A).testBit t = true := by
          intro A t _ h
          by_cases e : A = B
          · subst e; rw [un_s]; exact nb_or_t.mpr (Or.inl h)
          · rw [un_n e]; exact h
        have hgrow : xi_c fo < xi_c (un fo B (fo B ||| be)) := by
          obtain ⟨t, t1, t2, t3⟩ := xi_new hx11 (fun t h => nb_or_t.mpr (Or.inl h)) he
          exact xi_c_lt hmono ⟨B, t, hB6, t1, by rw [un_s]; exact t2, t3⟩
        have hmc : ∀ q m' fr', m' < gg_ln G q → xw_c G q m' fr' fo → xw_c G q m' fr' (un fo B (fo B ||| be)) := by
          intro q m' fr' _ h A t hA hx
          have hA6 : A < 6 := by have := hG.2.2.2.1 (4 * q + m'); omega
          exact hmono A t hA6 (h A t hA hx)
        refine nm_e (xw_158 (fi := fi) hG hB6 (by omega) hB hnu hfi hbe (fun be' hbe' => ih be' _ (un fo B (fo B ||| be)) _ (by omega) hbe' ⟨⟨nb_orlt j1 hmd.1, fun q hq => ?_⟩, ⟨fun A hA => ?_, ?_⟩, fun q hq hqb hqp m' hm' => ?_, fun m' h1 h2 => ?_, ?_, Or.inr ?_⟩))
        · rcases nb_or_t.mp hq with hq | hq
          · exact j1' q hq
          · exact ((hmd.2 q).mp hq).1
        · by_cases e : A = B
          · subst e
            rw [pk_us, un_s]
            refine ⟨rfl, hx11, fun t h => ?_⟩
            rcases nb_or_t.mp h with h | h
            · exact hf.2.2 t h
            · rcases (hbe.2 t).mp h with h | ⟨h, h'⟩
              · exact gg_Fo_f hp (by omega) hB h
              · exact gg_Fo_n hp (by omega) hB h (hfr t h')
          · rw [pk_un e, un_n e]; exact j2 A hA
        · exact hmono 0 10 (by omega) j2'
        · have hqo : pe.testBit q = false := bf_f (fun h => by
            rw [nb_or_t.mpr (Or.inl h)] at hqb
            cases hqb)
          have hrq : gg_ru G q ≠ B := fun e => by
            rw [nb_or_t.mpr (Or.inr ((hmd.2 q).mpr ⟨hq, e⟩))] at hqb
            cases hqb
          rw [un_n hrq]
          exact hmc q m' _ hm' (j3 q hq hqo hqp m' hm')
        · by_cases e : m' = m
          · subst e
            intro A t hA h
            have eA : A = B := by omega
            subst eA
            rw [un_s]
            exact nb_or_t.mpr (Or.inr ((hbe.2 t).mpr h))
          · exact hmc p m' fr h2 (j4 m' (by omega) h2)
        · by_cases e : gg_ru G p = B
          · exact Or.inl (nb_or_t.mpr (Or.inr ((hmd.2 p).mpr ⟨hp, e⟩)))
          · rw [un_n e]
            rcases j5 with j5 | j5
            · exact Or.inl (nb_or_t.mpr (Or.inl j5))
            · exact Or.inr j5
        · rcases j6 with ⟨j6, _⟩ | j6
          · rw [← j6]; exact hgrow
          · omega
theorem xw_39 {post : SX → Prop} (hG : gg_ok G) (hm : xx_m G md us) (hnu : xd_nu G nu) (hfi : xi_E G fi a_first) (hP : ∀ fo a_follow, xw_E G fo a_follow → post (nI (gg_np G), f_built, nI nu, f_productive, f_sp, f_depth, f_at, nA (gg_ru G), nA (gg_ln G), nA (gg_sy G), gg_ro G, nA (gg_sc G), nA md, nA us, a_first, a_follow, a_table, a_kind, a_value, a_length, a_fault, a_defs, a_refs, a_imports, a_defAt, a_refAt, a_scopeOf, a_importAt, a_around, a_beginsAt, a_endsAt, a_names, a_scopes, a_twice, a_open, a_stale, a_link, a_kept, a_stack, a_trial, a_opened)) :
    ∀ d pe fo a_follow, 15 * (66 - xi_c fo) + xd_c pe < d → xw_I G pe fo a_follow → wX_solveFollow_39 post (nI (gg_np G)) f_built (nI nu) f_productive f_sp f_depth f_at d (nI pe) (nA (gg_ru G)) (nA (gg_ln G)) (nA (gg_sy G)) (gg_ro G) (nA (gg_sc G)) (nA md) (nA us) a_first a_follow a_table a_kind a_value a_length a_fault a_defs a_refs a_imports a_defAt a_refAt a_scopeOf a_importAt a_around a_beginsAt a_endsAt a_names a_scopes a_twice a_open a_stale a_link a_kept a_stack a_trial a_opened := by
  have h14 := hG.1
  intro d
  induction d with
  | zero => intro pe fo a_follow h; omega
  | succ d ih =>
    intro pe fo a_follow hd hI
    obtain ⟨⟨i1, i2⟩, ⟨i3, i3'⟩, i4⟩ := hI
    refine pk_eq pe 0 (fun h0 => ?_) (fun h0 => ?_)
    · subst h0
      refine hP fo a_follow (fun A hA => ⟨(i3 A hA).1, (i3 A hA).2.1, fun t => ⟨(i3 A hA).2.2 t, fun ⟨k, hk⟩ => ?_⟩⟩)
      have : ∀ k A, A < 6 → gg_sW G t k A → (fo A).testBit t = true := by
        intro k
        induction k with
        | zero => intro A _ h; exact h.elim
        | succ k ihk =>
          intro A _ h
          rcases h with ⟨e1, e2⟩ | ⟨p, m, p1, p2, p3, p4⟩
          · rw [e1, e2]; exact i3'
          · refine i4 p p1 (by simp) m p2 A t p3 ?_
            rcases p4 with p4 | ⟨p4, p5⟩
            · exact Or.inl p4
            · exact Or.inr ⟨p4, ihk _ (hG.2.1 p) p5⟩
      exact this k A hA hk
    · refine xd_low h0 i1 ?_
      intro p p1 p2
      have hpn := i2 p p2
      have hr := hG.2.1 p
      have hl := hG.2.2.1 p
      have hcl := xd_c_cl p1 p2
      have hpe1 : nb_cl pe p < 2 ^ 14 := nb_cllt i1
      have hf := i3 (gg_ru G p) hr
      have e4 : (4 : Int32) * nI p + nI (gg_ln G p) - 1 = nI (4 * p + gg_ln G p) + (-1) := by rw [sub1, show (4 : Int32) = nI 4 from rfl, pk_mul, nI_add]
      rw [nA_cl (show p < 2 ^ 31 by omega), nI_clamp (show gg_ru G p < 2 ^ 31 by omega), hf.1, nb_clr pe (by omega), nA_cl (show p < 2 ^ 31 by omega), e4]
      refine ⟨pk_in p 14 p1, pk_in (gg_ru G p) 6 hr, nm_e (nm_e ⟨pk_in p 14 p1, nm_e ⟨gg_ln G p + 1, ?_⟩⟩)⟩
      refine xw_82 (fi := fi) (fr := fo (gg_ru G p)) (pe0 := nb_cl pe p) (fo0 := fo) hG hpn hm hnu hfi hf.2.2 ?_ (gg_ln G p) (fo (gg_ru G p)) (nb_cl pe p) fo a_follow (Nat.le_refl _) ⟨hf.2.1, fun t => ?_⟩ ⟨⟨hpe1, fun q hq => i2 q (nb_cl_i.mp hq).1⟩, ⟨i3, i3'⟩, fun q hq hqb hqp m' hm' => ?_, fun m' h1 h2 => by omega, Or.inr rfl, Or.inl ⟨rfl, rfl⟩⟩
      · intro pe' fo' a_follow' ⟨j1, j2, j3, j4, j5, j6⟩
        have c66 := xi_c66 fo'
        have c14 := xd_c_14 pe'
        refine ih pe' fo' a_follow' ?_ ⟨j1, j2, fun q hq hqb m' hm' => ?_⟩
        · rcases j6 with ⟨e1, e2⟩ | j6
          · rw [e1, e2]; omega
          · omega
        · by_cases eq : q = p
          · subst eq
            rcases j5 with j5 | j5
            · rw [j5] at hqb; cases hqb
            · rw [j5]; exact j4 m' (by omega) hm'
          · exact j3 q hq hqb eq m' hm'
      · rw [gg_sl_n (Nat.le_refl _)]
        exact ⟨fun h => Or.inr ⟨trivial, h⟩, fun h => h.elim (fun h => h.elim) (fun h => h.2)⟩
      · refine i4 q hq (bf_f (fun h => ?_)) m' hm'
        rw [nb_cl_i.mpr ⟨h, hqp⟩] at hqb
        cases hqb
theorem xw_2 {post : SX → Prop} (hQ : ∀ a_follow, (∀ A, A < 6 → a_follow A = nI 0) → ∀ a_follow_3 : Nat → Int32, a_follow_3 = upd a_follow 0 1024 → ∀ x : Int32, x = ((1 : Int32) <<< (nI (gg_np G) &&& 31)) - 1 → ∃ n39, wX_solveFollow_39 post (nI (gg_np G)) f_built f_nullable f_productive f_sp f_depth f_at n39 x (nA (gg_ru G)) (nA (gg_ln G)) (nA (gg_sy G)) (gg_ro G) (nA (gg_sc G)) (nA md) (nA us) a_first a_follow_3 a_table a_kind a_value a_length a_fault a_defs a_refs a_imports a_defAt a_refAt a_scopeOf a_importAt a_around a_beginsAt a_endsAt a_names a_scopes a_twice a_open a_stale a_link a_kept a_stack a_trial a_opened) :
    ∀ d k a_follow, k + d = 6 → (∀ A, A < k → a_follow A = nI 0) → wX_solveFollow_2 post (nI (gg_np G)) f_built f_nullable f_productive f_sp f_depth f_at (d + 1) (nI k) (nA (gg_ru G)) (nA (gg_ln G)) (nA (gg_sy G)) (gg_ro G) (nA (gg_sc G)) (nA md) (nA us) a_first a_follow a_table a_kind a_value a_length a_fault a_defs a_refs a_imports a_defAt a_refAt a_scopeOf a_importAt a_around a_beginsAt a_endsAt a_names a_scopes a_twice a_open a_stale a_link a_kept a_stack a_trial a_opened := by
  intro d
  induction d with
  | zero =>
    intro k a_follow hk h
    have e : k = 6 := by omega
    subst e
    exact br_t (by decide) (hQ a_follow h)
  | succ d ih =>
    intro k a_follow hk h
    refine pk_le 6 k (fun h => absurd h (by omega)) (fun hk6 => ⟨pk_in k 6 hk6, ?_⟩)
    rw [nI_clamp (show k < 2 ^ 31 by omega)]
    refine nm_e (nm_r (nI_1 k) (ih (k + 1) _ (by omega) (fun A hA => ?_)))
    by_cases e : A = k
    · subst e; exact pk_us
    · rw [pk_un e]; exact h A (by omega)
theorem xw_solve {post : SX → Prop} (hG : gg_ok G) (hm : xx_m G md us) (hnu : xd_nu G nu) (hfi : xi_E G fi a_first) (hP : ∀ fo a_follow, xw_E G fo a_follow → post (nI (gg_np G), f_built, nI nu, f_productive, f_sp, f_depth, f_at, nA (gg_ru G), nA (gg_ln G), nA (gg_sy G), gg_ro G, nA (gg_sc G), nA md, nA us, a_first, a_follow, a_table, a_kind, a_value, a_length, a_fault, a_defs, a_refs, a_imports, a_defAt, a_refAt, a_scopeOf, a_importAt, a_around, a_beginsAt, a_endsAt, a_names, a_scopes, a_twice, a_open, a_stale, a_link, a_kept, a_stack, a_trial, a_opened)) : wpX_solveFollow post (nI (gg_np G), f_built, nI nu, f_productive, f_sp, f_depth, f_at, nA (gg_ru G), nA (gg_ln G), nA (gg_sy G), gg_ro G, nA (gg_sc G), nA md, nA us, a_first, a_follow, a_table, a_kind, a_value, a_length, a_fault, a_defs, a_refs, a_imports, a_defAt, a_refAt, a_scopeOf, a_importAt, a_around, a_beginsAt, a_endsAt, a_names, a_scopes, a_twice, a_open, a_stale, a_link, a_kept, a_stack, a_trial, a_opened) := by
  have hall := xd_all (gg_np G) hG.1
  refine ⟨7, xw_2 ?_ 6 0 a_follow (by omega) (fun A hA => by omega)⟩
  intro a_follow hz
  refine nm_e (nm_r (xd_e1 hG) ⟨_, xw_39 (fi := fi) hG hm hnu hfi hP (15 * (66 - xi_c (fun A => if A = 0 then 1024 else 0)) + xd_c (2 ^ gg_np G - 1) + 1) (2 ^ gg_np G - 1) (fun A => if A = 0 then 1024 else 0) _ (by omega) ⟨⟨hall.1, fun p hp => (hall.2 p).mp hp⟩, ⟨fun A hA => ?_, by decide⟩, fun p hp hb => ?_⟩⟩)
  · by_cases e : A = 0
    · subst e
      refine ⟨rfl, by decide, fun t h => ?_⟩
      have h : (2 ^ 10).testBit t = true := h
      rw [nb_p_t.mp h]
      exact gg_Fo_0
    · show upd a_follow 0 1024 A = nI (if A = 0 then 1024 else 0) ∧ (if A = 0 then 1024 else 0) < 2 ^ 11 ∧ ∀ t, (if A = 0 then 1024 else 0).testBit t = true → gg_Fo G t A
      rw [if_neg e, pk_un e]
      exact ⟨hz A hA, by omega, fun t h => absurd h nb_0_t⟩
  · rw [(hall.2 p).mpr hp] at hb
    cases hb
end XW
end
section
/-! the class's table, and build -/
def xt_T (G : gg_T) (p t : Nat) (A t' c : Nat) : Prop :=
  (c = 0 ∧ ∀ q, (q < p ∨ (q = p ∧ t' < t)) → ¬ gg_Ch G t' A q) ∨ (∃ q, (q < p ∨ (q = p ∧ t' < t)) ∧ c = q + 1 ∧ gg_Ch G t' A q)
def xt_I (G : gg_T) (p t : Nat) (a_table : Nat → Int64) : Prop := ∀ A, A < 6 → ∃ w, a_table A = lN w ∧ w < 2 ^ 44 ∧ ∀ t', t' ≤ 10 → xt_T G p t A t' (dg w t')
theorem gg_cf_LL {G : gg_T} (h : ∀ q, q < gg_np G → ¬ gg_cf G q) : gg_LL G := by
  intro t A p q ht hp hq
  rcases Nat.lt_trichotomy p q with hl | hl | hl
  · exact absurd ⟨p, t, hl, hp.2.1.trans hq.2.1.symm, ht, hp.2.2, hq.2.2⟩ (h q hq.1)
  · exact hl
  · exact absurd ⟨q, t, hl, hq.2.1.trans hp.2.1.symm, ht, hq.2.2, hp.2.2⟩ (h p hp.1)
theorem xt_B {G : gg_T} {a_table : Nat → Int64} {p : Nat} (hp : gg_np G ≤ p) (L : gg_LL G) (h : xt_I G p 0 a_table) : xx_B G a_table := by
  intro A hA
  obtain ⟨w, w1, w2, w3⟩ := h A hA
  refine ⟨w, w1, by omega, fun t ht => ?_⟩
  rcases w3 t ht with ⟨h0, h1⟩ | ⟨q, _, h2, h3⟩
  · rw [h0]
    cases e : mm_ch G A t with
    | zero => rfl
    | succ q => exact absurd (mm_ch_s e) (h1 q (Or.inl (by have := (mm_ch_s e).1; omega)))
  · rw [h2, mm_ch_i L ht h3]
section XT
variable {G : gg_T} {f_built f_nullable f_productive f_sp f_depth f_at : Int32} {a_first a_follow a_kind a_value a_length a_fault a_defs a_refs a_imports a_defAt a_refAt a_scopeOf a_importAt a_around a_beginsAt a_endsAt a_names a_scopes a_twice a_open a_stale a_link a_kept a_stack a_trial a_opened : Nat → Int32} {a_table : Nat → Int64} {md us : Nat → Nat} {nu : Nat} {fi fo : Nat → Nat}
theorem xt_65 {post : Int32 → SX → Prop} {J : Int32 → (Nat → Int32) → (Nat → Int32) → (Nat → Int32) → (Nat → Int32) → (Nat → Int32) → (Nat → Int32) → (Nat → Int32) → (Nat → Int32) → (Nat → Int32) → (Nat → Int64) → (Nat → Int32) → (Nat → Int32) → (Nat → Int32) → (Nat → Int32) → (Nat → Int32) → (Nat → Int32) → (Nat → Int32) → (Nat → Int32) → (Nat → Int32) → (Nat → Int32) → (Nat → Int32) → (Nat → Int32) → (Nat → Int32) → (Nat → Int32) → (Nat → Int32) → (Nat → Int32) → (Nat → Int32) → (Nat → Int32) → (Nat → Int32) → (Nat → Int32) → (Nat → Int32) → (Nat → Int32) → (Nat → Int32) → (Nat → Int32) →  Prop} {p x : Nat} (hG : gg_ok G) (hp : p < gg_np G) (hx : x < 2 ^ 12) (hx2 : ∀ t, t ≤ 10 → (x.testBit t = true ↔ gg_Pd G t p))
    (hC : ∀ a_table, gg_cf G p → post (nI p) (nI (gg_np G), f_built, f_nullable, f_productive, f_sp, f_depth, f_at, nA (gg_ru G), nA (gg_ln G), nA (gg_sy G), gg_ro G, nA (gg_sc G), nA md, nA us, a_first, a_follow, a_table, a_kind, a_value, a_length, a_fault, a_defs, a_refs, a_imports, a_defAt, a_refAt, a_scopeOf, a_importAt, a_around, a_beginsAt, a_endsAt, a_names, a_scopes, a_twice, a_open, a_stale, a_link, a_kept, a_stack, a_trial, a_opened)) (hJ : ∀ a_table, xt_I G (p + 1) 0 a_table → ¬ gg_cf G p → J (nI (p + 1)) (nA (gg_ru G)) (nA (gg_ln G)) (nA (gg_sy G)) (gg_ro G) (nA (gg_sc G)) (nA md) (nA us) a_first a_follow a_table a_kind a_value a_length a_fault a_defs a_refs a_imports a_defAt a_refAt a_scopeOf a_importAt a_around a_beginsAt a_endsAt a_names a_scopes a_twice a_open a_stale a_link a_kept a_stack a_trial a_opened) :
    ∀ d t a_table, t + d = 11 → xt_I G p t a_table → (∀ t' q, t' < t → gg_Pd G t' p → q < p → ¬ gg_Ch G t' (gg_ru G p) q) → wX_fillTable_65 post J (nI p) (nI (gg_ru G p)) (nI x) (nI (gg_np G)) f_built f_nullable f_productive f_sp f_depth f_at (d + 1) (nI t) (nA (gg_ru G)) (nA (gg_ln G)) (nA (gg_sy G)) (gg_ro G) (nA (gg_sc G)) (nA md) (nA us) a_first a_follow a_table a_kind a_value a_length a_fault a_defs a_refs a_imports a_defAt a_refAt a_scopeOf a_importAt a_around a_beginsAt a_endsAt a_names a_scopes a_twice a_open a_stale a_link a_kept a_stack a_trial a_opened := by
  have h14 := hG.1
  have hr := hG.2.1 p
  intro d
  induction d with
  | zero =>
    intro t a_table ht hI hno
    have e : t = 11 := by omega
    subst e
    refine br_t (by decide) (nm_r (nI_1 p) (hJ a_table (fun A hA => ?_) (fun ⟨q, t, h1, h2, h3, h4, h5⟩ => hno t q (by omega) h5 h1 ⟨by omega, h2, h4⟩)))
    obtain ⟨w, w1, w2, w3⟩ := hI A hA
    refine ⟨w, w1, w2, fun t' ht' => ?_⟩
    rcases w3 t' ht' with ⟨h0, h1⟩ | ⟨q, h1, h2⟩
    · exact Or.inl ⟨h0, fun q hq => h1 q (by omega)⟩
    · exact Or.inr ⟨q, by omega, h2⟩
  | succ d ih =>
    intro t a_table ht hI hno
    refine pk_le 11 t (fun h => absurd h (by omega)) (fun ht11 => ?_)
    obtain ⟨w, w1, w2, w3⟩ := hI (gg_ru G p) hr
    refine nb_b1 x t (fun hb => ?_) (fun hb => ?_) (by omega) (by omega)
    · have hpd := (hx2 t (by omega)).mp hb
      have e4 : (4 : Int32) * nI t = nI (4 * t) := by rw [show (4 : Int32) = nI 4 from rfl, pk_mul]
      unfold wpX_chosen
      dsimp only
      rw [nI_clamp (show gg_ru G p < 2 ^ 31 by omega), w1, e4, dg_sh (by omega) ht11]
      have hd16 := dg_16 w t
      refine ⟨pk_in (gg_ru G p) 6 hr, pk_eq (dg w t) 0 (fun h0 => ⟨pk_in (gg_ru G p) 6 hr, pk_in (gg_ru G p) 6 hr, ?_⟩) (fun h0 => ?_)⟩
      · have hv : (p + 1) * 2 ^ (4 * t) < 2 ^ 44 := by
          have h1 : (p + 1) * 2 ^ (4 * t) < 2 ^ 4 * 2 ^ (4 * t) := Nat.mul_lt_mul_of_pos_right (by omega) (Nat.two_pow_pos _)
          rw [← Nat.pow_add] at h1
          exact Nat.lt_of_lt_of_le h1 (Nat.pow_le_pow_right (by omega) (by omega))
        rw [nI_1, nI_l (show p + 1 < 2 ^ 31 by omega), wb_shl (p + 1) (show 4 * t < 64 by omega), wb_or (by omega) (by omega)]
        refine nm_e (nm_r (nI_1 t) (ih (t + 1) _ (by omega) (fun A hA => ?_) (fun t' q ht' hpd' hq hch => ?_)))
        · by_cases e : A = gg_ru G p
          · subst e
            refine ⟨w ||| (p + 1) * 2 ^ (4 * t), pk_uLs, nb_orlt w2 hv, fun t' ht' => ?_⟩
            rw [dg_or (by omega) h0 t']
            by_cases et : t' = t
            · rw [if_pos et]
              subst et
              exact Or.inr ⟨p, Or.inr ⟨rfl, by omega⟩, rfl, hp, rfl, hpd⟩
            · rw [if_neg et]
              rcases w3 t' ht' with ⟨g0, g1⟩ | ⟨q, g1, g2⟩
              · exact Or.inl ⟨g0, fun q hq => g1 q (by omega)⟩
              · exact Or.inr ⟨q, by omega, g2⟩
          · obtain ⟨w', u1, u2, u3⟩ := hI A hA
            refine ⟨w', by rw [pk_uLn e]; exact u1, u2, fun t' ht' => ?_⟩
            rcases u3 t' ht' with ⟨g0, g1⟩ | ⟨q, g1, g2⟩
            · refine Or.inl ⟨g0, fun q hq hch => ?_⟩
              rcases hq with hq | ⟨hq, _⟩
              · exact g1 q (Or.inl hq) hch
              · subst hq; exact e hch.2.1.symm
            · exact Or.inr ⟨q, by omega, g2⟩
        · by_cases et : t' = t
          · subst et
            rcases w3 t' (by omega) with ⟨_, g1⟩ | ⟨q', g1, g2, _⟩
            · exact g1 q (Or.inl hq) hch
            · omega
          · exact hno t' q (by omega) hpd' hq hch
      · refine hC a_table ?_
        rcases w3 t (by omega) with ⟨g0, _⟩ | ⟨q, g1, g2, g3⟩
        · exact absurd g0 h0
        · exact ⟨q, t, by omega, g3.2.1, by omega, g3.2.2, hpd⟩
    · have hpd : ¬ gg_Pd G t p := fun h => by rw [(hx2 t (by omega)).mpr h] at hb; cases hb
      refine nm_r (nI_1 t) (ih (t + 1) a_table (by omega) (fun A hA => ?_) (fun t' q ht' hpd' hq => ?_))
      · obtain ⟨w', u1, u2, u3⟩ := hI A hA
        refine ⟨w', u1, u2, fun t' ht' => ?_⟩
        rcases u3 t' ht' with ⟨g0, g1⟩ | ⟨q, g1, g2⟩
        · refine Or.inl ⟨g0, fun q hq hch => ?_⟩
          rcases hq with hq | ⟨hq, hq'⟩
          · exact g1 q (Or.inl hq) hch
          · subst hq
            by_cases et : t' = t
            · subst et; exact hpd hch.2.2
            · exact g1 q (Or.inr ⟨rfl, by omega⟩) hch
        · exact Or.inr ⟨q, by omega, g2⟩
      · by_cases et : t' = t
        · subst et; exact absurd hpd' hpd
        · exact hno t' q (by omega) hpd' hq
theorem xt_23 {post : Int32 → SX → Prop} (hG : gg_ok G) (hnu : xd_nu G nu) (hfi : xi_E G fi a_first) (hfo : xw_E G fo a_follow)
    (hC : ∀ p a_table, p < gg_np G → gg_cf G p → (∀ q, q < p → ¬ gg_cf G q) → post (nI p) (nI (gg_np G), f_built, nI nu, f_productive, f_sp, f_depth, f_at, nA (gg_ru G), nA (gg_ln G), nA (gg_sy G), gg_ro G, nA (gg_sc G), nA md, nA us, a_first, a_follow, a_table, a_kind, a_value, a_length, a_fault, a_defs, a_refs, a_imports, a_defAt, a_refAt, a_scopeOf, a_importAt, a_around, a_beginsAt, a_endsAt, a_names, a_scopes, a_twice, a_open, a_stale, a_link, a_kept, a_stack, a_trial, a_opened))
    (hO : ∀ a_table, xx_B G a_table → (∀ q, q < gg_np G → ¬ gg_cf G q) → post (-1) (nI (gg_np G), f_built, nI nu, f_productive, f_sp, f_depth, f_at, nA (gg_ru G), nA (gg_ln G), nA (gg_sy G), gg_ro G, nA (gg_sc G), nA md, nA us, a_first, a_follow, a_table, a_kind, a_value, a_length, a_fault, a_defs, a_refs, a_imports, a_defAt, a_refAt, a_scopeOf, a_importAt, a_around, a_beginsAt, a_endsAt, a_names, a_scopes, a_twice, a_open, a_stale, a_link, a_kept, a_stack, a_trial, a_opened)) :
    ∀ d p a_table, p + d = gg_np G → xt_I G p 0 a_table → (∀ q, q < p → ¬ gg_cf G q) → wX_fillTable_23 post (nI (gg_np G)) f_built (nI nu) f_productive f_sp f_depth f_at (d + 1) (nI p) (nA (gg_ru G)) (nA (gg_ln G)) (nA (gg_sy G)) (gg_ro G) (nA (gg_sc G)) (nA md) (nA us) a_first a_follow a_table a_kind a_value a_length a_fault a_defs a_refs a_imports a_defAt a_refAt a_scopeOf a_importAt a_around a_beginsAt a_endsAt a_names a_scopes a_twice a_open a_stale a_link a_kept a_stack a_trial a_opened := by
  have h14 := hG.1
  intro d
  induction d with
  | zero =>
    intro p a_table hp hI hno
    have hno' : ∀ q, q < gg_np G → ¬ gg_cf G q := fun q hq => hno q (by omega)
    exact pk_le (gg_np G) p (fun _ => hO a_table (xt_B (by omega) (gg_cf_LL hno') hI) hno') (fun h => absurd h (by omega))
  | succ d ih =>
    intro p a_table hp hI hno
    have hr := hG.2.1 p
    refine pk_le (gg_np G) p (fun h => absurd h (by omega)) (fun hpn => ⟨pk_in p 14 (by omega), ?_⟩)
    rw [nA_cl (show p < 2 ^ 31 by omega)]
    refine nm_e (xi_first hG (by omega) hnu.1 (fun A hA => ⟨(hfi A hA).1, (hfi A hA).2.1⟩) ?_)
    intro r r1 r2 r3
    have hFL : ∀ t, gg_fl (yl_em nu) (yl_fi fi t) t (gg_sl G p 0) ↔ gg_FL G t (gg_sl G p 0) := fun t =>
      ⟨gg_fl_lt2 _ (fun y hy => gg_sl_lt hG hy) (fun A hA x => (hnu.2 A hA).mp x) (fun A hA x => ((hfi A hA).2.2 t).mp x),
       gg_fl_lt2 _ (fun y hy => gg_sl_lt hG hy) (fun A hA x => (hnu.2 A hA).mpr x) (fun A hA x => ((hfi A hA).2.2 t).mpr x)⟩
    have hN := xd_nl hG hnu (p := p) (m := 0)
    have e2048 : (nI r &&& 2048 : Int32) = 0 ↔ r.testBit 11 = false := nb_a0 (v := 11) (by omega) (by omega)
    have next : ∀ x, x < 2 ^ 12 → (∀ t, t ≤ 10 → (x.testBit t = true ↔ gg_Pd G t p)) → ∃ n65, wX_fillTable_65 post (wX_fillTable_23 post (nI (gg_np G)) f_built (nI nu) f_productive f_sp f_depth f_at (d + 1)) (nI p) (nI (gg_ru G p)) (nI x) (nI (gg_np G)) f_built (nI nu) f_productive f_sp f_depth f_at n65 0 (nA (gg_ru G)) (nA (gg_ln G)) (nA (gg_sy G)) (gg_ro G) (nA (gg_sc G)) (nA md) (nA us) a_first a_follow a_table a_kind a_value a_length a_fault a_defs a_refs a_imports a_defAt a_refAt a_scopeOf a_importAt a_around a_beginsAt a_endsAt a_names a_scopes a_twice a_open a_stale a_link a_kept a_stack a_trial a_opened := by
      intro x hx hx2
      refine ⟨12, xt_65 hG hpn hx hx2 (fun tb hc => hC p tb hpn hc hno) (fun tb hI' hn => ih (p + 1) tb (by omega) hI' (fun q hq => ?_)) 11 0 a_table (by omega) hI (fun t' q h => by omega)⟩
      by_cases e : q = p
      · subst e; exact hn
      · exact hno q (by omega)
    by_cases h11 : r.testBit 11 = true
    · refine br_f (fun h => by rw [e2048.mp h] at h11; cases h11) ⟨pk_in (gg_ru G p) 6 hr, ?_⟩
      have hf := hfo (gg_ru G p) hr
      rw [nI_clamp (show gg_ru G p < 2 ^ 31 by omega), hf.1, nb_or]
      refine nm_e (next _ (nb_orlt r1 (nb_lt_of hf.2.1 (by omega))) (fun t ht => ?_))
      rw [nb_or_t, r2 t (by omega), hFL t, hf.2.2 t]
      exact ⟨fun h => h.elim Or.inl (fun h => Or.inr ⟨hN.mp (r3.mp h11), h⟩), fun h => h.elim Or.inl (fun h => Or.inr h.2)⟩
    · refine br_t (e2048.mpr (bf_f h11)) (next r r1 (fun t ht => ?_))
      rw [r2 t (by omega), hFL t]
      exact ⟨Or.inl, fun h => h.elim (fun h => h) (fun h => absurd (r3.mpr (hN.mpr h.1)) h11)⟩
theorem xt_2 {post : Int32 → SX → Prop} (hQ : ∀ a_table, (∀ A, A < 6 → a_table A = lN 0) → ∃ n23, wX_fillTable_23 post (nI (gg_np G)) f_built f_nullable f_productive f_sp f_depth f_at n23 0 (nA (gg_ru G)) (nA (gg_ln G)) (nA (gg_sy G)) (gg_ro G) (nA (gg_sc G)) (nA md) (nA us) a_first a_follow a_table a_kind a_value a_length a_fault a_defs a_refs a_imports a_defAt a_refAt a_scopeOf a_importAt a_around a_beginsAt a_endsAt a_names a_scopes a_twice a_open a_stale a_link a_kept a_stack a_trial a_opened) :
    ∀ d k a_table, k + d = 6 → (∀ A, A < k → a_table A = lN 0) → wX_fillTable_2 post (nI (gg_np G)) f_built f_nullable f_productive f_sp f_depth f_at (d + 1) (nI k) (nA (gg_ru G)) (nA (gg_ln G)) (nA (gg_sy G)) (gg_ro G) (nA (gg_sc G)) (nA md) (nA us) a_first a_follow a_table a_kind a_value a_length a_fault a_defs a_refs a_imports a_defAt a_refAt a_scopeOf a_importAt a_around a_beginsAt a_endsAt a_names a_scopes a_twice a_open a_stale a_link a_kept a_stack a_trial a_opened := by
  intro d
  induction d with
  | zero =>
    intro k a_table hk h
    have e : k = 6 := by omega
    subst e
    exact br_t (by decide) (hQ a_table h)
  | succ d ih =>
    intro k a_table hk h
    refine pk_le 6 k (fun h => absurd h (by omega)) (fun hk6 => ⟨pk_in k 6 hk6, ?_⟩)
    rw [nI_clamp (show k < 2 ^ 31 by omega)]
    refine nm_e (nm_r (nI_1 k) (ih (k + 1) _ (by omega) (fun A hA => ?_)))
    by_cases e : A = k
    · subst e; exact pk_uLs
    · rw [pk_uLn e]; exact h A (by omega)
theorem xt_fill {post : Int32 → SX → Prop} (hG : gg_ok G) (hnu : xd_nu G nu) (hfi : xi_E G fi a_first) (hfo : xw_E G fo a_follow)
    (hC : ∀ p a_table, p < gg_np G → gg_cf G p → (∀ q, q < p → ¬ gg_cf G q) → post (nI p) (nI (gg_np G), f_built, nI nu, f_productive, f_sp, f_depth, f_at, nA (gg_ru G), nA (gg_ln G), nA (gg_sy G), gg_ro G, nA (gg_sc G), nA md, nA us, a_first, a_follow, a_table, a_kind, a_value, a_length, a_fault, a_defs, a_refs, a_imports, a_defAt, a_refAt, a_scopeOf, a_importAt, a_around, a_beginsAt, a_endsAt, a_names, a_scopes, a_twice, a_open, a_stale, a_link, a_kept, a_stack, a_trial, a_opened))
    (hO : ∀ a_table, xx_B G a_table → (∀ q, q < gg_np G → ¬ gg_cf G q) → post (-1) (nI (gg_np G), f_built, nI nu, f_productive, f_sp, f_depth, f_at, nA (gg_ru G), nA (gg_ln G), nA (gg_sy G), gg_ro G, nA (gg_sc G), nA md, nA us, a_first, a_follow, a_table, a_kind, a_value, a_length, a_fault, a_defs, a_refs, a_imports, a_defAt, a_refAt, a_scopeOf, a_importAt, a_around, a_beginsAt, a_endsAt, a_names, a_scopes, a_twice, a_open, a_stale, a_link, a_kept, a_stack, a_trial, a_opened)) : wpX_fillTable post (nI (gg_np G), f_built, nI nu, f_productive, f_sp, f_depth, f_at, nA (gg_ru G), nA (gg_ln G), nA (gg_sy G), gg_ro G, nA (gg_sc G), nA md, nA us, a_first, a_follow, a_table, a_kind, a_value, a_length, a_fault, a_defs, a_refs, a_imports, a_defAt, a_refAt, a_scopeOf, a_importAt, a_around, a_beginsAt, a_endsAt, a_names, a_scopes, a_twice, a_open, a_stale, a_link, a_kept, a_stack, a_trial, a_opened) := by
  refine ⟨7, xt_2 ?_ 6 0 a_table (by omega) (fun A hA => by omega)⟩
  intro a_table hz
  refine ⟨gg_np G + 1, xt_23 (fi := fi) (fo := fo) hG hnu hfi hfo hC hO (gg_np G) 0 a_table (by omega) (fun A hA => ⟨0, hz A hA, by omega, fun t' _ => Or.inl ⟨dg_0 t', fun q hq => by omega⟩⟩) (fun q hq => by omega)⟩
end XT
def xb_I (G : gg_T) (T : tx_T) (f : Nat) (a_fault a_defs a_refs a_imports a_defAt a_refAt a_scopeOf a_importAt a_around a_beginsAt a_endsAt a_scopes a_names a_twice a_stale : Nat → Int32) : Prop :=
  (∀ g, g < f → xx_AN G T g a_fault a_defs a_refs a_imports a_defAt a_refAt a_scopeOf a_importAt a_around a_beginsAt a_endsAt a_scopes a_names a_twice ∧ a_stale g ≠ 0) ∧ (∀ g, f ≤ g → g < 4 → a_imports g = 0)
section XB
variable {G : gg_T} {T : tx_T} {f_built f_nullable f_productive f_sp f_depth f_at : Int32} {a_first a_follow a_kind a_value a_length a_fault a_defs a_refs a_imports a_defAt a_refAt a_scopeOf a_importAt a_around a_beginsAt a_endsAt a_names a_scopes a_twice a_open a_stale a_link a_kept a_stack a_trial a_opened : Nat → Int32} {a_table : Nat → Int64} {md us : Nat → Nat}
theorem xb_104 {post : Int32 → SX → Prop} (hG : gg_ok G) (hLL : gg_LL G) (hkd : ∀ c, tx_kd T c < 10) (hva : ∀ c, tx_va T c < 16) (h20 : ∀ f, tx_le T f ≤ 20) (hB : xx_B G a_table)
    (hP : ∀ f_sp f_depth f_at a_stack a_opened a_fault a_scopes a_around a_beginsAt a_endsAt a_scopeOf a_defs a_refs a_imports a_defAt a_refAt a_importAt a_names a_twice a_stale, xb_I G T 4 a_fault a_defs a_refs a_imports a_defAt a_refAt a_scopeOf a_importAt a_around a_beginsAt a_endsAt a_scopes a_names a_twice a_stale → post 0 (nI (gg_np G), f_built, f_nullable, f_productive, f_sp, f_depth, f_at, nA (gg_ru G), nA (gg_ln G), nA (gg_sy G), gg_ro G, nA (gg_sc G), nA md, nA us, a_first, a_follow, a_table, nA (tx_kd T), nA (tx_va T), nA (tx_le T), a_fault, a_defs, a_refs, a_imports, a_defAt, a_refAt, a_scopeOf, a_importAt, a_around, a_beginsAt, a_endsAt, a_names, a_scopes, a_twice, a_open, a_stale, a_link, a_kept, a_stack, a_trial, a_opened)) :
    ∀ d f f_sp f_depth f_at a_stack a_opened a_fault a_scopes a_around a_beginsAt a_endsAt a_scopeOf a_defs a_refs a_imports a_defAt a_refAt a_importAt a_names a_twice a_stale, f + d = 4 → xb_I G T f a_fault a_defs a_refs a_imports a_defAt a_refAt a_scopeOf a_importAt a_around a_beginsAt a_endsAt a_scopes a_names a_twice a_stale →
      wX_build_104 post (d + 1) (nI f) (nI (gg_np G)) f_built f_nullable f_productive f_sp f_depth f_at (nA (gg_ru G)) (nA (gg_ln G)) (nA (gg_sy G)) (gg_ro G) (nA (gg_sc G)) (nA md) (nA us) a_first a_follow a_table (nA (tx_kd T)) (nA (tx_va T)) (nA (tx_le T)) a_fault a_defs a_refs a_imports a_defAt a_refAt a_scopeOf a_importAt a_around a_beginsAt a_endsAt a_names a_scopes a_twice a_open a_stale a_link a_kept a_stack a_trial a_opened := by
  intro d
  induction d with
  | zero =>
    intro f f_sp f_depth f_at a_stack a_opened a_fault a_scopes a_around a_beginsAt a_endsAt a_scopeOf a_defs a_refs a_imports a_defAt a_refAt a_importAt a_names a_twice a_stale hf hI
    have e : f = 4 := by omega
    subst e
    exact br_t (by decide) (hP f_sp f_depth f_at a_stack a_opened a_fault a_scopes a_around a_beginsAt a_endsAt a_scopeOf a_defs a_refs a_imports a_defAt a_refAt a_importAt a_names a_twice a_stale hI)
  | succ d ih =>
    intro f f_sp f_depth f_at a_stack a_opened a_fault a_scopes a_around a_beginsAt a_endsAt a_scopeOf a_defs a_refs a_imports a_defAt a_refAt a_importAt a_names a_twice a_stale hf hI
    have hf4 : f < 4 := by omega
    refine pk_le 4 f (fun h => absurd h (by omega)) (fun _ => ?_)
    refine xf_refresh1 (z_scopes := a_scopes) (z_around := a_around) (z_beginsAt := a_beginsAt) (z_endsAt := a_endsAt) (z_scopeOf := a_scopeOf) (z_defs := a_defs) (z_refs := a_refs) (z_imports := a_imports) (z_defAt := a_defAt) (z_refAt := a_refAt) (z_importAt := a_importAt) (z_fault := a_fault) (z_names := a_names) (z_twice := a_twice) (z_stale := a_stale)
      (L := fun g => if g < f then tx_ps G T g 3 else []) hG hLL hkd hf4 hva h20 hB (fun g hg hgf => ?_) ?_
    · by_cases e : g < f
      · simp only [if_pos e]
        exact ⟨(hI.1 g e).1.1.2.2.2.1, fun q hq => (tx_ps_in hq).1, tx_ps_len⟩
      · simp only [if_neg e]
        exact ⟨⟨hI.2 g (by omega) hg, fun d hd => absurd hd (Nat.not_lt_zero d)⟩, (fun q hq => absurd hq List.not_mem_nil), Nat.zero_le _⟩
    · intro f_sp' f_depth' f_at' a_stack' a_opened' a_fault' a_scopes' a_around' a_beginsAt' a_endsAt' a_scopeOf' a_defs' a_refs' a_imports' a_defAt' a_refAt' a_importAt' a_names' a_twice' a_stale' q1 q2 q3 q4 q5 q6 q7
      dsimp only
      refine nm_r (nI_1 f) (ih (f + 1) f_sp' f_depth' f_at' a_stack' a_opened' a_fault' a_scopes' a_around' a_beginsAt' a_endsAt' a_scopeOf' a_defs' a_refs' a_imports' a_defAt' a_refAt' a_importAt' a_names' a_twice' a_stale' (by omega) ⟨fun g hg => ?_, fun g hg1 hg2 => ?_⟩)
      · by_cases e : g = f
        · subst e
          exact ⟨q1, by rw [q6]; decide⟩
        · obtain ⟨⟨g1, g2⟩, g3⟩ := hI.1 g (by omega)
          refine ⟨⟨fr_A e (h20 g) q2 q3 g1, fr_N e q2.1 q2.2.2.2.2.1 q4 q5 g2⟩, fun h0 => g3 (q7 g (by omega) e h0).1⟩
      · rw [q2.2.2.2.2.2.2.2.1 g (by omega)]
        exact hI.2 g (by omega) hg2
theorem xb_build {post : Int32 → SX → Prop} (hG : gg_ok G) (hm : xx_m G md us) (hkd : ∀ c, tx_kd T c < 10) (hva : ∀ c, tx_va T c < 16) (h20 : ∀ f, tx_le T f ≤ 20) (hi0 : ∀ g, g < 4 → a_imports g = 0)
    (hP : ∀ k f_nullable f_productive, gg_bP G k → post (nI (16 + k)) (nI (gg_np G), 0, f_nullable, f_productive, f_sp, f_depth, f_at, nA (gg_ru G), nA (gg_ln G), nA (gg_sy G), gg_ro G, nA (gg_sc G), nA md, nA us, a_first, a_follow, a_table, nA (tx_kd T), nA (tx_va T), nA (tx_le T), a_fault, a_defs, a_refs, a_imports, a_defAt, a_refAt, a_scopeOf, a_importAt, a_around, a_beginsAt, a_endsAt, a_names, a_scopes, a_twice, a_open, a_stale, a_link, a_kept, a_stack, a_trial, a_opened))
    (hC : ∀ q f_nullable f_productive a_first a_follow a_table, gg_bC G q → post (nI (32 + q)) (nI (gg_np G), 0, f_nullable, f_productive, f_sp, f_depth, f_at, nA (gg_ru G), nA (gg_ln G), nA (gg_sy G), gg_ro G, nA (gg_sc G), nA md, nA us, a_first, a_follow, a_table, nA (tx_kd T), nA (tx_va T), nA (tx_le T), a_fault, a_defs, a_refs, a_imports, a_defAt, a_refAt, a_scopeOf, a_importAt, a_around, a_beginsAt, a_endsAt, a_names, a_scopes, a_twice, a_open, a_stale, a_link, a_kept, a_stack, a_trial, a_opened))
    (hO : ∀ f_nullable f_productive f_sp f_depth f_at a_first a_follow a_table a_stack a_opened a_fault a_scopes a_around a_beginsAt a_endsAt a_scopeOf a_defs a_refs a_imports a_defAt a_refAt a_importAt a_names a_twice a_stale, gg_bO G → xx_B G a_table → xb_I G T 4 a_fault a_defs a_refs a_imports a_defAt a_refAt a_scopeOf a_importAt a_around a_beginsAt a_endsAt a_scopes a_names a_twice a_stale → post 0 (nI (gg_np G), 1, f_nullable, f_productive, f_sp, f_depth, f_at, nA (gg_ru G), nA (gg_ln G), nA (gg_sy G), gg_ro G, nA (gg_sc G), nA md, nA us, a_first, a_follow, a_table, nA (tx_kd T), nA (tx_va T), nA (tx_le T), a_fault, a_defs, a_refs, a_imports, a_defAt, a_refAt, a_scopeOf, a_importAt, a_around, a_beginsAt, a_endsAt, a_names, a_scopes, a_twice, a_open, a_stale, a_link, a_kept, a_stack, a_trial, a_opened)) :
    wpX_build post (nI (gg_np G), 0, f_nullable, f_productive, f_sp, f_depth, f_at, nA (gg_ru G), nA (gg_ln G), nA (gg_sy G), gg_ro G, nA (gg_sc G), nA md, nA us, a_first, a_follow, a_table, nA (tx_kd T), nA (tx_va T), nA (tx_le T), a_fault, a_defs, a_refs, a_imports, a_defAt, a_refAt, a_scopeOf, a_importAt, a_around, a_beginsAt, a_endsAt, a_names, a_scopes, a_twice, a_open, a_stale, a_link, a_kept, a_stack, a_trial, a_opened) := by
  refine br_t rfl (xd_derived hG hm ?_)
  intro pr nu hpr hnu hpr2 hnu2
  dsimp only
  have h14 := hG.1
  have key : ∀ d k, k + d = 6 → (∀ k', k' < k → gg_us G k' → gg_Pr G k') → wX_build_15 post (nI (gg_np G)) 0 (nI nu) (nI pr) f_sp f_depth f_at (nA (gg_ru G)) (nA (gg_ln G)) (nA (gg_sy G)) (gg_ro G) (nA (gg_sc G)) (nA md) (nA us) a_first a_follow a_table (nA (tx_kd T)) (nA (tx_va T)) (nA (tx_le T)) a_fault a_defs a_refs a_imports a_defAt a_refAt a_scopeOf a_importAt a_around a_beginsAt a_endsAt a_names a_scopes a_twice a_open a_stale a_link a_kept a_stack a_trial a_opened (d + 1) (nI k) := by
    intro d
    induction d with
    | zero =>
      intro k hk hno
      have e : k = 6 := by omega
      subst e
      refine br_t (by decide) (xi_solve hG hm ⟨hnu, hnu2⟩ ?_)
      intro fi a_first hfi
      dsimp only
      refine xw_solve (fi := fi) hG hm ⟨hnu, hnu2⟩ hfi ?_
      intro fo a_follow hfo
      dsimp only
      refine xt_fill (fi := fi) (fo := fo) hG ⟨hnu, hnu2⟩ hfi hfo ?_ ?_
      · intro q tb hq hcf hfirst
        dsimp only
        refine br_f (nI_pos (by omega)) ?_
        have e32 : (32 : Int32) + nI q = nI (32 + q) := nI_add 32 q
        rw [e32]
        exact hC q _ _ a_first a_follow tb ⟨hno, hq, hcf, hfirst⟩
      · intro tb hB hncf
        dsimp only
        refine br_t (by decide) ⟨5, ?_⟩
        refine xb_104 hG (gg_cf_LL hncf) hkd hva h20 hB ?_ 4 0 f_sp f_depth f_at a_stack a_opened a_fault a_scopes a_around a_beginsAt a_endsAt a_scopeOf a_defs a_refs a_imports a_defAt a_refAt a_importAt a_names a_twice a_stale (by omega) ⟨fun g hg => by omega, fun g _ hg => hi0 g hg⟩
        intro f_sp f_depth f_at a_stack a_opened a_fault a_scopes a_around a_beginsAt a_endsAt a_scopeOf a_defs a_refs a_imports a_defAt a_refAt a_importAt a_names a_twice a_stale hI
        exact hO _ _ f_sp f_depth f_at a_first a_follow tb a_stack a_opened a_fault a_scopes a_around a_beginsAt a_endsAt a_scopeOf a_defs a_refs a_imports a_defAt a_refAt a_importAt a_names a_twice a_stale ⟨hno, hncf⟩ hB hI
    | succ d ih =>
      intro k hk hno
      refine pk_le 6 k (fun h => absurd h (by omega)) (fun hk6 => ?_)
      obtain ⟨⟨m1, m2⟩, ⟨m3, m4⟩⟩ := hm k hk6
      have next : (gg_us G k → gg_Pr G k) → wX_build_15 post (nI (gg_np G)) 0 (nI nu) (nI pr) f_sp f_depth f_at (nA (gg_ru G)) (nA (gg_ln G)) (nA (gg_sy G)) (gg_ro G) (nA (gg_sc G)) (nA md) (nA us) a_first a_follow a_table (nA (tx_kd T)) (nA (tx_va T)) (nA (tx_le T)) a_fault a_defs a_refs a_imports a_defAt a_refAt a_scopeOf a_importAt a_around a_beginsAt a_endsAt a_names a_scopes a_twice a_open a_stale a_link a_kept a_stack a_trial a_opened (d + 1) (nI (k + 1)) := by
        intro h
        refine ih (k + 1) (by omega) (fun k' hk' hu => ?_)
        by_cases e : k' = k
        · subst e; exact h hu
        · exact hno k' (by omega) hu
      have used : gg_us G k → wX_build_43 post (wX_build_15 post (nI (gg_np G)) 0 (nI nu) (nI pr) f_sp f_depth f_at (nA (gg_ru G)) (nA (gg_ln G)) (nA (gg_sy G)) (gg_ro G) (nA (gg_sc G)) (nA md) (nA us) a_first a_follow a_table (nA (tx_kd T)) (nA (tx_va T)) (nA (tx_le T)) a_fault a_defs a_refs a_imports a_defAt a_refAt a_scopeOf a_importAt a_around a_beginsAt a_endsAt a_names a_scopes a_twice a_open a_stale a_link a_kept a_stack a_trial a_opened (d + 1)) (nI k) (nI (gg_np G)) 0 (nI nu) (nI pr) f_sp f_depth f_at (nA (gg_ru G)) (nA (gg_ln G)) (nA (gg_sy G)) (gg_ro G) (nA (gg_sc G)) (nA md) (nA us) a_first a_follow a_table (nA (tx_kd T)) (nA (tx_va T)) (nA (tx_le T)) a_fault a_defs a_refs a_imports a_defAt a_refAt a_scopeOf a_importAt a_around a_beginsAt a_endsAt a_names a_scopes a_twice a_open a_stale a_link a_kept a_stack a_trial a_opened := by
        intro hu
        unfold wX_build_43 wX_build_48
        refine br_f (by decide) (nb_b0 pr k (fun hb => ?_) (fun hb => nm_r (nI_1 k) (next (fun _ => (hpr2 k hk6).mp hb))) (by omega) (by omega))
        have e16 : (16 : Int32) + nI k = nI (16 + k) := nI_add 16 k
        rw [e16]
        exact hP k _ _ ⟨hk6, ⟨hu, fun h => by rw [(hpr2 k hk6).mpr h] at hb; cases hb⟩, hno⟩
      refine pk_eq k 0 (fun h0 => used (Or.inl h0)) (fun h0 => ?_)
      rw [nA_cl (show k < 2 ^ 31 by omega), nA_cl (show k < 2 ^ 31 by omega)]
      refine ⟨pk_in k 6 hk6, pk_eq (md k) 0 (fun hmd => ⟨pk_in k 6 hk6, pk_eq (us k) 0 (fun hus => ?_) (fun hus => ?_)⟩) (fun hmd => ?_)⟩
      · unfold wX_build_48
        refine br_t rfl (nm_r (nI_1 k) (next (fun hu => ?_)))
        rcases hu with hu | ⟨p, p1, p2 | p2⟩
        · exact absurd hu h0
        · have := (m2 p).mpr ⟨p1, p2⟩
          rw [hmd] at this
          exact absurd this nb_0_t
        · have := (m4 p).mpr ⟨p1, p2⟩
          rw [hus] at this
          exact absurd this nb_0_t
      · obtain ⟨p, _, p2⟩ := xd_c0 hus m3
        have := (m4 p).mp p2
        exact used (Or.inr ⟨p, this.1, Or.inr this.2⟩)
      · obtain ⟨p, _, p2⟩ := xd_c0 hmd m1
        have := (m2 p).mp p2
        exact used (Or.inr ⟨p, this.1, Or.inl this.2⟩)
  exact ⟨7, key 6 0 (by omega) (fun k' hk' => by omega)⟩
end XB
end
section
/-! renaming: the same kinds, other values -/
def rn_T (T : tx_T) (va : Nat → Nat) : tx_T := (T.1, va, T.2.2)
theorem rn_tok {T : tx_T} {va : Nat → Nat} {f : Nat} : tx_tok T f = tx_tok (rn_T T va) f := rfl
theorem rn_le {T : tx_T} {va : Nat → Nat} {f : Nat} : tx_le T f = tx_le (rn_T T va) f := rfl
theorem rn_va {T : tx_T} {va : Nat → Nat} {c : Nat} : tx_va (rn_T T va) c = va c := rfl
theorem rn_ps {G : gg_T} {T : tx_T} {va : Nat → Nat} {f x : Nat} : tx_ps G (rn_T T va) f x = tx_ps G T f x := by rw [cg_ps (T := T) (T' := rn_T T va) rn_tok rn_le]
theorem rn_is {G : gg_T} {T : tx_T} {va : Nat → Nat} {f a x : Nat} : tx_is G (rn_T T va) f a x = tx_is G T f a x := by rw [cg_is (T := T) (T' := rn_T T va) rn_tok rn_le]
theorem rn_sen {G : gg_T} {T : tx_T} {va : Nat → Nat} {f : Nat} : tx_sen G (rn_T T va) f = tx_sen G T f := rfl
section RN
variable {G : gg_T} {T : tx_T} {va : Nat → Nat} {f : Nat}
theorem rn_fi (hv : ∀ q, q ∈ tx_ps G T f 1 → tx_va T (20 * f + q) = va (20 * f + q)) : tx_fi G T f = tx_fi G (rn_T T va) f := by
  funext sc nm
  rw [tx_fi_l, tx_fi_l, rn_ps]
  refine tx_li_c _ 0 (fun q hq => ?_)
  show decide _ = decide _
  rw [cg_inn (T := T) (T' := rn_T T va) rn_tok, hv q hq, rn_va]
theorem rn_dup (hv : ∀ q, q ∈ tx_ps G T f 1 → tx_va T (20 * f + q) = va (20 * f + q)) : tx_dup G T f = tx_dup G (rn_T T va) f := by
  rw [tx_dup_ps, tx_dup_ps, rn_ps]
  have h : ∀ l c, (∀ q, q ∈ l → q ∈ tx_ps G T f 1) → tx_dl G T f l c = tx_dl G (rn_T T va) f l c := by
    intro l
    induction l with
    | nil => intro c _; rfl
    | cons q l ih =>
      intro c hq
      have e : ∀ T : tx_T, tx_dl G T f (q :: l) c = (if tx_fi G T f (tx_inn G T f q) (tx_va T (20 * f + q)) = nI (32 * f + c) then 0 else 1) + tx_dl G T f l (c + 1) := fun _ => rfl
      rw [e T, e (rn_T T va), rn_fi hv, cg_inn (T := T) (T' := rn_T T va) rn_tok, hv q (hq q (List.mem_cons_self ..)), rn_va, ih (c + 1) (fun x hx => hq x (List.mem_cons_of_mem _ hx))]
  exact h _ 0 (fun q hq => hq)
variable {a_fault a_defs a_refs a_imports a_defAt a_refAt a_scopeOf a_importAt a_around a_beginsAt a_endsAt a_scopes a_names a_twice : Nat → Int32}
theorem rn_A (h : xx_A G T f a_fault a_defs a_refs a_imports a_defAt a_refAt a_scopeOf a_importAt a_around a_beginsAt a_endsAt a_scopes) :
    xx_A G (rn_T T va) f a_fault a_defs a_refs a_imports a_defAt a_refAt a_scopeOf a_importAt a_around a_beginsAt a_endsAt a_scopes := cg_A rn_tok rn_le h
theorem rn_N (hv : ∀ q, q ∈ tx_ps G T f 1 → tx_va T (20 * f + q) = va (20 * f + q)) (h : xx_N G T f a_scopeOf a_scopes a_names a_twice) : xx_N G (rn_T T va) f a_scopeOf a_scopes a_names a_twice := by
  refine ⟨fun s s1 s2 => ?_, by rw [h.2, rn_dup hv]⟩
  obtain ⟨m, m1, m2, m3⟩ := h.1 s s1 s2
  refine ⟨m, m1, m2, fun v => ?_⟩
  rw [m3 v, rn_ps]
  constructor
  · intro ⟨q, h1, h2, h3⟩; exact ⟨q, h1, h2, by rw [rn_va, ← hv q h1]; exact h3⟩
  · intro ⟨q, h1, h2, h3⟩; exact ⟨q, h1, h2, by rw [hv q h1]; exact h3⟩
end RN
/-- a link is the first definition of its name somewhere -/
theorem tx_lk_f {G : gg_T} {T : tx_T} {g a : Nat} (hg : g < 4) (h : 0 ≤ tx_lk G T g a) : ∃ k sc, k < 4 ∧ tx_lk G T g a = tx_fi G T k sc (tx_va T (20 * g + a)) := by
  have h1 : ∀ nm d z, 0 ≤ tx_l1 G T g a nm d z → ∃ sc, tx_l1 G T g a nm d z = tx_fi G T g sc nm := by
    intro nm d
    induction d with
    | zero => intro z h; exact absurd h nn_m1
    | succ d ih =>
      intro z h
      have el : tx_l1 G T g a nm (d + 1) z = match tx_ar G T g a z with
        | none => tx_l1 G T g a nm d (z + 1)
        | some i => if 0 ≤ tx_fi G T g (nI (tx_cd i z)) nm then tx_fi G T g (nI (tx_cd i z)) nm else tx_l1 G T g a nm d (z + 1) := rfl
      rw [el] at h ⊢
      cases har : tx_ar G T g a z with
      | none => rw [har] at h; exact ih (z + 1) h
      | some i =>
        rw [har] at h
        by_cases hx : 0 ≤ tx_fi G T g (nI (tx_cd i z)) nm
        · exact ⟨_, if_pos hx⟩
        · simp only [if_neg hx] at h ⊢
          exact ih (z + 1) h
  have h3 : ∀ nm l, 0 ≤ tx_l3l G T g nm l → ∃ k, k < 4 ∧ tx_l3l G T g nm l = tx_fi G T k (-1) nm := by
    intro nm l
    induction l with
    | nil => intro h; exact absurd h nn_m1
    | cons q l ih =>
      intro h
      have e : tx_l3l G T g nm (q :: l) = if 0 ≤ tx_fi G T (tx_va T (20 * g + q) % 4) (-1) nm then tx_fi G T (tx_va T (20 * g + q) % 4) (-1) nm else tx_l3l G T g nm l := rfl
      rw [e] at h ⊢
      by_cases hx : 0 ≤ tx_fi G T (tx_va T (20 * g + q) % 4) (-1) nm
      · rw [if_pos hx]; exact ⟨_, by omega, rfl⟩
      · rw [if_neg hx] at h ⊢; exact ih h
  unfold tx_lk at h ⊢
  by_cases hx : 0 ≤ tx_l1 G T g a (tx_va T (20 * g + a)) 20 1
  · rw [if_pos hx]
    obtain ⟨sc, hsc⟩ := h1 _ 20 1 hx
    exact ⟨g, sc, hg, hsc⟩
  · rw [if_neg hx] at h ⊢
    unfold tx_l2 at h ⊢
    by_cases hy : 0 ≤ tx_fi G T g (-1) (tx_va T (20 * g + a))
    · rw [if_pos hy]; exact ⟨g, -1, hg, rfl⟩
    · rw [if_neg hy, tx_l3_ps] at h ⊢
      obtain ⟨k, k1, k2⟩ := h3 _ _ h
      exact ⟨k, -1, k1, k2⟩
theorem rn_name {G : gg_T} {T : tx_T} {g a f d : Nat} (hg : g < 4) (hf : f < 4) (hd : d < 20) (h : tx_lk G T g a = nI (32 * f + d)) : tx_va T (20 * g + a) = tx_va T (20 * f + (tx_ps G T f 1).getD d 0) := by
  obtain ⟨k, sc, k1, k2⟩ := tx_lk_f (G := G) (T := T) (a := a) hg (by rw [h]; exact nI_pos' (by omega))
  rw [h] at k2
  have hp : 0 ≤ tx_fi G T k sc (tx_va T (20 * g + a)) := by rw [← k2]; exact nI_pos' (by omega)
  obtain ⟨q, q1, q2⟩ := (tx_fi_p k1).mp hp
  obtain ⟨c', c1, c2, c3, c4⟩ := tx_li_s (f := k) (P := tx_P G T k sc (tx_va T (20 * g + a))) (tx_ps G T k 1) 0 ⟨q, q1, decide_eq_true q2⟩
  rw [tx_fi_l, c3] at k2
  have hl := tx_ps_len (G := G) (T := T) (f := k) (x := 1)
  have := nI_inj (by omega) (by omega) k2
  have e1 : k = f := by omega
  have e2 : c' = d := by omega
  subst e1 e2
  have := (of_decide_eq_true c4).2
  rw [Nat.sub_zero] at this
  exact this.symm
/-- the cells whose value follows the definition f, d -/
def rn_h (G : gg_T) (T : tx_T) (f d : Nat) (c : Nat) : Prop := c < 80 ∧ tx_is G T (c / 20) (c % 20) 2 = true ∧ tx_lk G T (c / 20) (c % 20) = nI (32 * f + d)
noncomputable def rn_v (G : gg_T) (T : tx_T) (f q d nm : Nat) (va : Nat → Nat) : Nat → Nat := fun c => @ite Nat (c = 20 * f + q ∨ rn_h G T f d c) (Classical.propDecidable _) nm (va c)
theorem rn_v1 {G : gg_T} {T : tx_T} {f q d nm c : Nat} {va : Nat → Nat} (h : c = 20 * f + q ∨ rn_h G T f d c) : rn_v G T f q d nm va c = nm := if_pos h
theorem rn_v0 {G : gg_T} {T : tx_T} {f q d nm c : Nat} {va : Nat → Nat} (h : ¬ (c = 20 * f + q ∨ rn_h G T f d c)) : rn_v G T f q d nm va c = va c := if_neg h
/-- and back again -/
theorem rn_back {G : gg_T} {T : tx_T} {f d nm : Nat} (hf : f < 4) (hd : d < (tx_ps G T f 1).length) :
    rn_v G T f ((tx_ps G T f 1).getD d 0) d (tx_va T (20 * f + (tx_ps G T f 1).getD d 0)) (rn_v G T f ((tx_ps G T f 1).getD d 0) d nm (tx_va T)) = tx_va T := by
  have hl := tx_ps_len (G := G) (T := T) (f := f) (x := 1)
  funext c
  by_cases h : c = 20 * f + (tx_ps G T f 1).getD d 0 ∨ rn_h G T f d c
  · rw [rn_v1 h]
    rcases h with h | ⟨h1, h2, h3⟩
    · rw [h]
    · have := rn_name (G := G) (T := T) (by omega) hf (by omega) h3
      rw [← this]
      congr 1
      omega
  · rw [rn_v0 h, rn_v0 h]
/-- other definitions keep their values -/
theorem rn_defs {G : gg_T} {T : tx_T} {f q d nm g : Nat} {va : Nat → Nat} (hq : q < 20) (hgf : g ≠ f) : ∀ x, x ∈ tx_ps G T g 1 → va (20 * g + x) = rn_v G T f q d nm va (20 * g + x) := by
  intro x hx
  have hxi := tx_ps_in hx
  rw [rn_v0]
  intro h
  rcases h with h | ⟨_, h2, _⟩
  · omega
  · rw [show (20 * g + x) / 20 = g by omega, show (20 * g + x) % 20 = x by omega] at h2
    have e1 := (tx_is_i.mp h2).2.2
    have e2 := (tx_is_i.mp hxi.2).2.2
    rw [e1] at e2
    exact absurd (nI_inj (by omega) (by omega) e2) (by omega)
def rn_ok (G : gg_T) (T T1 : tx_T) (f : Nat) : Prop := tx_dup G T1 f = tx_dup G T f ∧ ∀ g a, g < 4 → tx_is G T g a 2 = true → tx_lk G T1 g a = tx_lk G T g a
end
section
/-! the class's rename -/
noncomputable def rn_w (G : gg_T) (T : tx_T) (f q d nm : Nat) (va : Nat → Nat) (D : Nat → Prop) : Nat → Nat := fun c => @ite Nat (c = 20 * f + q ∨ (rn_h G T f d c ∧ D c)) (Classical.propDecidable _) nm (va c)
section RW
variable {G : gg_T} {T : tx_T} {f q d nm : Nat} {va : Nat → Nat} {D D' : Nat → Prop}
theorem rn_w1 {c : Nat} (h : c = 20 * f + q ∨ (rn_h G T f d c ∧ D c)) : rn_w G T f q d nm va D c = nm := if_pos h
theorem rn_w0 {c : Nat} (h : ¬ (c = 20 * f + q ∨ (rn_h G T f d c ∧ D c))) : rn_w G T f q d nm va D c = va c := if_neg h
theorem rn_w_c (h : ∀ c, rn_h G T f d c → (D c ↔ D' c)) : rn_w G T f q d nm va D = rn_w G T f q d nm va D' := by
  funext c
  by_cases hx : c = 20 * f + q ∨ (rn_h G T f d c ∧ D c)
  · rw [rn_w1 hx, rn_w1 (hx.elim Or.inl (fun hx => Or.inr ⟨hx.1, (h c hx.1).mp hx.2⟩))]
  · rw [rn_w0 hx, rn_w0 (fun hy => hx (hy.elim Or.inl (fun hy => Or.inr ⟨hy.1, (h c hy.1).mpr hy.2⟩)))]
theorem rn_w_a {c0 : Nat} (h : rn_h G T f d c0) : un (rn_w G T f q d nm va D) c0 nm = rn_w G T f q d nm va (fun c => D c ∨ c = c0) := by
  funext c
  by_cases e : c = c0
  · subst e; rw [un_s, rn_w1 (Or.inr ⟨h, Or.inr rfl⟩)]
  · rw [un_n e]
    by_cases hx : c = 20 * f + q ∨ (rn_h G T f d c ∧ D c)
    · rw [rn_w1 hx, rn_w1 (hx.elim Or.inl (fun hx => Or.inr ⟨hx.1, Or.inl hx.2⟩))]
    · rw [rn_w0 hx, rn_w0 (fun hy => hx (hy.elim Or.inl (fun hy => Or.inr ⟨hy.1, hy.2.resolve_right e⟩)))]
theorem rn_w_v (h : ∀ c, rn_h G T f d c → D c) : rn_w G T f q d nm va D = rn_v G T f q d nm va := by
  funext c
  by_cases hx : c = 20 * f + q ∨ rn_h G T f d c
  · rw [rn_v1 hx, rn_w1 (hx.elim Or.inl (fun hx => Or.inr ⟨hx, h c hx⟩))]
  · rw [rn_v0 hx, rn_w0 (fun hy => hx (hy.elim Or.inl (fun hy => Or.inr hy.1)))]
theorem rn_w_s (h : ∀ c, ¬ D c) : rn_w G T f q d nm va D = un va (20 * f + q) nm := by
  funext c
  by_cases e : c = 20 * f + q
  · rw [rn_w1 (Or.inl e), e, un_s]
  · rw [un_n e, rn_w0 (fun hy => hy.elim e (fun hy => h c hy.2))]
end RW
def rn_D (G : gg_T) (T : tx_T) (g r : Nat) : Nat → Prop := fun c => c / 20 < g ∨ (c / 20 = g ∧ ∃ r', r' < r ∧ r' < (tx_ps G T g 2).length ∧ c % 20 = (tx_ps G T g 2).getD r' 0)
def xr_kp (G : gg_T) (T : tx_T) (a_kept : Nat → Int32) : Prop := ∀ g r, g < 4 → r < (tx_ps G T g 2).length → a_kept (20 * g + r) = tx_lk G T g ((tx_ps G T g 2).getD r 0)
section XRN
variable {G : gg_T} {T : tx_T} {f_built f_nullable f_productive f_sp f_depth f_at : Int32} {a_first a_follow a_kind a_value a_length a_fault a_defs a_refs a_imports a_defAt a_refAt a_scopeOf a_importAt a_around a_beginsAt a_endsAt a_names a_scopes a_twice a_open a_stale a_link a_kept a_stack a_trial a_opened : Nat → Int32} {a_table : Nat → Int64} {md us : Nat → Nat}
theorem xr_47 {post : SX → Prop} {J : Int32 → (Nat → Int32) → (Nat → Int32) → (Nat → Int32) → (Nat → Int32) → (Nat → Int32) → (Nat → Int32) → (Nat → Int32) → (Nat → Int32) → (Nat → Int32) → (Nat → Int64) → (Nat → Int32) → (Nat → Int32) → (Nat → Int32) → (Nat → Int32) → (Nat → Int32) → (Nat → Int32) → (Nat → Int32) → (Nat → Int32) → (Nat → Int32) → (Nat → Int32) → (Nat → Int32) → (Nat → Int32) → (Nat → Int32) → (Nat → Int32) → (Nat → Int32) → (Nat → Int32) → (Nat → Int32) → (Nat → Int32) → (Nat → Int32) → (Nat → Int32) → (Nat → Int32) → (Nat → Int32) → (Nat → Int32) → (Nat → Int32) →  Prop} {f q d nm g : Nat} {va : Nat → Nat} (hf : f < 4) (hg : g < 4) (hd : d < 20) (hnm : nm < 16) (hls : xx_ls (tx_ps G T g 2) g a_refs a_refAt) (hk : xr_kp G T a_kept)
    (hJ : J (nI (g + 1)) (nA (gg_ru G)) (nA (gg_ln G)) (nA (gg_sy G)) (gg_ro G) (nA (gg_sc G)) (nA md) (nA us) a_first a_follow a_table a_kind (nA (rn_w G T f q d nm va (rn_D G T (g + 1) 0))) a_length a_fault a_defs a_refs a_imports a_defAt a_refAt a_scopeOf a_importAt a_around a_beginsAt a_endsAt a_names a_scopes a_twice a_open (upd a_stale g (nI 1)) a_link a_kept a_stack a_trial a_opened) :
    ∀ k r, r + k = (tx_ps G T g 2).length → wX_write_47 post J (nI (32 * f + d)) (nI nm) (nI f) (nI g) (nI (gg_np G)) f_built f_nullable f_productive f_sp f_depth f_at (k + 1) (nI (20 * g + r)) (nA (gg_ru G)) (nA (gg_ln G)) (nA (gg_sy G)) (gg_ro G) (nA (gg_sc G)) (nA md) (nA us) a_first a_follow a_table a_kind (nA (rn_w G T f q d nm va (rn_D G T g r))) a_length a_fault a_defs a_refs a_imports a_defAt a_refAt a_scopeOf a_importAt a_around a_beginsAt a_endsAt a_names a_scopes a_twice a_open a_stale a_link a_kept a_stack a_trial a_opened := by
  have hl20 := tx_ps_len (G := G) (T := T) (f := g) (x := 2)
  have e20 : ∀ x : Nat, (20 : Int32) * nI g + nI x = nI (20 * g + x) := fun x => by rw [show (20 : Int32) = nI 20 from rfl, pk_mul, nI_add]
  intro k
  induction k with
  | zero =>
    intro r hr
    refine ⟨pk_in g 4 hg, ?_⟩
    rw [nI_clamp (show g < 2 ^ 31 by omega), hls.1, e20, vo_1]
    refine pk_le (20 * g + (tx_ps G T g 2).length) (20 * g + r) (fun _ => ⟨pk_in g 4 hg, nm_e (nm_r (nI_1 g) ?_)⟩) (fun h => absurd h (by omega))
    have : rn_w G T f q d nm va (rn_D G T g r) = rn_w G T f q d nm va (rn_D G T (g + 1) 0) := by
      refine rn_w_c (fun c hc => ⟨fun h => ?_, fun h => ?_⟩)
      · rcases h with h | ⟨h, _⟩
        · exact Or.inl (by omega)
        · exact Or.inl (by omega)
      · rcases h with h | ⟨_, r', h, _⟩
        · by_cases e : c / 20 = g
          · have hm : c % 20 ∈ tx_ps G T g 2 := by
              have := hc.2.1
              rw [e] at this
              unfold tx_ps
              exact List.mem_filter.mpr ⟨List.mem_range.mpr (by omega), this⟩
            obtain ⟨r', h1, h2⟩ := dr_x hm
            exact Or.inr ⟨e, r', by omega, h1, h2.symm⟩
          · exact Or.inl (by omega)
        · omega
    rw [this]
    exact hJ
  | succ k ih =>
    intro r hr
    have hrl : r < (tx_ps G T g 2).length := by omega
    have hqm := tx_ps_in (dr_m hrl)
    have hkp := hk g r hg hrl
    refine ⟨pk_in g 4 hg, ?_⟩
    rw [nI_clamp (show g < 2 ^ 31 by omega), hls.1, e20]
    refine pk_le (20 * g + (tx_ps G T g 2).length) (20 * g + r) (fun h => absurd h (by omega)) (fun _ => ⟨pk_in (20 * g + r) 80 (by omega), ?_⟩)
    rw [nI_clamp (show 20 * g + r < 2 ^ 31 by omega), hkp, hls.2 r hrl, e20, nI_clamp (show 20 * g + (tx_ps G T g 2).getD r 0 < 2 ^ 31 by omega), vb_w (show nm < 128 by omega), nA_upd]
    have hDc : ∀ c, rn_h G T f d c → ((rn_D G T g r c ∨ c = 20 * g + (tx_ps G T g 2).getD r 0) ↔ rn_D G T g (r + 1) c) := by
      intro c _
      constructor
      · intro h
        rcases h with (h | ⟨h1, r', h2, h3⟩) | h
        · exact Or.inl h
        · exact Or.inr ⟨h1, r', by omega, h3⟩
        · exact Or.inr ⟨by omega, r, by omega, hrl, by omega⟩
      · intro h
        rcases h with h | ⟨h1, r', h2, h3, h4⟩
        · exact Or.inl (Or.inl h)
        · by_cases e : r' = r
          · subst e; exact Or.inr (by omega)
          · exact Or.inl (Or.inr ⟨h1, r', by omega, h3, h4⟩)
    have hhc : rn_h G T f d (20 * g + (tx_ps G T g 2).getD r 0) ↔ tx_lk G T g ((tx_ps G T g 2).getD r 0) = nI (32 * f + d) := by
      unfold rn_h
      rw [show (20 * g + (tx_ps G T g 2).getD r 0) / 20 = g by omega, show (20 * g + (tx_ps G T g 2).getD r 0) % 20 = (tx_ps G T g 2).getD r 0 by omega]
      exact ⟨fun h => h.2.2, fun h => ⟨by omega, hqm.2, h⟩⟩
    refine br_c (fun he => ⟨pk_in (20 * g + r) 80 (by omega), pk_in (20 * g + (tx_ps G T g 2).getD r 0) 80 (by omega), nm_e (nm_r (nI_1 _) ?_)⟩) (fun he => nm_r (nI_1 _) ?_)
    · have := ih (r + 1) (by omega)
      rw [← rn_w_c hDc, ← rn_w_a (hhc.mpr he)] at this
      exact this
    · have e : rn_w G T f q d nm va (rn_D G T g r) = rn_w G T f q d nm va (rn_D G T g (r + 1)) := by
        refine rn_w_c (fun c hc => ⟨fun h => (hDc c hc).mp (Or.inl h), fun h => ?_⟩)
        rcases (hDc c hc).mpr h with h | h
        · exact h
        · subst h; exact absurd (hhc.mp hc) he
      rw [e]
      exact ih (r + 1) (by omega)
theorem xr_34 {post : SX → Prop} {f q d nm : Nat} {va : Nat → Nat} (hf : f < 4) (hd : d < 20) (hnm : nm < 16) (hls : ∀ g, g < 4 → xx_ls (tx_ps G T g 2) g a_refs a_refAt) (hk : xr_kp G T a_kept)
    (hQ : ∀ a_stale, (∀ g, g < 4 → a_stale g = nI 1) → wpX_collectNames (fun u => match u with | (f_nP, f_built, f_nullable, f_productive, f_sp, f_depth, f_at, a_pRule, a_pLen, a_pSymbol, a_pRole, a_pScope, a_made, a_users, a_first, a_follow, a_table, a_kind, a_value, a_length, a_fault, a_defs, a_refs, a_imports, a_defAt, a_refAt, a_scopeOf, a_importAt, a_around, a_beginsAt, a_endsAt, a_names, a_scopes, a_twice, a_open, a_stale, a_link, a_kept, a_stack, a_trial, a_opened) => (post (f_nP, f_built, f_nullable, f_productive, f_sp, f_depth, f_at, a_pRule, a_pLen, a_pSymbol, a_pRole, a_pScope, a_made, a_users, a_first, a_follow, a_table, a_kind, a_value, a_length, a_fault, a_defs, a_refs, a_imports, a_defAt, a_refAt, a_scopeOf, a_importAt, a_around, a_beginsAt, a_endsAt, a_names, a_scopes, a_twice, a_open, a_stale, a_link, a_kept, a_stack, a_trial, a_opened))) (nI (gg_np G), f_built, f_nullable, f_productive, f_sp, f_depth, f_at, nA (gg_ru G), nA (gg_ln G), nA (gg_sy G), gg_ro G, nA (gg_sc G), nA md, nA us, a_first, a_follow, a_table, a_kind, nA (rn_v G T f q d nm va), a_length, a_fault, a_defs, a_refs, a_imports, a_defAt, a_refAt, a_scopeOf, a_importAt, a_around, a_beginsAt, a_endsAt, a_names, a_scopes, a_twice, a_open, a_stale, a_link, a_kept, a_stack, a_trial, a_opened) (nI f)) :
    ∀ k g a_stale, g + k = 4 → (∀ g', g' < g → a_stale g' = nI 1) → wX_write_34 post (nI (32 * f + d)) (nI nm) (nI f) (nI (gg_np G)) f_built f_nullable f_productive f_sp f_depth f_at (k + 1) (nI g) (nA (gg_ru G)) (nA (gg_ln G)) (nA (gg_sy G)) (gg_ro G) (nA (gg_sc G)) (nA md) (nA us) a_first a_follow a_table a_kind (nA (rn_w G T f q d nm va (rn_D G T g 0))) a_length a_fault a_defs a_refs a_imports a_defAt a_refAt a_scopeOf a_importAt a_around a_beginsAt a_endsAt a_names a_scopes a_twice a_open a_stale a_link a_kept a_stack a_trial a_opened := by
  intro k
  induction k with
  | zero =>
    intro g a_stale hg h
    have e : g = 4 := by omega
    subst e
    refine br_t (by decide) ?_
    rw [rn_w_v (D := rn_D G T 4 0) (fun c hc => Or.inl (by have := hc.1; omega))]
    exact hQ a_stale h
  | succ k ih =>
    intro g a_stale hg h
    refine pk_le 4 g (fun h => absurd h (by omega)) (fun hg4 => nm_r (e' := nI (20 * g + 0)) (by rw [show (20 : Int32) = nI 20 from rfl, pk_mul]; rfl) ⟨(tx_ps G T g 2).length + 1, xr_47 hf hg4 hd hnm (hls g hg4) hk ?_ (tx_ps G T g 2).length 0 (by omega)⟩)
    refine ih (g + 1) _ (by omega) (fun g' hg' => ?_)
    by_cases e : g' = g
    · subst e; exact pk_us
    · rw [pk_un e]; exact h g' (by omega)
theorem xr_write {post : SX → Prop} {f d nm : Nat} {va : Nat → Nat} {z_names z_twice : Nat → Int32} (hf : f < 4) (h20 : ∀ f, tx_le T f ≤ 20) (hd : d < (tx_ps G T f 1).length) (hnm : nm < 16) (hva : ∀ c, va c < 16) (hk : xr_kp G T a_kept)
    (hX : ∀ g, g < 4 → xx_AN G (rn_T T va) g a_fault a_defs a_refs a_imports a_defAt a_refAt a_scopeOf a_importAt a_around a_beginsAt a_endsAt a_scopes z_names z_twice)
    (hP : ∀ a_names a_twice a_stale, (∀ g, g < 4 → xx_AN G (rn_T T (rn_v G T f ((tx_ps G T f 1).getD d 0) d nm va)) g a_fault a_defs a_refs a_imports a_defAt a_refAt a_scopeOf a_importAt a_around a_beginsAt a_endsAt a_scopes a_names a_twice) → (∀ g, g < 4 → a_stale g = nI 1) →
      post (nI (gg_np G), f_built, f_nullable, f_productive, f_sp, f_depth, f_at, nA (gg_ru G), nA (gg_ln G), nA (gg_sy G), gg_ro G, nA (gg_sc G), nA md, nA us, a_first, a_follow, a_table, a_kind, nA (rn_v G T f ((tx_ps G T f 1).getD d 0) d nm va), a_length, a_fault, a_defs, a_refs, a_imports, a_defAt, a_refAt, a_scopeOf, a_importAt, a_around, a_beginsAt, a_endsAt, a_names, a_scopes, a_twice, a_open, a_stale, a_link, a_kept, a_stack, a_trial, a_opened)) :
    wpX_write post (nI (gg_np G), f_built, f_nullable, f_productive, f_sp, f_depth, f_at, nA (gg_ru G), nA (gg_ln G), nA (gg_sy G), gg_ro G, nA (gg_sc G), nA md, nA us, a_first, a_follow, a_table, a_kind, nA va, a_length, a_fault, a_defs, a_refs, a_imports, a_defAt, a_refAt, a_scopeOf, a_importAt, a_around, a_beginsAt, a_endsAt, z_names, a_scopes, z_twice, a_open, a_stale, a_link, a_kept, a_stack, a_trial, a_opened) (nI (32 * f + d)) (nI nm) := by
  have hl20 := tx_ps_len (G := G) (T := T) (f := f) (x := 1)
  have hqm := tx_ps_in (dr_m hd)
  have e20 : ∀ x : Nat, (20 : Int32) * nI f + nI x = nI (20 * f + x) := fun x => by rw [show (20 : Int32) = nI 20 from rfl, pk_mul, nI_add]
  have ediv : nI (32 * f + d) / 32 = nI f := by
    have := pk_div (a := 32 * f + d) (d := 32) (by omega) (by omega) (by omega)
    rw [show (32 : Int32) = nI 32 from rfl, this]
    exact congrArg nI (by omega)
  have erem : nI (32 * f + d) - nI (32 * f + d) / 32 * 32 = nI d := by
    have := pk_rem (a := 32 * f + d) (d := 32) (by omega) (by omega) (by omega)
    rw [show (32 : Int32) = nI 32 from rfl, this]
    exact congrArg nI (by omega)
  have hda := (hX f hf).1.2.1.2 d (by rw [rn_ps]; exact hd)
  rw [rn_ps] at hda
  unfold wpX_write
  dsimp only
  refine ⟨by decide, nm_r ediv ⟨by decide, ?_⟩⟩
  rw [erem, e20, nI_clamp (show 20 * f + d < 2 ^ 31 by omega), hda, e20, nI_clamp (show 20 * f + (tx_ps G T f 1).getD d 0 < 2 ^ 31 by omega), vb_w (show nm < 128 by omega), nA_upd]
  refine ⟨pk_in (20 * f + d) 80 (by omega), pk_in (20 * f + (tx_ps G T f 1).getD d 0) 80 (by omega), nm_e ⟨5, ?_⟩⟩
  have hno : ∀ c, ¬ rn_D G T 0 0 c := fun c h => h.elim (fun h => by omega) (fun ⟨_, r', h, _⟩ => by omega)
  rw [← rn_w_s (G := G) (T := T) (d := d) hno]
  refine xr_34 hf (by omega) hnm (fun g hg => ?_) hk ?_ 4 0 a_stale (by omega) (fun g' hg' => by omega)
  · have := (hX g hg).1.2.2.1
    rw [rn_ps] at this
    exact this
  · intro a_stale hst
    have hA1 : ∀ g, g < 4 → xx_A G (rn_T T (rn_v G T f ((tx_ps G T f 1).getD d 0) d nm va)) g a_fault a_defs a_refs a_imports a_defAt a_refAt a_scopeOf a_importAt a_around a_beginsAt a_endsAt a_scopes := fun g hg => cg_A (T := rn_T T va) rn_tok rn_le (hX g hg).1
    have hva1 : ∀ c, tx_va (rn_T T (rn_v G T f ((tx_ps G T f 1).getD d 0) d nm va)) c < 16 := by
      intro c
      rw [rn_va]
      by_cases h : c = 20 * f + (tx_ps G T f 1).getD d 0 ∨ rn_h G T f d c
      · rw [rn_v1 h]; exact hnm
      · rw [rn_v0 h]; exact hva c
    refine xc_names (T := rn_T T (rn_v G T f ((tx_ps G T f 1).getD d 0) d nm va)) (z_names := z_names) (z_twice := z_twice) hf hva1 (h20 f) (hA1 f hf) ?_
    intro a_names a_twice g1 g2 g3
    refine hP a_names a_twice a_stale (fun g hg => ⟨hA1 g hg, ?_⟩) hst
    by_cases e : g = f
    · subst e; exact g1
    · refine fr_N e (fun _ _ => rfl) (fun _ _ => rfl) g2 g3 ?_
      have h1 := (hX g hg).2
      refine rn_N (T := rn_T T va) (va := rn_v G T f ((tx_ps G T f 1).getD d 0) d nm va) (fun x hx => ?_) h1
      rw [rn_ps] at hx
      exact rn_defs hqm.1 e x hx
theorem xr_19 {post : Int32 → SX → Prop} {J : Int32 → Int32 → Int32 → Int32 → Int32 → Int32 → Int32 → Int32 → Int32 → (Nat → Int32) → (Nat → Int32) → (Nat → Int32) → (Nat → Int32) → (Nat → Int32) → (Nat → Int32) → (Nat → Int32) → (Nat → Int32) → (Nat → Int32) → (Nat → Int64) → (Nat → Int32) → (Nat → Int32) → (Nat → Int32) → (Nat → Int32) → (Nat → Int32) → (Nat → Int32) → (Nat → Int32) → (Nat → Int32) → (Nat → Int32) → (Nat → Int32) → (Nat → Int32) → (Nat → Int32) → (Nat → Int32) → (Nat → Int32) → (Nat → Int32) → (Nat → Int32) → (Nat → Int32) → (Nat → Int32) → (Nat → Int32) → (Nat → Int32) → (Nat → Int32) → (Nat → Int32) → (Nat → Int32) → (Nat → Int32) →  Prop} {T1 : tx_T} {g sm0 : Nat} (hg : g < 4) (hls : xx_ls (tx_ps G T g 2) g a_refs a_refAt) (hk : xr_kp G T a_kept) (hlk : ∀ r, r < (tx_ps G T g 2).length → a_link (20 * g + r) = tx_lk G T1 g ((tx_ps G T g 2).getD r 0))
    (hJ : ∀ sm, sm ≤ 1 → (sm = 1 ↔ sm0 = 1 ∧ ∀ r, r < (tx_ps G T g 2).length → tx_lk G T1 g ((tx_ps G T g 2).getD r 0) = tx_lk G T g ((tx_ps G T g 2).getD r 0)) → J (nI sm) (nI (g + 1)) (nI (gg_np G)) f_built f_nullable f_productive f_sp f_depth f_at (nA (gg_ru G)) (nA (gg_ln G)) (nA (gg_sy G)) (gg_ro G) (nA (gg_sc G)) (nA md) (nA us) a_first a_follow a_table a_kind a_value a_length a_fault a_defs a_refs a_imports a_defAt a_refAt a_scopeOf a_importAt a_around a_beginsAt a_endsAt a_names a_scopes a_twice a_open a_stale a_link a_kept a_stack a_trial a_opened) :
    ∀ k r sm, r + k = (tx_ps G T g 2).length → sm ≤ 1 → (sm = 1 ↔ sm0 = 1 ∧ ∀ r', r' < r → tx_lk G T1 g ((tx_ps G T g 2).getD r' 0) = tx_lk G T g ((tx_ps G T g 2).getD r' 0)) → wX_sameLinks_19 post J (nI g) (nI (gg_np G)) f_built f_nullable f_productive f_sp f_depth f_at (nA (gg_ru G)) (nA (gg_ln G)) (nA (gg_sy G)) (gg_ro G) (nA (gg_sc G)) (nA md) (nA us) a_first a_follow a_table a_kind a_value a_length a_fault a_defs a_refs a_imports a_defAt a_refAt a_scopeOf a_importAt a_around a_beginsAt a_endsAt a_names a_scopes a_twice a_open a_stale a_link a_kept a_stack a_trial a_opened (k + 1) (nI sm) (nI (20 * g + r)) := by
  have hl20 := tx_ps_len (G := G) (T := T) (f := g) (x := 2)
  have e20 : ∀ x : Nat, (20 : Int32) * nI g + nI x = nI (20 * g + x) := fun x => by rw [show (20 : Int32) = nI 20 from rfl, pk_mul, nI_add]
  intro k
  induction k with
  | zero =>
    intro r sm hr hsm hs
    refine ⟨pk_in g 4 hg, ?_⟩
    rw [nI_clamp (show g < 2 ^ 31 by omega), hls.1, e20]
    refine pk_le (20 * g + (tx_ps G T g 2).length) (20 * g + r) (fun _ => nm_r (nI_1 g) (hJ sm hsm ?_)) (fun h => absurd h (by omega))
    rw [hs]
    exact ⟨fun h => ⟨h.1, fun r' hr' => h.2 r' (by omega)⟩, fun h => ⟨h.1, fun r' hr' => h.2 r' (by omega)⟩⟩
  | succ k ih =>
    intro r sm hr hsm hs
    have hrl : r < (tx_ps G T g 2).length := by omega
    refine ⟨pk_in g 4 hg, ?_⟩
    rw [nI_clamp (show g < 2 ^ 31 by omega), hls.1, e20]
    refine pk_le (20 * g + (tx_ps G T g 2).length) (20 * g + r) (fun h => absurd h (by omega)) (fun _ => ⟨pk_in (20 * g + r) 80 (by omega), pk_in (20 * g + r) 80 (by omega), ?_⟩)
    rw [nI_clamp (show 20 * g + r < 2 ^ 31 by omega), hlk r hrl, hk g r hg hrl, an_1 hsm, an_0]
    refine br_c (fun he => nm_e (nm_r (nI_1 _) (ih (r + 1) sm (by omega) hsm ?_))) (fun he => nm_e (nm_r (nI_1 _) (ih (r + 1) 0 (by omega) (by omega) ⟨fun h => by omega, fun h => absurd (h.2 r (by omega)) he⟩)))
    rw [hs]
    refine ⟨fun h => ⟨h.1, fun r' hr' => ?_⟩, fun h => ⟨h.1, fun r' hr' => h.2 r' (by omega)⟩⟩
    by_cases e : r' = r
    · subst e; exact he
    · exact h.2 r' (by omega)
theorem xr_4 {post : Int32 → SX → Prop} {va : Nat → Nat} (h20 : ∀ f, tx_le T f ≤ 20) (hva : ∀ c, va c < 16) (hk : xr_kp G T a_kept)
    (hX : ∀ g, g < 4 → xx_AN G (rn_T T va) g a_fault a_defs a_refs a_imports a_defAt a_refAt a_scopeOf a_importAt a_around a_beginsAt a_endsAt a_scopes a_names a_twice)
    (hP : ∀ sm a_link a_open a_stale, sm ≤ 1 → (sm = 1 ↔ ∀ g r, g < 4 → r < (tx_ps G T g 2).length → tx_lk G (rn_T T va) g ((tx_ps G T g 2).getD r 0) = tx_lk G T g ((tx_ps G T g 2).getD r 0)) → (∀ g, g < 4 → a_stale g = 0 ∧ xl_ok G (rn_T T va) g a_link a_open) → post (nI sm) (nI (gg_np G), f_built, f_nullable, f_productive, f_sp, f_depth, f_at, nA (gg_ru G), nA (gg_ln G), nA (gg_sy G), gg_ro G, nA (gg_sc G), nA md, nA us, a_first, a_follow, a_table, a_kind, nA va, a_length, a_fault, a_defs, a_refs, a_imports, a_defAt, a_refAt, a_scopeOf, a_importAt, a_around, a_beginsAt, a_endsAt, a_names, a_scopes, a_twice, a_open, a_stale, a_link, a_kept, a_stack, a_trial, a_opened)) :
    ∀ k g sm a_link a_open a_stale, g + k = 4 → sm ≤ 1 → (sm = 1 ↔ ∀ g' r, g' < g → r < (tx_ps G T g' 2).length → tx_lk G (rn_T T va) g' ((tx_ps G T g' 2).getD r 0) = tx_lk G T g' ((tx_ps G T g' 2).getD r 0)) → (∀ g', g' < g → a_stale g' = 0 ∧ xl_ok G (rn_T T va) g' a_link a_open) → (∀ g', g ≤ g' → g' < 4 → a_stale g' = nI 1) →
      wX_sameLinks_4 post (k + 1) (nI sm) (nI g) (nI (gg_np G)) f_built f_nullable f_productive f_sp f_depth f_at (nA (gg_ru G)) (nA (gg_ln G)) (nA (gg_sy G)) (gg_ro G) (nA (gg_sc G)) (nA md) (nA us) a_first a_follow a_table a_kind (nA va) a_length a_fault a_defs a_refs a_imports a_defAt a_refAt a_scopeOf a_importAt a_around a_beginsAt a_endsAt a_names a_scopes a_twice a_open a_stale a_link a_kept a_stack a_trial a_opened := by
  intro k
  induction k with
  | zero =>
    intro g sm a_link a_open a_stale hg hsm hs h1 h2
    have e : g = 4 := by omega
    subst e
    refine br_t (by decide) ⟨?_, hP sm a_link a_open a_stale hsm hs h1⟩
    rcases (show sm = 0 ∨ sm = 1 by omega) with e | e
    · subst e; exact nr_0
    · subst e; exact nr_1
  | succ k ih =>
    intro g sm a_link a_open a_stale hg hsm hs h1 h2
    have hg4 : g < 4 := by omega
    refine pk_le 4 g (fun h => absurd h (by omega)) (fun _ => ?_)
    refine xl_relink (T := rn_T T va) (z_link := a_link) (z_open := a_open) (z_stale := a_stale) hg4 h20 hva hX (fun h => absurd (h.symm.trans (h2 g (Nat.le_refl g) hg4)) (by decide)) ?_
    intro a_link' a_open' a_stale' q1 q2 q3 q4 q5
    dsimp only
    have hls := (hX g hg4).1.2.2.1
    rw [rn_ps] at hls
    have hlk : ∀ r, r < (tx_ps G T g 2).length → a_link' (20 * g + r) = tx_lk G (rn_T T va) g ((tx_ps G T g 2).getD r 0) := fun r hr => by
      have := q2.1 r (by rw [rn_ps]; exact hr)
      rw [rn_ps] at this
      exact this
    refine nm_r (e' := nI (20 * g + 0)) (by rw [show (20 : Int32) = nI 20 from rfl, pk_mul]; rfl) ⟨(tx_ps G T g 2).length + 1, xr_19 (T1 := rn_T T va) (sm0 := sm) hg4 hls hk hlk ?_ (tx_ps G T g 2).length 0 sm (by omega) hsm ⟨fun h => ⟨h, fun r' hr' => by omega⟩, fun h => h.1⟩⟩
    intro sm' hsm' hs'
    refine ih (g + 1) sm' a_link' a_open' a_stale' (by omega) hsm' ?_ (fun g' hg' => ?_) (fun g' hg' hg'' => ?_)
    · rw [hs', hs]
      constructor
      · intro h g' r hg' hr
        by_cases e : g' = g
        · subst e; exact h.2 r hr
        · exact h.1 g' r (by omega) hr
      · intro h
        exact ⟨fun g' r hg' hr => h g' r (by omega) hr, fun r hr => h g r (by omega) hr⟩
    · by_cases e : g' = g
      · subst e; exact ⟨q1, q2⟩
      · obtain ⟨w1, w2⟩ := h1 g' (by omega)
        refine ⟨by rw [q5 g' e]; exact w1, fun r hr => ?_, by rw [q4 g' e]; exact w2.2⟩
        have hl := tx_ps_len (G := G) (T := rn_T T va) (f := g') (x := 2)
        rw [q3 _ (by omega)]
        exact w2.1 r hr
    · rw [q5 g' (by omega)]
      exact h2 g' (by omega) hg''
theorem xr_100 {post : Int32 → SX → Prop} {J : Int32 → Int32 → Int32 → Int32 → Int32 → Int32 → Int32 → Int32 → (Nat → Int32) → (Nat → Int32) → (Nat → Int32) → (Nat → Int32) → (Nat → Int32) → (Nat → Int32) → (Nat → Int32) → (Nat → Int32) → (Nat → Int32) → (Nat → Int64) → (Nat → Int32) → (Nat → Int32) → (Nat → Int32) → (Nat → Int32) → (Nat → Int32) → (Nat → Int32) → (Nat → Int32) → (Nat → Int32) → (Nat → Int32) → (Nat → Int32) → (Nat → Int32) → (Nat → Int32) → (Nat → Int32) → (Nat → Int32) → (Nat → Int32) → (Nat → Int32) → (Nat → Int32) → (Nat → Int32) → (Nat → Int32) → (Nat → Int32) → (Nat → Int32) → (Nat → Int32) → (Nat → Int32) → (Nat → Int32) →  Prop} {x1 x3 x4 x5 x6 : Int32} {g : Nat} {z_kept : Nat → Int32} (hg : g < 4) (hls : xx_ls (tx_ps G T g 2) g a_refs a_refAt) (hlk : ∀ r, r < (tx_ps G T g 2).length → a_link (20 * g + r) = tx_lk G T g ((tx_ps G T g 2).getD r 0))
    (hJ : ∀ a_kept, (∀ r, r < (tx_ps G T g 2).length → a_kept (20 * g + r) = tx_lk G T g ((tx_ps G T g 2).getD r 0)) → yo_fr g a_kept z_kept → J (nI (g + 1)) (nI (gg_np G)) f_built f_nullable f_productive f_sp f_depth f_at (nA (gg_ru G)) (nA (gg_ln G)) (nA (gg_sy G)) (gg_ro G) (nA (gg_sc G)) (nA md) (nA us) a_first a_follow a_table a_kind a_value a_length a_fault a_defs a_refs a_imports a_defAt a_refAt a_scopeOf a_importAt a_around a_beginsAt a_endsAt a_names a_scopes a_twice a_open a_stale a_link a_kept a_stack a_trial a_opened) :
    ∀ k r a_kept, r + k = (tx_ps G T g 2).length → (∀ r', r' < r → a_kept (20 * g + r') = tx_lk G T g ((tx_ps G T g 2).getD r' 0)) → yo_fr g a_kept z_kept → wX_rename_100 post J x1 x3 x4 x5 x6 (nI g) (nI (gg_np G)) f_built f_nullable f_productive f_sp f_depth f_at (k + 1) (nI (20 * g + r)) (nA (gg_ru G)) (nA (gg_ln G)) (nA (gg_sy G)) (gg_ro G) (nA (gg_sc G)) (nA md) (nA us) a_first a_follow a_table a_kind a_value a_length a_fault a_defs a_refs a_imports a_defAt a_refAt a_scopeOf a_importAt a_around a_beginsAt a_endsAt a_names a_scopes a_twice a_open a_stale a_link a_kept a_stack a_trial a_opened := by
  have hl20 := tx_ps_len (G := G) (T := T) (f := g) (x := 2)
  have e20 : ∀ x : Nat, (20 : Int32) * nI g + nI x = nI (20 * g + x) := fun x => by rw [show (20 : Int32) = nI 20 from rfl, pk_mul, nI_add]
  intro k
  induction k with
  | zero =>
    intro r a_kept hr h hfr
    refine ⟨pk_in g 4 hg, ?_⟩
    rw [nI_clamp (show g < 2 ^ 31 by omega), hls.1, e20]
    exact pk_le (20 * g + (tx_ps G T g 2).length) (20 * g + r) (fun _ => nm_r (nI_1 g) (hJ a_kept (fun r' hr' => h r' (by omega)) hfr)) (fun h => absurd h (by omega))
  | succ k ih =>
    intro r a_kept hr h hfr
    have hrl : r < (tx_ps G T g 2).length := by omega
    refine ⟨pk_in g 4 hg, ?_⟩
    rw [nI_clamp (show g < 2 ^ 31 by omega), hls.1, e20]
    refine pk_le (20 * g + (tx_ps G T g 2).length) (20 * g + r) (fun h => absurd h (by omega)) (fun _ => ⟨pk_in (20 * g + r) 80 (by omega), pk_in (20 * g + r) 80 (by omega), ?_⟩)
    rw [nI_clamp (show 20 * g + r < 2 ^ 31 by omega), hlk r hrl, vs_lkv hg]
    refine nm_e (nm_r (nI_1 _) (ih (r + 1) _ (by omega) (fun r' hr' => ?_) (yo_fr_u hfr (by omega) (by omega))))
    by_cases e : r' = r
    · subst e; exact pk_us
    · rw [pk_un (by omega)]; exact h r' (by omega)
theorem xr_rename {post : Int32 → SX → Prop} {f d nm : Nat} (hf : f < 4) (h20 : ∀ f, tx_le T f ≤ 20) (hva : ∀ c, tx_va T c < 16) (hd : d < (tx_ps G T f 1).length) (hnm : nm < 16)
    (hX : ∀ g, g < 4 → xx_AN G T g a_fault a_defs a_refs a_imports a_defAt a_refAt a_scopeOf a_importAt a_around a_beginsAt a_endsAt a_scopes a_names a_twice)
    (hL : ∀ g, g < 4 → a_stale g = 0 → xl_ok G T g a_link a_open)
    (hP1 : ∀ a_names a_twice a_open a_stale a_link a_kept, rn_ok G T (rn_T T (rn_v G T f ((tx_ps G T f 1).getD d 0) d nm (tx_va T))) f → (∀ g, g < 4 → xx_AN G (rn_T T (rn_v G T f ((tx_ps G T f 1).getD d 0) d nm (tx_va T))) g a_fault a_defs a_refs a_imports a_defAt a_refAt a_scopeOf a_importAt a_around a_beginsAt a_endsAt a_scopes a_names a_twice) →
      (∀ g, g < 4 → a_stale g = 0 ∧ xl_ok G (rn_T T (rn_v G T f ((tx_ps G T f 1).getD d 0) d nm (tx_va T))) g a_link a_open) → post 1 (nI (gg_np G), 1, f_nullable, f_productive, f_sp, f_depth, f_at, nA (gg_ru G), nA (gg_ln G), nA (gg_sy G), gg_ro G, nA (gg_sc G), nA md, nA us, a_first, a_follow, a_table, a_kind, nA (rn_v G T f ((tx_ps G T f 1).getD d 0) d nm (tx_va T)), a_length, a_fault, a_defs, a_refs, a_imports, a_defAt, a_refAt, a_scopeOf, a_importAt, a_around, a_beginsAt, a_endsAt, a_names, a_scopes, a_twice, a_open, a_stale, a_link, a_kept, a_stack, a_trial, a_opened))
    (hP0 : ∀ a_names a_twice a_open a_stale a_link a_kept, ¬ rn_ok G T (rn_T T (rn_v G T f ((tx_ps G T f 1).getD d 0) d nm (tx_va T))) f → (∀ g, g < 4 → xx_AN G T g a_fault a_defs a_refs a_imports a_defAt a_refAt a_scopeOf a_importAt a_around a_beginsAt a_endsAt a_scopes a_names a_twice) →
      (∀ g, g < 4 → a_stale g = nI 1) → post 0 (nI (gg_np G), 1, f_nullable, f_productive, f_sp, f_depth, f_at, nA (gg_ru G), nA (gg_ln G), nA (gg_sy G), gg_ro G, nA (gg_sc G), nA md, nA us, a_first, a_follow, a_table, a_kind, nA (tx_va T), a_length, a_fault, a_defs, a_refs, a_imports, a_defAt, a_refAt, a_scopeOf, a_importAt, a_around, a_beginsAt, a_endsAt, a_names, a_scopes, a_twice, a_open, a_stale, a_link, a_kept, a_stack, a_trial, a_opened)) :
    wpX_rename post (nI (gg_np G), 1, f_nullable, f_productive, f_sp, f_depth, f_at, nA (gg_ru G), nA (gg_ln G), nA (gg_sy G), gg_ro G, nA (gg_sc G), nA md, nA us, a_first, a_follow, a_table, a_kind, nA (tx_va T), a_length, a_fault, a_defs, a_refs, a_imports, a_defAt, a_refAt, a_scopeOf, a_importAt, a_around, a_beginsAt, a_endsAt, a_names, a_scopes, a_twice, a_open, a_stale, a_link, a_kept, a_stack, a_trial, a_opened) (nI f) (nI d) (nI nm) := by
  have hl20 := tx_ps_len (G := G) (T := T) (f := f) (x := 1)
  have hqm := tx_ps_in (dr_m hd)
  have hdup := tx_dup_20 (G := G) (T := T) (f := f)
  have e20 : ∀ x : Nat, (20 : Int32) * nI f + nI x = nI (20 * f + x) := fun x => by rw [show (20 : Int32) = nI 20 from rfl, pk_mul, nI_add]
  have e32 : (32 : Int32) * nI f + nI d = nI (32 * f + d) := by rw [show (32 : Int32) = nI 32 from rfl, pk_mul, nI_add]
  have hda := (hX f hf).1.2.1
  unfold wpX_rename
  dsimp only
  refine br_f (by decide) (xw_1 (n := 4) hf (by omega) (br_f (by decide) ⟨pk_in f 4 hf, ?_⟩))
  rw [nI_clamp (show f < 2 ^ 31 by omega), hda.1]
  refine xw_1 hd (by omega) (br_f (by decide) (xw_1 (n := 16) hnm (by omega) (br_f (by decide) ?_)))
  rw [e32, e20, nI_clamp (show 20 * f + d < 2 ^ 31 by omega), hda.2 d hd, e20, nA_cl (show 20 * f + (tx_ps G T f 1).getD d 0 < 2 ^ 31 by omega), (hX f hf).2.2]
  refine nm_e ⟨pk_in (20 * f + d) 80 (by omega), pk_in (20 * f + (tx_ps G T f 1).getD d 0) 80 (by omega), nm_e ⟨pk_in f 4 hf, nm_e ⟨5, ?_⟩⟩⟩
  have hv1 : ∀ c, rn_v G T f ((tx_ps G T f 1).getD d 0) d nm (tx_va T) c < 16 := by
    intro c
    by_cases h : c = 20 * f + (tx_ps G T f 1).getD d 0 ∨ rn_h G T f d c
    · rw [rn_v1 h]; exact hnm
    · rw [rn_v0 h]; exact hva c
  have hrn : rn_T T (tx_va T) = T := rfl
  have main : ∀ a_link a_open a_stale a_kept, xr_kp G T a_kept → wpX_write (fun u => match u with | (f_nP, f_built, f_nullable, f_productive, f_sp, f_depth, f_at, a_pRule, a_pLen, a_pSymbol, a_pRole, a_pScope, a_made, a_users, a_first, a_follow, a_table, a_kind, a_value, a_length, a_fault, a_defs, a_refs, a_imports, a_defAt, a_refAt, a_scopeOf, a_importAt, a_around, a_beginsAt, a_endsAt, a_names, a_scopes, a_twice, a_open, a_stale, a_link, a_kept, a_stack, a_trial, a_opened) => (vp_in (nI f) 4 ∧ (((a_twice (nI f).toNatClampNeg) = nI (tx_dup G T f) → (wpX_sameLinks (fun r_102 u => match u with | (f_nP, f_built, f_nullable, f_productive, f_sp, f_depth, f_at, a_pRule, a_pLen, a_pSymbol, a_pRole, a_pScope, a_made, a_users, a_first, a_follow, a_table, a_kind, a_value, a_length, a_fault, a_defs, a_refs, a_imports, a_defAt, a_refAt, a_scopeOf, a_importAt, a_around, a_beginsAt, a_endsAt, a_names, a_scopes, a_twice, a_open, a_stale, a_link, a_kept, a_stack, a_trial, a_opened) => ((r_102 = 0 → (wX_rename_171 post (nI (32 * f + d)) (nI (tx_va T (20 * f + (tx_ps G T f 1).getD d 0))) f_nP f_built f_nullable f_productive f_sp f_depth f_at a_pRule a_pLen a_pSymbol a_pRole a_pScope a_made a_users a_first a_follow a_table a_kind a_value a_length a_fault a_defs a_refs a_imports a_defAt a_refAt a_scopeOf a_importAt a_around a_beginsAt a_endsAt a_names a_scopes a_twice a_open a_stale a_link a_kept a_stack a_trial a_opened)) ∧ (¬ r_102 = 0 → (post 1 (f_nP, f_built, f_nullable, f_productive, f_sp, f_depth, f_at, a_pRule, a_pLen, a_pSymbol, a_pRole, a_pScope, a_made, a_users, a_first, a_follow, a_table, a_kind, a_value, a_length, a_fault, a_defs, a_refs, a_imports, a_defAt, a_refAt, a_scopeOf, a_importAt, a_around, a_beginsAt, a_endsAt, a_names, a_scopes, a_twice, a_open, a_stale, a_link, a_kept, a_stack, a_trial, a_opened))))) (f_nP, f_built, f_nullable, f_productive, f_sp, f_depth, f_at, a_pRule, a_pLen, a_pSymbol, a_pRole, a_pScope, a_made, a_users, a_first, a_follow, a_table, a_kind, a_value, a_length, a_fault, a_defs, a_refs, a_imports, a_defAt, a_refAt, a_scopeOf, a_importAt, a_around, a_beginsAt, a_endsAt, a_names, a_scopes, a_twice, a_open, a_stale, a_link, a_kept, a_stack, a_trial, a_opened))) ∧ (¬ (a_twice (nI f).toNatClampNeg) = nI (tx_dup G T f) → (wX_rename_171 post (nI (32 * f + d)) (nI (tx_va T (20 * f + (tx_ps G T f 1).getD d 0))) f_nP f_built f_nullable f_productive f_sp f_depth f_at a_pRule a_pLen a_pSymbol a_pRole a_pScope a_made a_users a_first a_follow a_table a_kind a_value a_length a_fault a_defs a_refs a_imports a_defAt a_refAt a_scopeOf a_importAt a_around a_beginsAt a_endsAt a_names a_scopes a_twice a_open a_stale a_link a_kept a_stack a_trial a_opened))))) (nI (gg_np G), 1, f_nullable, f_productive, f_sp, f_depth, f_at, nA (gg_ru G), nA (gg_ln G), nA (gg_sy G), gg_ro G, nA (gg_sc G), nA md, nA us, a_first, a_follow, a_table, a_kind, nA (tx_va T), a_length, a_fault, a_defs, a_refs, a_imports, a_defAt, a_refAt, a_scopeOf, a_importAt, a_around, a_beginsAt, a_endsAt, a_names, a_scopes, a_twice, a_open, a_stale, a_link, a_kept, a_stack, a_trial, a_opened) (nI (32 * f + d)) (nI nm) := by
    intro a_link a_open a_stale a_kept hkp
    refine xr_write (va := tx_va T) hf h20 hd hnm hva hkp hX ?_
    intro a_names1 a_twice1 a_stale1 g1 g2
    dsimp only
    have undo : ∀ a_link2 a_open2 a_stale2, ¬ rn_ok G T (rn_T T (rn_v G T f ((tx_ps G T f 1).getD d 0) d nm (tx_va T))) f → wX_rename_171 post (nI (32 * f + d)) (nI (tx_va T (20 * f + (tx_ps G T f 1).getD d 0))) (nI (gg_np G)) 1 f_nullable f_productive f_sp f_depth f_at (nA (gg_ru G)) (nA (gg_ln G)) (nA (gg_sy G)) (gg_ro G) (nA (gg_sc G)) (nA md) (nA us) a_first a_follow a_table a_kind (nA (rn_v G T f ((tx_ps G T f 1).getD d 0) d nm (tx_va T))) a_length a_fault a_defs a_refs a_imports a_defAt a_refAt a_scopeOf a_importAt a_around a_beginsAt a_endsAt a_names1 a_scopes a_twice1 a_open2 a_stale2 a_link2 a_kept a_stack a_trial a_opened := by
      intro a_link2 a_open2 a_stale2 hno
      unfold wX_rename_171
      refine xr_write (va := rn_v G T f ((tx_ps G T f 1).getD d 0) d nm (tx_va T)) hf h20 hd (hva _) hv1 hkp g1 ?_
      intro a_names3 a_twice3 a_stale3 q1 q2
      rw [rn_back hf hd] at q1 ⊢
      exact hP0 a_names3 a_twice3 a_open2 a_stale3 a_link2 a_kept hno q1 q2
    have htw := (g1 f hf).2.2
    have hdup1 := tx_dup_20 (G := G) (T := rn_T T (rn_v G T f ((tx_ps G T f 1).getD d 0) d nm (tx_va T))) (f := f)
    rw [nI_clamp (show f < 2 ^ 31 by omega), htw]
    refine ⟨pk_in f 4 hf, pk_eq (tx_dup G (rn_T T (rn_v G T f ((tx_ps G T f 1).getD d 0) d nm (tx_va T))) f) (tx_dup G T f) (fun he => ?_) (fun he => undo a_link a_open a_stale1 (fun h => he h.1))⟩
    refine ⟨5, xr_4 (va := rn_v G T f ((tx_ps G T f 1).getD d 0) d nm (tx_va T)) h20 hv1 hkp g1 ?_ 4 0 1 a_link a_open a_stale1 (by omega) (by omega) ⟨fun _ g' r hg' => by omega, fun _ => rfl⟩ (fun g' hg' => by omega) (fun g' _ hg' => g2 g' hg')⟩
    intro sm a_link2 a_open2 a_stale2 hsm hs hok
    dsimp only
    have hiff : rn_ok G T (rn_T T (rn_v G T f ((tx_ps G T f 1).getD d 0) d nm (tx_va T))) f ↔ sm = 1 := by
      rw [hs]
      constructor
      · intro h g r hg hr
        exact h.2 g _ hg (tx_ps_in (dr_m hr)).2
      · intro h
        refine ⟨he, fun g a hg ha => ?_⟩
        have ha20 := (tx_is_i.mp ha).2.1
        have hle := h20 g
        have hm : a ∈ tx_ps G T g 2 := List.mem_filter.mpr ⟨List.mem_range.mpr (by omega), ha⟩
        obtain ⟨r, r1, r2⟩ := dr_x hm
        have := h g r hg r1
        rw [r2] at this
        exact this
    refine pk_eq sm 0 (fun h0 => undo a_link2 a_open2 a_stale2 (fun h => by have := hiff.mp h; omega)) (fun h0 => ?_)
    exact hP1 a_names1 a_twice1 a_open2 a_stale2 a_link2 a_kept (hiff.mpr (by omega)) g1 hok
  have loop : ∀ k g a_link a_open a_stale a_kept, g + k = 4 → (∀ g', g' < g → ∀ r, r < (tx_ps G T g' 2).length → a_kept (20 * g' + r) = tx_lk G T g' ((tx_ps G T g' 2).getD r 0)) → (∀ g', g ≤ g' → g' < 4 → a_stale g' = 0 → xl_ok G T g' a_link a_open) →
      wX_rename_81 post (nI f) (nI nm) (nI (32 * f + d)) (nI (tx_va T (20 * f + (tx_ps G T f 1).getD d 0))) (nI (tx_dup G T f)) (k + 1) (nI g) (nI (gg_np G)) 1 f_nullable f_productive f_sp f_depth f_at (nA (gg_ru G)) (nA (gg_ln G)) (nA (gg_sy G)) (gg_ro G) (nA (gg_sc G)) (nA md) (nA us) a_first a_follow a_table a_kind (nA (tx_va T)) a_length a_fault a_defs a_refs a_imports a_defAt a_refAt a_scopeOf a_importAt a_around a_beginsAt a_endsAt a_names a_scopes a_twice a_open a_stale a_link a_kept a_stack a_trial a_opened := by
    intro k
    induction k with
    | zero =>
      intro g a_link a_open a_stale a_kept hg h1 h2
      have e : g = 4 := by omega
      subst e
      refine br_t (by decide) (main a_link a_open a_stale a_kept (fun g r hg hr => h1 g hg r hr))
    | succ k ih =>
      intro g a_link a_open a_stale a_kept hg h1 h2
      have hg4 : g < 4 := by omega
      refine pk_le 4 g (fun h => absurd h (by omega)) (fun _ => ?_)
      refine xl_relink (z_link := a_link) (z_open := a_open) (z_stale := a_stale) hg4 h20 hva hX (h2 g (Nat.le_refl g) hg4) ?_
      intro a_link' a_open' a_stale' q1 q2 q3 q4 q5
      dsimp only
      refine nm_r (e' := nI (20 * g + 0)) (by rw [show (20 : Int32) = nI 20 from rfl, pk_mul]; rfl) ⟨(tx_ps G T g 2).length + 1, xr_100 (z_kept := a_kept) hg4 (hX g hg4).1.2.2.1 q2.1 ?_ (tx_ps G T g 2).length 0 a_kept (by omega) (fun r' hr' => by omega) (fun _ _ => rfl)⟩
      intro a_kept' w1 w2
      refine ih (g + 1) a_link' a_open' a_stale' a_kept' (by omega) (fun g' hg' r hr => ?_) (fun g' hg' hg'' h0 => ?_)
      · by_cases e : g' = g
        · subst e; exact w1 r hr
        · have hl := tx_ps_len (G := G) (T := T) (f := g') (x := 2)
          rw [w2 _ (by omega)]
          exact h1 g' (by omega) r hr
      · have e : g' ≠ g := by omega
        rw [q5 g' e] at h0
        obtain ⟨w3, w4⟩ := h2 g' (by omega) hg'' h0
        refine ⟨fun r hr => ?_, by rw [q4 g' e]; exact w4⟩
        have hl := tx_ps_len (G := G) (T := T) (f := g') (x := 2)
        rw [q3 _ (by omega)]
        exact w3 r hr
  exact loop 4 0 a_link a_open a_stale a_kept (by omega) (fun g' hg' => by omega) (fun g' _ hg' h0 => hL g' hg' h0)
end XRN
end
section
/-! the reference's rename -/
theorem ry_F {G : gg_T} {b : Nat} {T : tx_T} {va : Nat → Nat} {kn : Nat → Nat} {a_bad a_part a_scopes a_inner : Nat → Int32} (h : yy_F G b T kn a_bad a_part a_scopes a_inner) : yy_F G b (rn_T T va) kn a_bad a_part a_scopes a_inner := by
  refine ⟨h.1, h.2.1, fun f hf hk => ?_⟩
  have hA := h.2.2 f hf hk
  unfold yy_A at hA ⊢
  rw [cg_err (T := T) (T' := rn_T T va) rn_tok rn_le, cg_inn (T := T) (T' := rn_T T va) rn_tok] at hA
  exact hA
theorem ry_z {G : gg_T} {b : Nat} {T : tx_T} {va : Nat → Nat} (h : zz_ok G b T) (hv : ∀ c, va c < 16) : zz_ok G b (rn_T T va) := ⟨h.1, h.2.1, h.2.2.1, h.2.2.2.1, hv, h.2.2.2.2.2.1, h.2.2.2.2.2.2⟩
theorem ry_zz {G : gg_T} {b : Nat} {T : tx_T} {va : Nat → Nat} {kn : Nat → Nat} {a_bad a_part a_scopes a_inner : Nat → Int32} (h : yy_F G b (rn_T T va) kn a_bad a_part a_scopes a_inner) : yy_F G b T kn a_bad a_part a_scopes a_inner := by
  have := ry_F (va := tx_va T) h
  exact this
theorem m2_n {n : Nat} (h : n < 2 ^ 31) : ¬ (-2 : Int32) = nI n := fun e => absurd (e ▸ nI_pos' h) (by decide : ¬ (0 : Int32) ≤ -2)
def yr_bf (G : gg_T) (T : tx_T) (k : Nat) (a_before : Nat → Int32) : Prop := ∀ c, c < k → a_before c = if tx_is G T (c / 20) (c % 20) 2 = true then tx_lk G T (c / 20) (c % 20) else -2
def yr_kz (k : Nat) : Nat → Nat := fun g => if 20 * g < k then 1 else 0
theorem yr_kz_s {kn : Nat → Nat} {k : Nat} (h : ∀ g, un (yr_kz k) (k / 20) 1 g = 1 → kn g = 1) : ∀ g, yr_kz (k + 1) g = 1 → kn g = 1 := by
  intro g hg
  apply h
  by_cases e : g = k / 20
  · rw [e]; exact un_s
  · rw [un_n e]
    unfold yr_kz at hg ⊢
    by_cases h1 : 20 * g < k
    · rw [if_pos h1]
    · rw [if_neg (by omega)] at hg
      omega
theorem yr_h {G : gg_T} {T : tx_T} {f d c : Nat} {a_before : Nat → Int32} (hf : f < 4) (hd : d < 20) (hc : c < 80) (h : a_before c = if tx_is G T (c / 20) (c % 20) 2 = true then tx_lk G T (c / 20) (c % 20) else -2) : a_before c = nI (32 * f + d) ↔ rn_h G T f d c := by
  rw [h]
  by_cases hi : tx_is G T (c / 20) (c % 20) 2 = true
  · rw [if_pos hi]; exact ⟨fun h => ⟨hc, hi, h⟩, fun h => h.2.2⟩
  · rw [if_neg hi]; exact ⟨fun h => absurd h (m2_n (by omega)), fun h => absurd h.2.1 hi⟩
section YRV
variable {G : gg_T} {f_built f_some f_empty f_wn f_nt : Int32} {a_first a_follow a_kind a_val a_len a_word a_reach a_beyond a_way a_known a_bad a_part a_scopes a_inner a_tRule a_tFrom a_tTo a_before : Nat → Int32}
theorem yr_17 {T : tx_T} {post : SY → Prop} {f q d nm : Nat} {va : Nat → Nat} (hf : f < 4) (hd : d < 20) (hnm : nm < 16) (hb : yr_bf G T 80 a_before) (hP : post (nI (gg_np G), f_built, f_some, f_empty, f_wn, f_nt, nA (gg_ru G), nA (gg_sc G), nA (gg_ln G), nA (gg_sy G), gg_ro G, a_first, a_follow, a_kind, nA (rn_v G T f q d nm va), a_len, a_word, a_reach, a_beyond, a_way, a_known, a_bad, a_part, a_scopes, a_inner, a_tRule, a_tFrom, a_tTo, a_before)) :
    ∀ k c, c + k = 80 → wY_revalue_17 post (nI f) (nI d) (nI nm) (nI (gg_np G)) f_built f_some f_empty f_wn f_nt (k + 1) (nI c) (nA (gg_ru G)) (nA (gg_sc G)) (nA (gg_ln G)) (nA (gg_sy G)) (gg_ro G) a_first a_follow a_kind (nA (rn_w G T f q d nm va (fun x => x < c))) a_len a_word a_reach a_beyond a_way a_known a_bad a_part a_scopes a_inner a_tRule a_tFrom a_tTo a_before := by
  have e32 : (32 : Int32) * nI f + nI d = nI (32 * f + d) := by rw [show (32 : Int32) = nI 32 from rfl, pk_mul, nI_add]
  intro k
  induction k with
  | zero =>
    intro c hc
    have e : c = 80 := by omega
    subst e
    refine br_t (by decide) ?_
    rw [rn_w_v (fun x hx => hx.1)]
    exact hP
  | succ k ih =>
    intro c hc
    have hc80 : c < 80 := by omega
    refine pk_le 80 c (fun h => absurd h (by omega)) (fun _ => ⟨pk_in c 80 hc80, ?_⟩)
    rw [e32, nI_clamp (show c < 2 ^ 31 by omega), vb_w (show nm < 128 by omega), nA_upd]
    have hh := yr_h (f := f) (d := d) hf hd hc80 (hb c hc80)
    have := ih (c + 1) (by omega)
    refine br_c (fun he => ⟨pk_in c 80 hc80, nm_e (nm_r (nI_1 c) ?_)⟩) (fun he => nm_r (nI_1 c) ?_)
    · have e : rn_w G T f q d nm va (fun x => x < c + 1) = un (rn_w G T f q d nm va (fun x => x < c)) c nm := by
        rw [rn_w_a (hh.mp he)]
        exact rn_w_c (fun x _ => ⟨fun h => by have h : x < c + 1 := h; show x < c ∨ x = c; omega, fun h => by have h : x < c ∨ x = c := h; show x < c + 1; omega⟩)
      rw [← e]
      exact this
    · have e : rn_w G T f q d nm va (fun x => x < c + 1) = rn_w G T f q d nm va (fun x => x < c) := by
        refine rn_w_c (fun x hx => ⟨fun h => ?_, fun h => by have h : x < c := h; show x < c + 1; omega⟩)
        have h : x < c + 1 := h
        by_cases ex : x = c
        · subst ex; exact absurd (hh.mpr hx) he
        · show x < c; omega
      rw [← e]
      exact this
theorem yr_revalue {T : tx_T} {post : SY → Prop} {f q d nm : Nat} {va : Nat → Nat} (hf : f < 4) (hq : q < 20) (hd : d < 20) (hnm : nm < 16) (hb : yr_bf G T 80 a_before) (hP : post (nI (gg_np G), f_built, f_some, f_empty, f_wn, f_nt, nA (gg_ru G), nA (gg_sc G), nA (gg_ln G), nA (gg_sy G), gg_ro G, a_first, a_follow, a_kind, nA (rn_v G T f q d nm va), a_len, a_word, a_reach, a_beyond, a_way, a_known, a_bad, a_part, a_scopes, a_inner, a_tRule, a_tFrom, a_tTo, a_before)) :
    wpY_revalue post (nI (gg_np G), f_built, f_some, f_empty, f_wn, f_nt, nA (gg_ru G), nA (gg_sc G), nA (gg_ln G), nA (gg_sy G), gg_ro G, a_first, a_follow, a_kind, nA va, a_len, a_word, a_reach, a_beyond, a_way, a_known, a_bad, a_part, a_scopes, a_inner, a_tRule, a_tFrom, a_tTo, a_before) (nI f) (nI q) (nI d) (nI nm) := by
  have e20 : (20 : Int32) * nI f + nI q = nI (20 * f + q) := by rw [show (20 : Int32) = nI 20 from rfl, pk_mul, nI_add]
  unfold wpY_revalue
  dsimp only
  rw [e20, nI_clamp (show 20 * f + q < 2 ^ 31 by omega), vb_w (show nm < 128 by omega), nA_upd, ← rn_w_s (G := G) (T := T) (d := d) (D := fun x => x < 0) (fun c h => absurd h (Nat.not_lt_zero c))]
  exact ⟨pk_in (20 * f + q) 80 (by omega), nm_e ⟨81, yr_17 hf hd hnm hb hP 80 0 (by omega)⟩⟩
end YRV
section YRN
variable {G : gg_T} {b : Nat} {T : tx_T} {f_some f_empty f_wn f_nt : Int32} {a_first a_follow a_word a_reach a_beyond a_way a_bad a_part a_scopes a_inner a_tRule a_tFrom a_tTo a_before : Nat → Int32} {kn : Nat → Nat} {kz : Nat → Nat}
theorem yr_156 {post : Int32 → SY → Prop} {f q d : Nat} {v1 : Nat → Nat} {E : Prop} (hz : zz_ok G b T) (hb1 : b = 1) (hf : f < 4) (hv1 : ∀ c, v1 c < 16) (hb : yr_bf G T 80 a_before) {x4 x5 : Int32}
    (hP1 : ∀ (f_wn f_nt : Int32) (a_word a_reach a_beyond a_way a_bad a_part a_scopes a_inner a_tRule a_tFrom a_tTo : Nat → Int32) (kn : Nat → Nat), yy_F G b (rn_T T v1) kn a_bad a_part a_scopes a_inner → (E ∧ ∀ c, c < 80 → tx_is G T (c / 20) (c % 20) 2 = true → tx_lk G (rn_T T v1) (c / 20) (c % 20) = tx_lk G T (c / 20) (c % 20)) → post 1 (nI (gg_np G), nI b, f_some, f_empty, f_wn, f_nt, nA (gg_ru G), nA (gg_sc G), nA (gg_ln G), nA (gg_sy G), gg_ro G, a_first, a_follow, nA (tx_kd T), nA v1, nA (tx_le T), a_word, a_reach, a_beyond, a_way, nA kn, a_bad, a_part, a_scopes, a_inner, a_tRule, a_tFrom, a_tTo, a_before))
    (hP0 : ∀ (f_wn f_nt : Int32) (a_word a_reach a_beyond a_way a_bad a_part a_scopes a_inner a_tRule a_tFrom a_tTo : Nat → Int32) (kn : Nat → Nat), yy_F G b (rn_T T v1) kn a_bad a_part a_scopes a_inner → ¬ (E ∧ ∀ c, c < 80 → tx_is G T (c / 20) (c % 20) 2 = true → tx_lk G (rn_T T v1) (c / 20) (c % 20) = tx_lk G T (c / 20) (c % 20)) →
      wpY_revalue (fun u => match u with | (f_np, f_built, f_some, f_empty, f_wn, f_nt, a_pRule, a_pScope, a_pLen, a_sym, a_role, a_first, a_follow, a_kind, a_val, a_len, a_word, a_reach, a_beyond, a_way, a_known, a_bad, a_part, a_scopes, a_inner, a_tRule, a_tFrom, a_tTo, a_before) => (narrow .boolean (.int 0) = .int (0 : Int32) ∧ (post 0 (f_np, f_built, f_some, f_empty, f_wn, f_nt, a_pRule, a_pScope, a_pLen, a_sym, a_role, a_first, a_follow, a_kind, a_val, a_len, a_word, a_reach, a_beyond, a_way, a_known, a_bad, a_part, a_scopes, a_inner, a_tRule, a_tFrom, a_tTo, a_before)))) (nI (gg_np G), nI b, f_some, f_empty, f_wn, f_nt, nA (gg_ru G), nA (gg_sc G), nA (gg_ln G), nA (gg_sy G), gg_ro G, a_first, a_follow, nA (tx_kd T), nA v1, nA (tx_le T), a_word, a_reach, a_beyond, a_way, nA kn, a_bad, a_part, a_scopes, a_inner, a_tRule, a_tFrom, a_tTo, a_before) (nI f) x4 (nI d) x5) :
    ∀ k c sm f_wn f_nt a_word a_reach a_beyond a_way a_bad a_part a_scopes a_inner a_tRule a_tFrom a_tTo kn, c + k = 80 → sm ≤ 1 → (sm = 1 ↔ E ∧ ∀ c', c' < c → tx_is G T (c' / 20) (c' % 20) 2 = true → tx_lk G (rn_T T v1) (c' / 20) (c' % 20) = tx_lk G T (c' / 20) (c' % 20)) → yf G b (rn_T T v1) (yr_kz 80) kn a_bad a_part a_scopes a_inner →
      wY_rename_156 post (nI f) (nI d) x4 x5 (k + 1) (nI sm) (nI c) (nI (gg_np G)) (nI b) f_some f_empty f_wn f_nt (nA (gg_ru G)) (nA (gg_sc G)) (nA (gg_ln G)) (nA (gg_sy G)) (gg_ro G) a_first a_follow (nA (tx_kd T)) (nA v1) (nA (tx_le T)) a_word a_reach a_beyond a_way (nA kn) a_bad a_part a_scopes a_inner a_tRule a_tFrom a_tTo a_before := by
  intro k
  induction k with
  | zero =>
    intro c sm f_wn f_nt a_word a_reach a_beyond a_way a_bad a_part a_scopes a_inner a_tRule a_tFrom a_tTo kn hc hsm hs hF
    have e : c = 80 := by omega
    subst e
    refine br_t (by decide) (pk_eq sm 0 (fun h0 => ?_) (fun h0 => ?_))
    · subst h0
      exact hP0 f_wn f_nt a_word a_reach a_beyond a_way a_bad a_part a_scopes a_inner a_tRule a_tFrom a_tTo kn hF.1 (fun h => by have := hs.mpr h; omega)
    · have e1 : sm = 1 := by omega
      subst e1
      exact ⟨nr_1, hP1 f_wn f_nt a_word a_reach a_beyond a_way a_bad a_part a_scopes a_inner a_tRule a_tFrom a_tTo kn hF.1 (hs.mp rfl)⟩
  | succ k ih =>
    intro c sm f_wn f_nt a_word a_reach a_beyond a_way a_bad a_part a_scopes a_inner a_tRule a_tFrom a_tTo kn hc hsm hs hF
    have hc80 : c < 80 := by omega
    refine pk_le 80 c (fun h => absurd h (by omega)) (fun _ => ⟨pk_in c 80 hc80, ?_⟩)
    have hbc := hb c hc80
    rw [nI_clamp (show c < 2 ^ 31 by omega)]
    by_cases hi : tx_is G T (c / 20) (c % 20) 2 = true
    · rw [if_pos hi] at hbc
      have hi2 := tx_is_i.mp hi
      have hnle : ¬ a_before c ≤ -2 := by
        rw [hbc]
        rcases tx_lk_c (G := G) (T := T) (f := c / 20) (a := c % 20) (by omega) with h | ⟨g, x, h1, h2, h3⟩
        · rw [h]; decide
        · rw [h3]
          intro hle
          exact absurd (Int32.le_trans (nI_pos' (n := 32 * g + x) (by omega)) hle) (by decide)
      refine br_f hnle ⟨by decide, by decide, ?_⟩
      have ediv : nI c / 20 = nI (c / 20) := pk_div (d := 20) (by omega) (by omega) (by omega)
      have erem : nI c - nI c / 20 * 20 = nI (c % 20) := pk_rem (d := 20) (by omega) (by omega) (by omega)
      rw [erem, ediv]
      have hkz : yr_kz 80 (c / 20) = 1 := if_pos (by omega)
      refine yq_link (T := rn_T T v1) (ry_z hz hv1) hb1 (by omega) (by omega) hi2.1 hkz hF ?_
      intro f_wn f_nt a_word a_reach a_beyond a_way a_bad a_part a_scopes a_inner a_tRule a_tFrom a_tTo kn hF
      dsimp only
      rw [hbc]
      refine ⟨pk_in c 80 hc80, br_c (fun he => nm_r (nI_1 c) (ih (c + 1) sm f_wn f_nt a_word a_reach a_beyond a_way a_bad a_part a_scopes a_inner a_tRule a_tFrom a_tTo kn (by omega) hsm ?_ hF)) (fun he => nm_r (nI_1 c) (ih (c + 1) 0 f_wn f_nt a_word a_reach a_beyond a_way a_bad a_part a_scopes a_inner a_tRule a_tFrom a_tTo kn (by omega) (by omega) ⟨fun h => by omega, fun h => absurd (h.2 c (by omega) hi) he⟩ hF))⟩
      rw [hs]
      refine ⟨fun h => ⟨h.1, fun c' hc' hi' => ?_⟩, fun h => ⟨h.1, fun c' hc' hi' => h.2 c' (by omega) hi'⟩⟩
      by_cases e : c' = c
      · subst e; exact he
      · exact h.2 c' (by omega) hi'
    · rw [if_neg hi] at hbc
      rw [hbc]
      refine br_t (by decide) (nm_r (nI_1 c) (ih (c + 1) sm f_wn f_nt a_word a_reach a_beyond a_way a_bad a_part a_scopes a_inner a_tRule a_tFrom a_tTo kn (by omega) hsm ?_ hF))
      rw [hs]
      refine ⟨fun h => ⟨h.1, fun c' hc' hi' => ?_⟩, fun h => ⟨h.1, fun c' hc' hi' => h.2 c' (by omega) hi'⟩⟩
      by_cases e : c' = c
      · subst e; exact absurd hi' hi
      · exact h.2 c' (by omega) hi'
theorem yr_69 {post : Int32 → SY → Prop} {x1 x2 x3 x4 x5 x6 : Int32} (hz : zz_ok G b T) (hb1 : b = 1)
    (hQ : ∀ a_before (f_wn f_nt : Int32) (a_word a_reach a_beyond a_way a_bad a_part a_scopes a_inner a_tRule a_tFrom a_tTo : Nat → Int32) (kn : Nat → Nat), yr_bf G T 80 a_before → yf G b T (yr_kz 80) kn a_bad a_part a_scopes a_inner → wY_rename_69 post x1 x2 x3 x4 x5 x6 1 80 (nI (gg_np G)) (nI b) f_some f_empty f_wn f_nt (nA (gg_ru G)) (nA (gg_sc G)) (nA (gg_ln G)) (nA (gg_sy G)) (gg_ro G) a_first a_follow (nA (tx_kd T)) (nA (tx_va T)) (nA (tx_le T)) a_word a_reach a_beyond a_way (nA kn) a_bad a_part a_scopes a_inner a_tRule a_tFrom a_tTo a_before) :
    ∀ k c a_before f_wn f_nt a_word a_reach a_beyond a_way a_bad a_part a_scopes a_inner a_tRule a_tFrom a_tTo kn, c + k = 80 → yr_bf G T c a_before → yf G b T (yr_kz c) kn a_bad a_part a_scopes a_inner → wY_rename_69 post x1 x2 x3 x4 x5 x6 (k + 1) (nI c) (nI (gg_np G)) (nI b) f_some f_empty f_wn f_nt (nA (gg_ru G)) (nA (gg_sc G)) (nA (gg_ln G)) (nA (gg_sy G)) (gg_ro G) a_first a_follow (nA (tx_kd T)) (nA (tx_va T)) (nA (tx_le T)) a_word a_reach a_beyond a_way (nA kn) a_bad a_part a_scopes a_inner a_tRule a_tFrom a_tTo a_before := by
  intro k
  induction k with
  | zero =>
    intro c a_before f_wn f_nt a_word a_reach a_beyond a_way a_bad a_part a_scopes a_inner a_tRule a_tFrom a_tTo kn hc hb hF
    have e : c = 80 := by omega
    subst e
    exact hQ a_before f_wn f_nt a_word a_reach a_beyond a_way a_bad a_part a_scopes a_inner a_tRule a_tFrom a_tTo kn hb hF
  | succ k ih =>
    intro c a_before f_wn f_nt a_word a_reach a_beyond a_way a_bad a_part a_scopes a_inner a_tRule a_tFrom a_tTo kn hc hb hF
    have hc80 : c < 80 := by omega
    have ediv : nI c / 20 = nI (c / 20) := pk_div (d := 20) (by omega) (by omega) (by omega)
    have erem : nI c - nI c / 20 * 20 = nI (c % 20) := pk_rem (d := 20) (by omega) (by omega) (by omega)
    refine pk_le 80 c (fun h => absurd h (by omega)) (fun _ => ⟨by decide, by decide, ?_⟩)
    rw [erem, ediv]
    refine yq_is (x := 2) hz hb1 (by omega) (by omega) hF ?_ ?_
    · intro hi f_wn f_nt a_word a_reach a_beyond a_way a_bad a_part a_scopes a_inner a_tRule a_tFrom a_tTo kn hF
      dsimp only
      rw [nI_clamp (show c < 2 ^ 31 by omega), vs_m2w]
      refine br_t rfl ⟨pk_in c 80 hc80, nm_e (nm_r (nI_1 c) (ih (c + 1) _ f_wn f_nt a_word a_reach a_beyond a_way a_bad a_part a_scopes a_inner a_tRule a_tFrom a_tTo kn (by omega) (fun c' hc' => ?_) ⟨hF.1, yr_kz_s hF.2⟩))⟩
      by_cases e : c' = c
      · subst e; rw [pk_us, if_neg (by rw [hi]; decide)]
      · rw [pk_un e]; exact hb c' (by omega)
    · intro hi f_wn f_nt a_word a_reach a_beyond a_way a_bad a_part a_scopes a_inner a_tRule a_tFrom a_tTo kn hF
      dsimp only
      have hi2 := tx_is_i.mp hi
      refine br_f (by decide) ⟨by decide, by decide, ?_⟩
      refine yq_link hz hb1 (by omega) (by omega) hi2.1 un_s hF ?_
      intro f_wn f_nt a_word a_reach a_beyond a_way a_bad a_part a_scopes a_inner a_tRule a_tFrom a_tTo kn hF
      dsimp only
      rw [nI_clamp (show c < 2 ^ 31 by omega), vs_lk (by omega)]
      refine ⟨pk_in c 80 hc80, nm_e (nm_r (nI_1 c) (ih (c + 1) _ f_wn f_nt a_word a_reach a_beyond a_way a_bad a_part a_scopes a_inner a_tRule a_tFrom a_tTo kn (by omega) (fun c' hc' => ?_) ⟨hF.1, yr_kz_s hF.2⟩))⟩
      by_cases e : c' = c
      · subst e; rw [pk_us, if_pos hi]
      · rw [pk_un e]; exact hb c' (by omega)
theorem yr_rename {post : Int32 → SY → Prop} {f d nm : Nat} (hz : zz_ok G b T) (hb1 : b = 1) (hf : f < 4) (hd : d < (tx_ps G T f 1).length) (hnm : nm < 16) (hF : yf G b T kz kn a_bad a_part a_scopes a_inner)
    (hP1 : ∀ a_before (f_wn f_nt : Int32) (a_word a_reach a_beyond a_way a_bad a_part a_scopes a_inner a_tRule a_tFrom a_tTo : Nat → Int32) (kn : Nat → Nat), rn_ok G T (rn_T T (rn_v G T f ((tx_ps G T f 1).getD d 0) d nm (tx_va T))) f → yy_F G b (rn_T T (rn_v G T f ((tx_ps G T f 1).getD d 0) d nm (tx_va T))) kn a_bad a_part a_scopes a_inner → post 1 (nI (gg_np G), nI b, f_some, f_empty, f_wn, f_nt, nA (gg_ru G), nA (gg_sc G), nA (gg_ln G), nA (gg_sy G), gg_ro G, a_first, a_follow, nA (tx_kd T), nA (rn_v G T f ((tx_ps G T f 1).getD d 0) d nm (tx_va T)), nA (tx_le T), a_word, a_reach, a_beyond, a_way, nA kn, a_bad, a_part, a_scopes, a_inner, a_tRule, a_tFrom, a_tTo, a_before))
    (hP0 : ∀ a_before (f_wn f_nt : Int32) (a_word a_reach a_beyond a_way a_bad a_part a_scopes a_inner a_tRule a_tFrom a_tTo : Nat → Int32) (kn : Nat → Nat), ¬ rn_ok G T (rn_T T (rn_v G T f ((tx_ps G T f 1).getD d 0) d nm (tx_va T))) f → yy_F G b T kn a_bad a_part a_scopes a_inner → post 0 (nI (gg_np G), nI b, f_some, f_empty, f_wn, f_nt, nA (gg_ru G), nA (gg_sc G), nA (gg_ln G), nA (gg_sy G), gg_ro G, a_first, a_follow, nA (tx_kd T), nA (tx_va T), nA (tx_le T), a_word, a_reach, a_beyond, a_way, nA kn, a_bad, a_part, a_scopes, a_inner, a_tRule, a_tFrom, a_tTo, a_before)) : wpY_rename post (nI (gg_np G), nI b, f_some, f_empty, f_wn, f_nt, nA (gg_ru G), nA (gg_sc G), nA (gg_ln G), nA (gg_sy G), gg_ro G, a_first, a_follow, nA (tx_kd T), nA (tx_va T), nA (tx_le T), a_word, a_reach, a_beyond, a_way, nA kn, a_bad, a_part, a_scopes, a_inner, a_tRule, a_tFrom, a_tTo, a_before) (nI f) (nI d) (nI nm) := by
  have hl20 := tx_ps_len (G := G) (T := T) (f := f) (x := 1)
  have hqm := tx_ps_in (dr_m hd)
  have h20 := hz.2.2.2.2.2.1
  have hva := hz.2.2.2.2.1
  have hv1 : ∀ c, rn_v G T f ((tx_ps G T f 1).getD d 0) d nm (tx_va T) c < 16 := by
    intro c
    by_cases h : c = 20 * f + (tx_ps G T f 1).getD d 0 ∨ rn_h G T f d c
    · rw [rn_v1 h]; exact hnm
    · rw [rn_v0 h]; exact hva c
  have hso : (tx_ps G T f 1)[d]? = some ((tx_ps G T f 1).getD d 0) := by rw [List.getD_eq_getElem?_getD, List.getElem?_eq_getElem hd]; rfl
  refine br_f (by rw [hb1]; decide) (yq_f hf (br_f (by decide) ?_))
  refine yq_place (x := 1) hz hb1 hf (by omega) hF ?_
  intro f_wn f_nt a_word a_reach a_beyond a_way a_bad a_part a_scopes a_inner a_tRule a_tFrom a_tTo kn hF _
  dsimp only
  rw [hso]
  have e20 : ∀ x : Nat, (20 : Int32) * nI f + nI x = nI (20 * f + x) := fun x => by rw [show (20 : Int32) = nI 20 from rfl, pk_mul, nI_add]
  show wY_rename_26 post (nI f) (nI d) (nI nm) (nI ((tx_ps G T f 1).getD d 0)) (nI (gg_np G)) (nI b) f_some f_empty f_wn f_nt (nA (gg_ru G)) (nA (gg_sc G)) (nA (gg_ln G)) (nA (gg_sy G)) (gg_ro G) a_first a_follow (nA (tx_kd T)) (nA (tx_va T)) (nA (tx_le T)) a_word a_reach a_beyond a_way (nA kn) a_bad a_part a_scopes a_inner a_tRule a_tFrom a_tTo a_before
  unfold wY_rename_26
  rw [e20, nA_cl (show 20 * f + (tx_ps G T f 1).getD d 0 < 2 ^ 31 by omega)]
  refine br_f (nI_pos (by omega)) (br_f (nI_pos (by omega)) (pk_le nm 15 (fun _ => ⟨pk_in (20 * f + (tx_ps G T f 1).getD d 0) 80 (by omega), nm_e ?_⟩) (fun h => absurd h (by omega))))
  refine yq_dup hz hb1 hf hF ?_
  intro f_wn f_nt a_word a_reach a_beyond a_way a_bad a_part a_scopes a_inner a_tRule a_tFrom a_tTo kn hF
  dsimp only
  have hdup := tx_dup_20 (G := G) (T := T) (f := f)
  have hdup1 := tx_dup_20 (G := G) (T := rn_T T (rn_v G T f ((tx_ps G T f 1).getD d 0) d nm (tx_va T))) (f := f)
  have hiff : rn_ok G T (rn_T T (rn_v G T f ((tx_ps G T f 1).getD d 0) d nm (tx_va T))) f ↔ (tx_dup G (rn_T T (rn_v G T f ((tx_ps G T f 1).getD d 0) d nm (tx_va T))) f = tx_dup G T f ∧ ∀ c, c < 80 → tx_is G T (c / 20) (c % 20) 2 = true → tx_lk G (rn_T T (rn_v G T f ((tx_ps G T f 1).getD d 0) d nm (tx_va T))) (c / 20) (c % 20) = tx_lk G T (c / 20) (c % 20)) := by
    refine and_congr Iff.rfl ⟨fun h c hc hi => h _ _ (by omega) hi, fun h g a hg hi => ?_⟩
    have ha := (tx_is_i.mp hi).2.1
    have hg20 := h20 g
    have := h (20 * g + a) (by omega)
    rw [show (20 * g + a) / 20 = g by omega, show (20 * g + a) % 20 = a by omega] at this
    exact this hi
  refine ⟨81, yr_69 hz hb1 ?_ 80 0 a_before f_wn f_nt a_word a_reach a_beyond a_way a_bad a_part a_scopes a_inner a_tRule a_tFrom a_tTo kn (by omega) (fun c hc => by omega) ⟨hF.1, fun g hg => by unfold yr_kz at hg; rw [if_neg (by omega)] at hg; omega⟩⟩
  intro a_before f_wn f_nt a_word a_reach a_beyond a_way a_bad a_part a_scopes a_inner a_tRule a_tFrom a_tTo kn hb hF
  refine br_t (by decide) ?_
  refine yr_revalue hf hqm.1 (by omega) hnm hb ?_
  dsimp only
  refine yq_dup (T := rn_T T (rn_v G T f ((tx_ps G T f 1).getD d 0) d nm (tx_va T))) (kz := yr_kz 80) (ry_z hz hv1) hb1 hf ⟨ry_F hF.1, hF.2⟩ ?_
  intro f_wn f_nt a_word a_reach a_beyond a_way a_bad a_part a_scopes a_inner a_tRule a_tFrom a_tTo kn hF
  dsimp only
  have p1 : ∀ (f_wn f_nt : Int32) (a_word a_reach a_beyond a_way a_bad a_part a_scopes a_inner a_tRule a_tFrom a_tTo : Nat → Int32) (kn : Nat → Nat), yy_F G b (rn_T T (rn_v G T f ((tx_ps G T f 1).getD d 0) d nm (tx_va T))) kn a_bad a_part a_scopes a_inner → (tx_dup G (rn_T T (rn_v G T f ((tx_ps G T f 1).getD d 0) d nm (tx_va T))) f = tx_dup G T f ∧ ∀ c, c < 80 → tx_is G T (c / 20) (c % 20) 2 = true → tx_lk G (rn_T T (rn_v G T f ((tx_ps G T f 1).getD d 0) d nm (tx_va T))) (c / 20) (c % 20) = tx_lk G T (c / 20) (c % 20)) → post 1 (nI (gg_np G), nI b, f_some, f_empty, f_wn, f_nt, nA (gg_ru G), nA (gg_sc G), nA (gg_ln G), nA (gg_sy G), gg_ro G, a_first, a_follow, nA (tx_kd T), nA (rn_v G T f ((tx_ps G T f 1).getD d 0) d nm (tx_va T)), nA (tx_le T), a_word, a_reach, a_beyond, a_way, nA kn, a_bad, a_part, a_scopes, a_inner, a_tRule, a_tFrom, a_tTo, a_before) := by
    intro f_wn f_nt a_word a_reach a_beyond a_way a_bad a_part a_scopes a_inner a_tRule a_tFrom a_tTo kn q1 q2
    exact hP1 a_before f_wn f_nt a_word a_reach a_beyond a_way a_bad a_part a_scopes a_inner a_tRule a_tFrom a_tTo kn (hiff.mpr q2) q1
  have p0 : ∀ (f_wn f_nt : Int32) (a_word a_reach a_beyond a_way a_bad a_part a_scopes a_inner a_tRule a_tFrom a_tTo : Nat → Int32) (kn : Nat → Nat), yy_F G b (rn_T T (rn_v G T f ((tx_ps G T f 1).getD d 0) d nm (tx_va T))) kn a_bad a_part a_scopes a_inner → ¬ (tx_dup G (rn_T T (rn_v G T f ((tx_ps G T f 1).getD d 0) d nm (tx_va T))) f = tx_dup G T f ∧ ∀ c, c < 80 → tx_is G T (c / 20) (c % 20) 2 = true → tx_lk G (rn_T T (rn_v G T f ((tx_ps G T f 1).getD d 0) d nm (tx_va T))) (c / 20) (c % 20) = tx_lk G T (c / 20) (c % 20)) →
      wpY_revalue (fun u => match u with | (f_np, f_built, f_some, f_empty, f_wn, f_nt, a_pRule, a_pScope, a_pLen, a_sym, a_role, a_first, a_follow, a_kind, a_val, a_len, a_word, a_reach, a_beyond, a_way, a_known, a_bad, a_part, a_scopes, a_inner, a_tRule, a_tFrom, a_tTo, a_before) => (narrow .boolean (.int 0) = .int (0 : Int32) ∧ (post 0 (f_np, f_built, f_some, f_empty, f_wn, f_nt, a_pRule, a_pScope, a_pLen, a_sym, a_role, a_first, a_follow, a_kind, a_val, a_len, a_word, a_reach, a_beyond, a_way, a_known, a_bad, a_part, a_scopes, a_inner, a_tRule, a_tFrom, a_tTo, a_before)))) (nI (gg_np G), nI b, f_some, f_empty, f_wn, f_nt, nA (gg_ru G), nA (gg_sc G), nA (gg_ln G), nA (gg_sy G), gg_ro G, a_first, a_follow, nA (tx_kd T), nA (rn_v G T f ((tx_ps G T f 1).getD d 0) d nm (tx_va T)), nA (tx_le T), a_word, a_reach, a_beyond, a_way, nA kn, a_bad, a_part, a_scopes, a_inner, a_tRule, a_tFrom, a_tTo, a_before) (nI f) (nI ((tx_ps G T f 1).getD d 0)) (nI d) (nI (tx_va T (20 * f + (tx_ps G T f 1).getD d 0))) := by
    intro f_wn f_nt a_word a_reach a_beyond a_way a_bad a_part a_scopes a_inner a_tRule a_tFrom a_tTo kn q1 q2
    refine yr_revalue hf hqm.1 (by omega) (hva _) hb ?_
    rw [rn_back hf hd]
    exact ⟨nr_0, hP0 a_before f_wn f_nt a_word a_reach a_beyond a_way a_bad a_part a_scopes a_inner a_tRule a_tFrom a_tTo kn (fun h => q2 (hiff.mp h)) (ry_zz q1)⟩
  refine pk_eq (tx_dup G (rn_T T (rn_v G T f ((tx_ps G T f 1).getD d 0) d nm (tx_va T))) f) (tx_dup G T f) (fun he => ⟨81, ?_⟩) (fun he => ⟨81, ?_⟩)
  · exact yr_156 (q := (tx_ps G T f 1).getD d 0) hz hb1 hf hv1 hb p1 p0 80 0 1 f_wn f_nt a_word a_reach a_beyond a_way a_bad a_part a_scopes a_inner a_tRule a_tFrom a_tTo kn (by omega) (by omega) ⟨fun _ => ⟨he, fun c' hc' => by omega⟩, fun _ => rfl⟩ hF
  · exact yr_156 (q := (tx_ps G T f 1).getD d 0) hz hb1 hf hv1 hb p1 p0 80 0 0 f_wn f_nt a_word a_reach a_beyond a_way a_bad a_part a_scopes a_inner a_tRule a_tFrom a_tTo kn (by omega) (by omega) ⟨fun h => by omega, fun h => absurd h.1 he⟩ hF
end YRN
end
section
/-! restart, production, symbol, put, delete on both sides -/
def tx_r (T : tx_T) : tx_T := (T.1, T.2.1, fun g => if g < 4 then 0 else T.2.2 g)
def gg_r (G : gg_T) : gg_T := (0, G.2)
section SM
variable {G : gg_T} {f_built f_nullable f_productive f_sp f_depth f_at : Int32} {a_first a_follow a_kind a_value a_length a_fault a_defs a_refs a_imports a_defAt a_refAt a_scopeOf a_importAt a_around a_beginsAt a_endsAt a_names a_scopes a_twice a_open a_stale a_link a_kept a_stack a_trial a_opened : Nat → Int32} {a_table : Nat → Int64} {md us : Nat → Nat}
theorem xz_40 {post : SX → Prop} : ∀ k i le a_defs a_refs a_imports, i + k = 4 → (∀ g, g < i → a_imports g = nI 0) → (∀ a_defs a_refs a_imports le', (∀ g, le' g = if i ≤ g ∧ g < 4 then 0 else le g) → (∀ g, g < 4 → a_imports g = nI 0) → post (nI (gg_np G), f_built, f_nullable, f_productive, f_sp, f_depth, f_at, nA (gg_ru G), nA (gg_ln G), nA (gg_sy G), gg_ro G, nA (gg_sc G), nA md, nA us, a_first, a_follow, a_table, a_kind, a_value, nA le', a_fault, a_defs, a_refs, a_imports, a_defAt, a_refAt, a_scopeOf, a_importAt, a_around, a_beginsAt, a_endsAt, a_names, a_scopes, a_twice, a_open, a_stale, a_link, a_kept, a_stack, a_trial, a_opened)) →
    wX_restart_40 post (k + 1) (nI i) (nI (gg_np G)) f_built f_nullable f_productive f_sp f_depth f_at (nA (gg_ru G)) (nA (gg_ln G)) (nA (gg_sy G)) (gg_ro G) (nA (gg_sc G)) (nA md) (nA us) a_first a_follow a_table a_kind a_value (nA le) a_fault a_defs a_refs a_imports a_defAt a_refAt a_scopeOf a_importAt a_around a_beginsAt a_endsAt a_names a_scopes a_twice a_open a_stale a_link a_kept a_stack a_trial a_opened := by
  intro k
  induction k with
  | zero =>
    intro i le a_defs a_refs a_imports hi h hP
    have e : i = 4 := by omega
    subst e
    exact br_t (by decide) (hP a_defs a_refs a_imports le (fun g => by rw [if_neg (by omega)]) h)
  | succ k ih =>
    intro i le a_defs a_refs a_imports hi h hP
    refine pk_le 4 i (fun h => absurd h (by omega)) (fun hi4 => ⟨pk_in i 4 hi4, nm_r (e' := nA (un le i 0)) (by rw [nI_clamp (show i < 2 ^ 31 by omega), vb_0, nA_upd]) ?_⟩)
    refine xr_forget hi4 ?_
    dsimp only
    refine nm_r (nI_1 i) (ih (i + 1) (un le i 0) _ _ _ (by omega) (fun g hg => ?_) (fun d r im le' h1 h2 => hP d r im le' (fun g => ?_) h2))
    · by_cases e : g = i
      · subst e; exact pk_us
      · rw [pk_un e]; exact h g (by omega)
    · rw [h1 g]
      by_cases e : g = i
      · subst e; rw [if_neg (by omega), un_s, if_pos ⟨by omega, hi4⟩]
      · rw [un_n e]
        by_cases h3 : i + 1 ≤ g ∧ g < 4
        · rw [if_pos h3, if_pos (by omega)]
        · rw [if_neg h3, if_neg (by omega)]
theorem xz_12 {post : SX → Prop} {le : Nat → Nat} (hP : ∀ md us a_defs a_refs a_imports le', (∀ A, A < 6 → md A = 0 ∧ us A = 0) → (∀ g, le' g = if g < 4 then 0 else le g) → (∀ g, g < 4 → a_imports g = nI 0) → post (nI (gg_np G), f_built, f_nullable, f_productive, f_sp, f_depth, f_at, nA (gg_ru G), nA (gg_ln G), nA (gg_sy G), gg_ro G, nA (gg_sc G), nA md, nA us, a_first, a_follow, a_table, a_kind, a_value, nA le', a_fault, a_defs, a_refs, a_imports, a_defAt, a_refAt, a_scopeOf, a_importAt, a_around, a_beginsAt, a_endsAt, a_names, a_scopes, a_twice, a_open, a_stale, a_link, a_kept, a_stack, a_trial, a_opened)) :
    ∀ k i md us, i + k = 6 → (∀ A, A < i → md A = 0 ∧ us A = 0) → wX_restart_12 post (nI (gg_np G)) f_built f_nullable f_productive f_sp f_depth f_at (k + 1) (nI i) (nA (gg_ru G)) (nA (gg_ln G)) (nA (gg_sy G)) (gg_ro G) (nA (gg_sc G)) (nA md) (nA us) a_first a_follow a_table a_kind a_value (nA le) a_fault a_defs a_refs a_imports a_defAt a_refAt a_scopeOf a_importAt a_around a_beginsAt a_endsAt a_names a_scopes a_twice a_open a_stale a_link a_kept a_stack a_trial a_opened := by
  intro k
  induction k with
  | zero =>
    intro i md us hi h
    have e : i = 6 := by omega
    subst e
    refine br_t (by decide) ⟨5, xz_40 4 0 le a_defs a_refs a_imports (by omega) (fun g hg => by omega) (fun d r im le' h1 h2 => hP md us d r im le' h (fun g => ?_) h2)⟩
    rw [h1 g]
    by_cases h3 : g < 4
    · rw [if_pos h3, if_pos ⟨by omega, h3⟩]
    · rw [if_neg h3, if_neg (by omega)]
  | succ k ih =>
    intro i md us hi h
    refine pk_le 6 i (fun h => absurd h (by omega)) (fun hi6 => ⟨pk_in i 6 hi6, nm_r (e' := nA (un md i 0)) (by rw [nI_clamp (show i < 2 ^ 31 by omega)]; exact nA_upd) ⟨pk_in i 6 hi6, nm_r (e' := nA (un us i 0)) (by rw [nI_clamp (show i < 2 ^ 31 by omega)]; exact nA_upd) (nm_r (nI_1 i) (ih (i + 1) (un md i 0) (un us i 0) (by omega) (fun A hA => ?_)))⟩⟩)
    by_cases e : A = i
    · subst e; rw [un_s, un_s]; exact ⟨rfl, rfl⟩
    · rw [un_n e, un_n e]; exact h A (by omega)
end SM
theorem zz_r {G : gg_T} {b : Nat} {T : tx_T} (h : zz_ok G b T) : zz_ok (gg_r G) 0 (tx_r T) := by
  obtain ⟨⟨h1, h2⟩, _, _, h3, h4, h5, _⟩ := h
  refine ⟨⟨Nat.zero_le _, h2⟩, by omega, fun h => by omega, h3, h4, fun f => ?_, fun _ f hf => if_pos hf⟩
  show (if f < 4 then 0 else T.2.2 f) ≤ 20
  by_cases e : f < 4
  · rw [if_pos e]; omega
  · rw [if_neg e]; exact h5 f
theorem xz_restart {G : gg_T} {b : Nat} {T : tx_T} {post : SX → Prop} {u : SX} (hu : xx_R G b T u) (hP : ∀ u', xx_R (gg_r G) 0 (tx_r T) u' → post u') : wpX_restart post u := by
  refine xx_el (P := fun u => wpX_restart post u) ?_ hu
  intro f_nullable f_productive f_sp f_depth f_at a_first a_follow a_fault a_defs a_refs a_imports a_defAt a_refAt a_scopeOf a_importAt a_around a_beginsAt a_endsAt a_names a_scopes a_twice a_open a_stale a_link a_kept a_stack a_trial a_opened a_table md us hF
  refine ⟨7, xz_12 (G := gg_r G) (le := tx_le T) ?_ 6 0 md us (by omega) (fun A hA => by omega)⟩
  intro md us a_defs a_refs a_imports le' h1 h2 h3
  have e : le' = tx_le (tx_r T) := funext h2
  subst e
  refine hP _ (xx_mk (T := tx_r T) (b := 0) ⟨fun A hA => ?_, fun h => by omega, fun _ f hf => h3 f hf⟩)
  rw [(h1 A hA).1, (h1 A hA).2]
  exact ⟨⟨by omega, fun p => ⟨fun h => absurd h nb_0_t, fun h => absurd h.1 (Nat.not_lt_zero p)⟩⟩, ⟨by omega, fun p => ⟨fun h => absurd h nb_0_t, fun h => absurd h.1 (Nat.not_lt_zero p)⟩⟩⟩
section SMY
variable {G : gg_T} {f_built f_some f_empty f_wn f_nt : Int32} {a_first a_follow a_kind a_val a_len a_word a_reach a_beyond a_way a_known a_bad a_part a_scopes a_inner a_tRule a_tFrom a_tTo a_before : Nat → Int32}
theorem yz_12 {post : SY → Prop} : ∀ k i le kn, i + k = 4 → (∀ le' kn', (∀ g, le' g = if i ≤ g ∧ g < 4 then 0 else le g) → (∀ g, kn' g = if i ≤ g ∧ g < 4 then 0 else kn g) → post (nI (gg_np G), f_built, f_some, f_empty, f_wn, f_nt, nA (gg_ru G), nA (gg_sc G), nA (gg_ln G), nA (gg_sy G), gg_ro G, a_first, a_follow, a_kind, a_val, nA le', a_word, a_reach, a_beyond, a_way, nA kn', a_bad, a_part, a_scopes, a_inner, a_tRule, a_tFrom, a_tTo, a_before)) →
    wY_restart_12 post (nI (gg_np G)) f_built f_some f_empty f_wn f_nt (k + 1) (nI i) (nA (gg_ru G)) (nA (gg_sc G)) (nA (gg_ln G)) (nA (gg_sy G)) (gg_ro G) a_first a_follow a_kind a_val (nA le) a_word a_reach a_beyond a_way (nA kn) a_bad a_part a_scopes a_inner a_tRule a_tFrom a_tTo a_before := by
  intro k
  induction k with
  | zero =>
    intro i le kn hi hP
    have e : i = 4 := by omega
    subst e
    exact br_t (by decide) (hP le kn (fun g => by rw [if_neg (by omega)]) (fun g => by rw [if_neg (by omega)]))
  | succ k ih =>
    intro i le kn hi hP
    refine pk_le 4 i (fun h => absurd h (by omega)) (fun hi4 => ⟨pk_in i 4 hi4, nm_r (e' := nA (un le i 0)) (by rw [nI_clamp (show i < 2 ^ 31 by omega), vb_0, nA_upd]) ⟨pk_in i 4 hi4, nm_r (e' := nA (un kn i 0)) (by rw [nI_clamp (show i < 2 ^ 31 by omega), vo_0, nA_upd]) (nm_r (nI_1 i) (ih (i + 1) (un le i 0) (un kn i 0) (by omega) (fun le' kn' h1 h2 => hP le' kn' (fun g => ?_) (fun g => ?_))))⟩⟩)
    · rw [h1 g]
      by_cases e : g = i
      · subst e; rw [if_neg (by omega), un_s, if_pos ⟨by omega, hi4⟩]
      · rw [un_n e]
        by_cases h3 : i + 1 ≤ g ∧ g < 4
        · rw [if_pos h3, if_pos (by omega)]
        · rw [if_neg h3, if_neg (by omega)]
    · rw [h2 g]
      by_cases e : g = i
      · subst e; rw [if_neg (by omega), un_s, if_pos ⟨by omega, hi4⟩]
      · rw [un_n e]
        by_cases h3 : i + 1 ≤ g ∧ g < 4
        · rw [if_pos h3, if_pos (by omega)]
        · rw [if_neg h3, if_neg (by omega)]
end SMY
theorem yz_restart {G : gg_T} {b : Nat} {T : tx_T} {post : SY → Prop} {v : SY} (hv : yy_R G b T v) (hP : ∀ v', yy_R (gg_r G) 0 (tx_r T) v' → post v') : wpY_restart post v := by
  refine yy_el (P := fun v => wpY_restart post v) ?_ hv
  intro f_some f_empty f_wn f_nt a_first a_follow a_word a_reach a_beyond a_way a_bad a_part a_scopes a_inner a_tRule a_tFrom a_tTo a_before kn hF
  refine ⟨5, yz_12 (G := gg_r G) 4 0 (tx_le T) kn (by omega) ?_⟩
  intro le' kn' h1 h2
  have e : le' = tx_le (tx_r T) := by
    funext g
    rw [h1 g]
    show _ = if g < 4 then 0 else _
    by_cases h3 : g < 4
    · rw [if_pos h3, if_pos ⟨by omega, h3⟩]
    · rw [if_neg h3, if_neg (by omega)]; rfl
  subst e
  refine hP _ (yy_mk (T := tx_r T) (b := 0) ⟨fun g => ?_, fun _ g hg => ?_, fun g hg hk => ?_⟩)
  · rw [h2 g]
    by_cases h3 : 0 ≤ g ∧ g < 4
    · rw [if_pos h3]; omega
    · rw [if_neg h3]; exact hF.1 g
  · rw [h2 g, if_pos ⟨by omega, hg⟩]
  · rw [h2 g, if_pos ⟨by omega, hg⟩] at hk; omega
/-! production -/
def gg_p (G : gg_T) (j s : Nat) : gg_T := (gg_np G + 1, un (gg_ru G) (gg_np G) j, un (gg_ln G) (gg_np G) 0, G.2.2.2.1, G.2.2.2.2.1, un (gg_sc G) (gg_np G) s)
theorem zz_p {G : gg_T} {T : tx_T} {j s : Nat} (h : zz_ok G 0 T) (hj : j ≤ 5) (hs : s ≤ 1) (hn : gg_np G < 14) : zz_ok (gg_p G j s) 0 T := by
  obtain ⟨⟨h1, h2, h3, h4, h5, h6⟩, g1, _, g2⟩ := h
  refine ⟨⟨hn, fun p => ?_, fun p => ?_, h4, fun p => ?_, h6⟩, g1, fun h => by omega, g2⟩
  · show un (gg_ru G) (gg_np G) j p < 6
    by_cases e : p = gg_np G
    · rw [e, un_s]; omega
    · rw [un_n e]; exact h2 p
  · show un (gg_ln G) (gg_np G) 0 p ≤ 4
    by_cases e : p = gg_np G
    · rw [e, un_s]; omega
    · rw [un_n e]; exact h3 p
  · show un (gg_sc G) (gg_np G) s p ≤ 1
    by_cases e : p = gg_np G
    · rw [e, un_s]; omega
    · rw [un_n e]; exact h5 p
theorem lw_bz_n01 (v : Int32) : ∃ s, s ≤ 1 ∧ vp_nar .boolean (lw_bz v) = nI s := by
  rcases lw_bz_01 v with h | h
  · exact ⟨0, by omega, by rw [h]; exact vo_0⟩
  · exact ⟨1, by omega, by rw [h]; exact vo_1⟩
theorem xp_m {G : gg_T} {md us : Nat → Nat} {j s : Nat} (h : xx_m G md us) (hn : gg_np G < 14) : xx_m (gg_p G j s) (un md j (md j ||| 2 ^ gg_np G)) us := by
  intro A hA
  obtain ⟨⟨m1, m2⟩, ⟨m3, m4⟩⟩ := h A hA
  refine ⟨?_, m3, fun p => ?_⟩
  · have key : ∀ p, (p < gg_np G ∧ gg_ru G p = A) ∨ (p = gg_np G ∧ j = A) ↔ p < gg_np G + 1 ∧ un (gg_ru G) (gg_np G) j p = A := by
      intro p
      by_cases e : p = gg_np G
      · rw [e, un_s]; constructor
        · intro h; rcases h with ⟨h, _⟩ | ⟨_, h⟩
          · omega
          · exact ⟨by omega, h⟩
        · intro h; exact Or.inr ⟨rfl, h.2⟩
      · rw [un_n e]; constructor
        · intro h; rcases h with h | ⟨h, _⟩
          · exact ⟨by omega, h.2⟩
          · exact absurd h e
        · intro h; exact Or.inl ⟨by omega, h.2⟩
    by_cases e : A = j
    · subst e
      rw [un_s]
      refine ⟨nb_orlt m1 (Nat.pow_lt_pow_right (by omega) hn), fun p => ?_⟩
      rw [nb_or_t, nb_p_t, m2 p]
      refine Iff.trans ?_ (key p)
      exact ⟨fun h => h.elim Or.inl (fun h => Or.inr ⟨h, rfl⟩), fun h => h.elim Or.inl (fun h => Or.inr h.1)⟩
    · rw [un_n e]
      refine ⟨m1, fun p => ?_⟩
      rw [m2 p]
      refine Iff.trans ?_ (key p)
      exact ⟨Or.inl, fun h => h.elim (fun h => h) (fun h => absurd h.2.symm e)⟩
  · rw [m4 p]
    show _ ↔ p < gg_np G + 1 ∧ ∃ m, m < un (gg_ln G) (gg_np G) 0 p ∧ _
    by_cases e : p = gg_np G
    · rw [e, un_s]
      exact ⟨fun h => absurd h.1 (by omega), fun ⟨_, m, h, _⟩ => absurd h (Nat.not_lt_zero m)⟩
    · rw [un_n e]
      exact ⟨fun h => ⟨by omega, h.2⟩, fun h => ⟨by omega, h.2⟩⟩
/-! symbol -/
def gg_y (G : gg_T) (s : Nat) (r : Int32) : gg_T := (gg_np G, gg_ru G, un (gg_ln G) (gg_np G - 1) (gg_ln G (gg_np G - 1) + 1), un (gg_sy G) (4 * (gg_np G - 1) + gg_ln G (gg_np G - 1)) s, upd (gg_ro G) (4 * (gg_np G - 1) + gg_ln G (gg_np G - 1)) r, G.2.2.2.2.2)
theorem zz_y {G : gg_T} {T : tx_T} {s : Nat} {r : Int32} (h : zz_ok G 0 T) (hs : s < 16) (hr : s < 10 → ∃ x, x ≤ 3 ∧ r = nI x) (hl : gg_ln G (gg_np G - 1) ≠ 4) : zz_ok (gg_y G s r) 0 T := by
  obtain ⟨⟨h1, h2, h3, h4, h5, h6⟩, g1, _, g2⟩ := h
  have h3' := h3 (gg_np G - 1)
  refine ⟨⟨h1, h2, fun p => ?_, fun c => ?_, h5, fun c hc => ?_⟩, g1, fun h => by omega, g2⟩
  · show un (gg_ln G) (gg_np G - 1) _ p ≤ 4
    by_cases e : p = gg_np G - 1
    · rw [e, un_s]; omega
    · rw [un_n e]; exact h3 p
  · show un (gg_sy G) _ s c < 16
    by_cases e : c = 4 * (gg_np G - 1) + gg_ln G (gg_np G - 1)
    · rw [e, un_s]; exact hs
    · rw [un_n e]; exact h4 c
  · have hc : un (gg_sy G) (4 * (gg_np G - 1) + gg_ln G (gg_np G - 1)) s c < 10 := hc
    show ∃ x, x ≤ 3 ∧ upd (gg_ro G) _ r c = nI x
    by_cases e : c = 4 * (gg_np G - 1) + gg_ln G (gg_np G - 1)
    · rw [e, un_s] at hc
      rw [e, pk_us]; exact hr hc
    · rw [un_n e] at hc
      rw [pk_un e]; exact h6 c hc
theorem xy_m {G : gg_T} {md us : Nat → Nat} {s : Nat} {r : Int32} (hG : gg_ok G) (h : xx_m G md us) (hn : gg_np G ≠ 0) (hs : s < 16) (hl : gg_ln G (gg_np G - 1) ≠ 4) : xx_m (gg_y G s r) md (if s < 10 then us else un us (s - 10) (us (s - 10) ||| 2 ^ (gg_np G - 1))) := by
  have es : ¬ s < 10 → s = s - 10 + 10 := fun h => by omega
  intro A hA
  obtain ⟨⟨m1, m2⟩, ⟨m3, m4⟩⟩ := h A hA
  have h14 := hG.1
  have hl4 := hG.2.2.1 (gg_np G - 1)
  have key : ∀ p, (p < gg_np G ∧ ∃ m, m < un (gg_ln G) (gg_np G - 1) (gg_ln G (gg_np G - 1) + 1) p ∧ un (gg_sy G) (4 * (gg_np G - 1) + gg_ln G (gg_np G - 1)) s (4 * p + m) = A + 10) ↔ ((p < gg_np G ∧ ∃ m, m < gg_ln G p ∧ gg_sy G (4 * p + m) = A + 10) ∨ (p = gg_np G - 1 ∧ s = A + 10)) := by
    intro p
    have hlp := hG.2.2.1 p
    by_cases e : p = gg_np G - 1
    · subst e
      rw [un_s]
      constructor
      · intro ⟨h1, m, h2, h3⟩
        by_cases em : m = gg_ln G (gg_np G - 1)
        · rw [em, un_s] at h3; exact Or.inr ⟨rfl, h3⟩
        · rw [un_n (by omega)] at h3; exact Or.inl ⟨h1, m, by omega, h3⟩
      · intro h
        rcases h with ⟨h1, m, h2, h3⟩ | ⟨_, h⟩
        · exact ⟨h1, m, by omega, by rw [un_n (by omega)]; exact h3⟩
        · exact ⟨by omega, gg_ln G (gg_np G - 1), by omega, by rw [un_s]; exact h⟩
    · rw [un_n e]
      constructor
      · intro ⟨h1, m, h2, h3⟩
        rw [un_n (by omega)] at h3
        exact Or.inl ⟨h1, m, h2, h3⟩
      · intro h
        rcases h with ⟨h1, m, h2, h3⟩ | ⟨h, _⟩
        · exact ⟨h1, m, h2, by rw [un_n (by omega)]; exact h3⟩
        · exact absurd h e
  refine ⟨⟨m1, m2⟩, ?_⟩
  by_cases h10 : s < 10
  · rw [if_pos h10]
    refine ⟨m3, fun p => ?_⟩
    rw [m4 p]
    exact Iff.trans ⟨Or.inl, fun h => h.elim (fun h => h) (fun h => absurd h.2 (by omega))⟩ (key p).symm
  · rw [if_neg h10]
    by_cases e : A = s - 10
    · subst e
      rw [un_s]
      refine ⟨nb_orlt m3 (Nat.pow_lt_pow_right (by omega) (by omega)), fun p => ?_⟩
      rw [nb_or_t, nb_p_t, m4 p]
      exact Iff.trans ⟨fun h => h.elim Or.inl (fun h => Or.inr ⟨h, es h10⟩), fun h => h.elim Or.inl (fun h => Or.inr h.1)⟩ (key p).symm
    · rw [un_n e]
      refine ⟨m3, fun p => ?_⟩
      rw [m4 p]
      exact Iff.trans ⟨Or.inl, fun h => h.elim (fun h => h) (fun h => absurd h.2 (by omega))⟩ (key p).symm
end
section
/-! put and delete -/
theorem xwi {post : Int32 → Prop} (x : Int32) (n : Nat) (hn : n < 2 ^ 31) (h0 : (x < 0 ∨ nI n ≤ x) → post 0) (h1 : ∀ j, j < n → x = nI j → post 1) : wpX_within post x (nI n) := by
  rcases pk_ix x hn with h | h | ⟨j, hj, e⟩
  · exact xw_0 (Or.inl h) (h0 (Or.inl h))
  · exact xw_0 (Or.inr h) (h0 (Or.inr h))
  · subst e; exact xw_1 hj hn (h1 j hj rfl)
theorem yq_c {post : Int32 → Prop} {v : SY} (x : Int32) (h0 : (x < 0 ∨ nI 4 ≤ x) → post 0) (h1 : ∀ j, j < 4 → x = nI j → post 1) : wpY_isFile post v x := by
  rcases pk_ix x (n := 4) (by omega) with h | h | ⟨j, hj, e⟩
  · exact yq_nf (Or.inl h) (h0 (Or.inl h))
  · exact yq_nf (Or.inr h) (h0 (Or.inr h))
  · subst e; exact yq_f hj (h1 j hj rfl)
theorem bu_1 {b : Nat} (h1 : b ≤ 1) (h : ¬ nI b = 0) : b = 1 := by
  by_cases e : b = 0
  · subst e; exact absurd rfl h
  · omega
section XV
variable {G : gg_T} {T T' : tx_T} {f : Nat} {md us : Nat → Nat} {a_table : Nat → Int64} {z_scopes z_around z_beginsAt z_endsAt z_scopeOf z_defs z_refs z_imports z_defAt z_refAt z_importAt a_scopes a_around a_beginsAt a_endsAt a_scopeOf a_defs a_refs a_imports a_defAt a_refAt a_importAt z_fault a_fault z_names a_names z_twice a_twice z_stale a_stale a_open a_link : Nat → Int32}
theorem xv_F (h20 : ∀ g, tx_le T' g ≤ 20) (hs : ∀ g, g ≠ f → tx_tok T g = tx_tok T' g ∧ tx_le T g = tx_le T' g ∧ ∀ a, a < 20 → tx_va T (20 * g + a) = tx_va T' (20 * g + a)) (hm : xx_m G md us) (hB : xx_B G a_table)
    (hO : ∀ g, g < 4 → xx_f G T g z_fault z_defs z_refs z_imports z_defAt z_refAt z_scopeOf z_importAt z_around z_beginsAt z_endsAt z_names z_scopes z_twice a_open z_stale a_link)
    (hN : xx_AN G T' f a_fault a_defs a_refs a_imports a_defAt a_refAt a_scopeOf a_importAt a_around a_beginsAt a_endsAt a_scopes a_names a_twice) (h1 : xp_fr f z_scopes z_around z_beginsAt z_endsAt z_scopeOf z_defs z_refs z_imports z_defAt z_refAt z_importAt a_scopes a_around a_beginsAt a_endsAt a_scopeOf a_defs a_refs a_imports a_defAt a_refAt a_importAt) (h2 : fr1 f a_fault z_fault) (h3 : fr3 f a_names z_names) (h4 : fr1 f a_twice z_twice)
    (h5 : a_stale f = nI 1) (h6 : ∀ g, g < 4 → g ≠ f → a_stale g = 0 → z_stale g = 0 ∧ ∀ q, q ∈ tx_ps G T' g 3 → tx_va T' (20 * g + q) % 4 ≠ f) :
    xx_F G 1 T' md us a_table a_fault a_defs a_refs a_imports a_defAt a_refAt a_scopeOf a_importAt a_around a_beginsAt a_endsAt a_names a_scopes a_twice a_open a_stale a_link := by
  refine ⟨hm, fun _ => ⟨hB, fun g hg => ?_⟩, fun h => by omega⟩
  by_cases e : g = f
  · subst e
    exact ⟨hN.1, hN.2, fun h => by rw [h5] at h; exact absurd h (by decide)⟩
  · obtain ⟨e1, e2, e3⟩ := hs g e
    obtain ⟨o1, o2, o3⟩ := hO g hg
    refine ⟨fr_A e (h20 g) h1 h2 (cg_A e1 e2 o1), fr_N e h1.1 h1.2.2.2.2.1 h3 h4 (cg_N e1 e2 e3 o2), fun h0 => ?_⟩
    obtain ⟨w1, w2⟩ := h6 g hg e h0
    obtain ⟨w3, w4⟩ := o3 w1
    have hlk : ∀ a, a < 20 → tx_lk G T g a = tx_lk G T' g a := by
      intro a ha
      refine cg_lk e1 e2 e3 (fun q hq => ?_) ha
      have hq' : q ∈ tx_ps G T' g 3 := by rw [← cg_ps e1 e2]; exact hq
      have hne := w2 q hq'
      rw [← e3 q (tx_ps_in hq).1] at hne
      obtain ⟨k1, k2, k3⟩ := hs _ hne
      rw [cg_fi k1 k2 k3]
    refine ⟨fun r hr => ?_, by rw [w4, cg_un hlk (cg_ps e1 e2)]⟩
    rw [← cg_ps e1 e2] at hr ⊢
    rw [w3 r hr]
    exact hlk _ (tx_ps_in (dr_m hr)).1
end XV
def pv (b : Nat) (T : tx_T) (p0 p1 p2 p3 : Int32) : Prop := b = 1 ∧ ∃ f a k v, f < 4 ∧ p0 = nI f ∧ p1 = nI a ∧ a ≤ tx_le T f ∧ a ≠ 20 ∧ p2 = nI k ∧ k < 10 ∧ p3 = nI v ∧ v < 16
def tx_put (T : tx_T) (f a k v : Nat) : tx_T := (un (tx_kd T) (20 * f + a) k, un (tx_va T) (20 * f + a) v, if a = tx_le T f then un (tx_le T) f (tx_le T f + 1) else tx_le T)
theorem tp_le {T : tx_T} {f a k v g : Nat} : tx_le (tx_put T f a k v) g = if g = f ∧ a = tx_le T f then tx_le T f + 1 else tx_le T g := by
  show (if a = tx_le T f then un (tx_le T) f (tx_le T f + 1) else tx_le T) g = _
  by_cases h : a = tx_le T f
  · rw [if_pos h]
    by_cases e : g = f
    · rw [e, un_s, if_pos ⟨rfl, h⟩]
    · rw [un_n e, if_neg (fun hx => e hx.1)]
  · rw [if_neg h, if_neg (fun hx => h hx.2)]
theorem zz_put {G : gg_T} {T : tx_T} {f a k v : Nat} (h : zz_ok G 1 T) (ha : a ≤ tx_le T f) (ha2 : a ≠ 20) (hk : k < 10) (hv : v < 16) : zz_ok G 1 (tx_put T f a k v) := by
  obtain ⟨h1, h2, h3, h4, h5, h6, h7⟩ := h
  refine ⟨h1, h2, h3, fun c => ?_, fun c => ?_, fun g => ?_, fun h => by omega⟩
  · show un (tx_kd T) (20 * f + a) k c < 10
    by_cases e : c = 20 * f + a
    · rw [e, un_s]; exact hk
    · rw [un_n e]; exact h4 c
  · show un (tx_va T) (20 * f + a) v c < 16
    by_cases e : c = 20 * f + a
    · rw [e, un_s]; exact hv
    · rw [un_n e]; exact h5 c
  · rw [tp_le]
    have := h6 f
    by_cases e : g = f ∧ a = tx_le T f
    · rw [if_pos e]; omega
    · rw [if_neg e]; exact h6 g
theorem tp_same {T : tx_T} {f a k v g : Nat} (ha : a < 20) (h20 : tx_le T g ≤ 20) (hg : g ≠ f) : tx_tok T g = tx_tok (tx_put T f a k v) g ∧ tx_le T g = tx_le (tx_put T f a k v) g ∧ ∀ x, x < 20 → tx_va T (20 * g + x) = tx_va (tx_put T f a k v) (20 * g + x) := by
  have hle : tx_le T g = tx_le (tx_put T f a k v) g := by rw [tp_le, if_neg (fun h => hg h.1)]
  refine ⟨?_, hle, fun x hx => ?_⟩
  · funext x
    unfold tx_tok
    rw [← hle]
    by_cases h : x < tx_le T g
    · rw [if_pos h, if_pos h]
      show tx_kd T _ = un (tx_kd T) (20 * f + a) k _
      rw [un_n (by omega)]
    · rw [if_neg h, if_neg h]
  · show _ = un (tx_va T) (20 * f + a) v _
    rw [un_n (by omega)]
theorem tp_keep {T : tx_T} {f a k v : Nat} (h1 : a ≠ tx_le T f) (h2 : tx_kd T (20 * f + a) = k) : tx_tok T f = tx_tok (tx_put T f a k v) f ∧ tx_le T f = tx_le (tx_put T f a k v) f := by
  have hle : tx_le T f = tx_le (tx_put T f a k v) f := by rw [tp_le, if_neg (fun h => h1 h.2)]
  refine ⟨?_, hle⟩
  funext x
  unfold tx_tok
  rw [← hle]
  have : tx_kd T = tx_kd (tx_put T f a k v) := by
    show tx_kd T = un (tx_kd T) (20 * f + a) k
    rw [← h2, un_id]
  rw [← this]
theorem xm_putN {G : gg_T} {b : Nat} {T : tx_T} {f_nullable f_productive f_sp f_depth f_at : Int32} {a_first a_follow a_fault a_defs a_refs a_imports a_defAt a_refAt a_scopeOf a_importAt a_around a_beginsAt a_endsAt a_names a_scopes a_twice a_open a_stale a_link a_kept a_stack a_trial a_opened : Nat → Int32} {a_table : Nat → Int64} {md us : Nat → Nat} {post : Int32 → SX → Prop} {p0 p1 p2 p3 : Int32} (hb : b ≤ 1) (h20 : ∀ f, tx_le T f ≤ 20) (hn : ¬ pv b T p0 p1 p2 p3) (hP : post 0 (nI (gg_np G), nI b, f_nullable, f_productive, f_sp, f_depth, f_at, nA (gg_ru G), nA (gg_ln G), nA (gg_sy G), gg_ro G, nA (gg_sc G), nA md, nA us, a_first, a_follow, a_table, nA (tx_kd T), nA (tx_va T), nA (tx_le T), a_fault, a_defs, a_refs, a_imports, a_defAt, a_refAt, a_scopeOf, a_importAt, a_around, a_beginsAt, a_endsAt, a_names, a_scopes, a_twice, a_open, a_stale, a_link, a_kept, a_stack, a_trial, a_opened)) : wpX_put post (nI (gg_np G), nI b, f_nullable, f_productive, f_sp, f_depth, f_at, nA (gg_ru G), nA (gg_ln G), nA (gg_sy G), gg_ro G, nA (gg_sc G), nA md, nA us, a_first, a_follow, a_table, nA (tx_kd T), nA (tx_va T), nA (tx_le T), a_fault, a_defs, a_refs, a_imports, a_defAt, a_refAt, a_scopeOf, a_importAt, a_around, a_beginsAt, a_endsAt, a_names, a_scopes, a_twice, a_open, a_stale, a_link, a_kept, a_stack, a_trial, a_opened) p0 p1 p2 p3 := by
  unfold wpX_put
  dsimp only
  refine br_c (fun _ => hP) (fun hb0 => ?_)
  refine xwi p0 4 (by omega) (fun _ => br_t rfl hP) (fun f hf e0 => br_f (by decide) ?_)
  subst e0
  refine xwi p2 10 (by omega) (fun _ => br_t rfl hP) (fun k hk e2 => br_f (by decide) ?_)
  refine xwi p3 16 (by omega) (fun _ => br_t rfl hP) (fun v hv e3 => br_f (by decide) ?_)
  refine br_c (fun _ => hP) (fun h1 => ?_)
  obtain ⟨a, ha, rfl⟩ := nI_of h1
  have := h20 f
  rw [nA_cl (show f < 2 ^ 31 by omega)]
  refine ⟨pk_in f 4 hf, pk_lt (tx_le T f) a (fun _ => hP) (fun h2 => pk_eq a 20 (fun _ => hP) (fun h3 => ?_))⟩
  exact absurd ⟨bu_1 hb hb0, f, a, k, v, hf, rfl, rfl, h2, h3, e2, hk, e3, hv⟩ hn
theorem xm_put {G : gg_T} {T : tx_T} {f_nullable f_productive f_sp f_depth f_at : Int32} {a_first a_follow a_fault a_defs a_refs a_imports a_defAt a_refAt a_scopeOf a_importAt a_around a_beginsAt a_endsAt a_names a_scopes a_twice a_open a_stale a_link a_kept a_stack a_trial a_opened : Nat → Int32} {a_table : Nat → Int64} {md us : Nat → Nat} {post : Int32 → SX → Prop} {f a k v : Nat} (hz : zz_ok G 1 T) (hf : f < 4) (ha : a ≤ tx_le T f) (ha2 : a ≠ 20) (hk : k < 10) (hv : v < 16)
    (hF : xx_F G 1 T md us a_table a_fault a_defs a_refs a_imports a_defAt a_refAt a_scopeOf a_importAt a_around a_beginsAt a_endsAt a_names a_scopes a_twice a_open a_stale a_link)
    (hP : ∀ u', xx_R G 1 (tx_put T f a k v) u' → post 1 u') : wpX_put post (nI (gg_np G), nI 1, f_nullable, f_productive, f_sp, f_depth, f_at, nA (gg_ru G), nA (gg_ln G), nA (gg_sy G), gg_ro G, nA (gg_sc G), nA md, nA us, a_first, a_follow, a_table, nA (tx_kd T), nA (tx_va T), nA (tx_le T), a_fault, a_defs, a_refs, a_imports, a_defAt, a_refAt, a_scopeOf, a_importAt, a_around, a_beginsAt, a_endsAt, a_names, a_scopes, a_twice, a_open, a_stale, a_link, a_kept, a_stack, a_trial, a_opened) (nI f) (nI a) (nI k) (nI v) := by
  have hz' := zz_put (f := f) hz ha ha2 hk hv
  obtain ⟨hG, _, hL, hkd, hva, h20, _⟩ := hz
  obtain ⟨_, _, _, hkd', hva', h20', _⟩ := hz'
  have h2 := h20 f
  have L := hL rfl
  obtain ⟨hm, hF1, _⟩ := hF
  obtain ⟨hB, hO⟩ := hF1 rfl
  have e20 : (20 : Int32) * nI f + nI a = nI (20 * f + a) := by rw [show (20 : Int32) = nI 20 from rfl, pk_mul, nI_add]
  have ha20 : a < 20 := by omega
  have hsame := fun g (hg : g ≠ f) => tp_same (k := k) (v := v) ha20 (h20 g) hg
  have fin : ∀ le', nA le' = nA (tx_le (tx_put T f a k v)) → ∀ x6 : Int32, (x6 = 1 ∨ (x6 = 0 ∧ a ≠ tx_le T f ∧ tx_kd T (20 * f + a) = k)) → wX_put_115 post (nI f) (nI k) (nI v) (nI (20 * f + a)) x6 (nI (gg_np G)) (nI 1) f_nullable f_productive f_sp f_depth f_at (nA (gg_ru G)) (nA (gg_ln G)) (nA (gg_sy G)) (gg_ro G) (nA (gg_sc G)) (nA md) (nA us) a_first a_follow a_table (nA (tx_kd T)) (nA (tx_va T)) (nA le') a_fault a_defs a_refs a_imports a_defAt a_refAt a_scopeOf a_importAt a_around a_beginsAt a_endsAt a_names a_scopes a_twice a_open a_stale a_link a_kept a_stack a_trial a_opened := by
    intro le' hle x6 hx
    rw [hle]
    unfold wX_put_115
    rw [nI_clamp (show 20 * f + a < 2 ^ 31 by omega), vb_w (show k < 128 by omega), vb_w (show v < 128 by omega), nA_upd, nA_upd]
    refine ⟨pk_in (20 * f + a) 80 (by omega), nm_e ⟨pk_in (20 * f + a) 80 (by omega), nm_e ?_⟩⟩
    rcases hx with hx | ⟨hx, hx2, hx3⟩
    · subst hx
      refine xf_refresh1 (T := tx_put T f a k v) (z_scopes := a_scopes) (z_around := a_around) (z_beginsAt := a_beginsAt) (z_endsAt := a_endsAt) (z_scopeOf := a_scopeOf) (z_defs := a_defs) (z_refs := a_refs) (z_imports := a_imports) (z_defAt := a_defAt) (z_refAt := a_refAt) (z_importAt := a_importAt) (z_fault := a_fault) (z_names := a_names) (z_twice := a_twice) (z_stale := a_stale)
        (L := fun g => tx_ps G (tx_put T f a k v) g 3) hG L hkd' hf hva' h20' hB (fun g hg hgf => ?_) ?_
      · obtain ⟨e1, e2, _⟩ := hsame g hgf
        refine ⟨?_, fun q hq => (tx_ps_in hq).1, tx_ps_len⟩
        rw [← cg_ps e1 e2]
        exact (hO g hg).1.2.2.2.1
      · intro f_sp' f_depth' f_at' a_stack' a_opened' a_fault' a_scopes' a_around' a_beginsAt' a_endsAt' a_scopeOf' a_defs' a_refs' a_imports' a_defAt' a_refAt' a_importAt' a_names' a_twice' a_stale' q1 q2 q3 q4 q5 q6 q7
        exact hP _ (xx_mk (T := tx_put T f a k v) (b := 1) (xv_F h20' hsame hm hB hO q1 q2 q3 q4 q5 q6 q7))
    · subst hx
      obtain ⟨e1, e2⟩ := tp_keep (v := v) hx2 hx3
      refine xf_refresh0 (T := tx_put T f a k v) (z_names := a_names) (z_twice := a_twice) (z_stale := a_stale) (L := fun g => tx_ps G (tx_put T f a k v) g 3) hf hva' h20' (cg_A e1 e2 (hO f hf).1) (fun g hg => ?_) ?_
      · refine ⟨?_, fun q hq => (tx_ps_in hq).1, tx_ps_len⟩
        by_cases e : g = f
        · subst e
          show xx_ls (tx_ps G (tx_put T g a k v) g 3) g a_imports a_importAt
          rw [← cg_ps e1 e2]; exact (hO g hg).1.2.2.2.1
        · obtain ⟨e1, e2, _⟩ := hsame g e
          show xx_ls (tx_ps G (tx_put T f a k v) g 3) g a_imports a_importAt
          rw [← cg_ps e1 e2]
          exact (hO g hg).1.2.2.2.1
      · intro a_names' a_twice' a_stale' q1 q2 q3 q4 q5
        refine hP _ (xx_mk (T := tx_put T f a k v) (b := 1) (xv_F h20' hsame hm hB hO ⟨cg_A e1 e2 (hO f hf).1, q1⟩ ⟨fun _ _ => rfl, fun _ _ => rfl, fun _ _ => rfl, fun _ _ => rfl, fun _ _ => rfl, fun _ _ => rfl, fun _ _ => rfl, fun _ _ => rfl, fun _ _ => rfl, fun _ _ => rfl, fun _ _ => rfl⟩ (fun _ _ => rfl) q2 q3 q4 q5))
  have p92 : ∀ z0 : Int32, (z0 = 1 ∨ (z0 = 0 ∧ a ≠ tx_le T f ∧ tx_kd T (20 * f + a) = k)) → wX_put_92 post (nI f) (nI a) (nI k) (nI v) (nI (20 * f + a)) z0 (nI (gg_np G)) (nI 1) f_nullable f_productive f_sp f_depth f_at (nA (gg_ru G)) (nA (gg_ln G)) (nA (gg_sy G)) (gg_ro G) (nA (gg_sc G)) (nA md) (nA us) a_first a_follow a_table (nA (tx_kd T)) (nA (tx_va T)) (nA (tx_le T)) a_fault a_defs a_refs a_imports a_defAt a_refAt a_scopeOf a_importAt a_around a_beginsAt a_endsAt a_names a_scopes a_twice a_open a_stale a_link a_kept a_stack a_trial a_opened := by
    intro z0 hz0
    unfold wX_put_92
    rw [nA_cl (show f < 2 ^ 31 by omega), nI_clamp (show f < 2 ^ 31 by omega), nI_1, vb_w (show tx_le T f + 1 < 128 by omega), nA_upd]
    refine ⟨pk_in f 4 hf, pk_eq a (tx_le T f) (fun he => ⟨pk_in f 4 hf, pk_in f 4 hf, nm_e (fin _ ?_ z0 hz0)⟩) (fun he => fin _ ?_ z0 hz0)⟩
    · refine congrArg nA ?_
      show _ = if a = tx_le T f then un (tx_le T) f (tx_le T f + 1) else tx_le T
      rw [if_pos he]
    · refine congrArg nA ?_
      show tx_le T = if a = tx_le T f then un (tx_le T) f (tx_le T f + 1) else tx_le T
      rw [if_neg he]
  unfold wpX_put
  dsimp only
  refine br_f (by decide) (xw_1 (n := 4) hf (by omega) (br_f (by decide) (xw_1 (n := 10) hk (by omega) (br_f (by decide) (xw_1 (n := 16) hv (by omega) (br_f (by decide) (br_f (nI_pos (by omega)) ?_)))))))
  have hkc := hkd (20 * f + a)
  rw [nA_cl (show f < 2 ^ 31 by omega), e20]
  refine ⟨pk_in f 4 hf, pk_lt (tx_le T f) a (fun h => absurd h (by omega)) (fun _ => pk_eq a 20 (fun h => absurd h ha2) (fun _ => nm_e ⟨pk_in f 4 hf, ?_⟩))⟩
  rw [nA_cl (show 20 * f + a < 2 ^ 31 by omega)]
  refine pk_eq a (tx_le T f) (fun he => p92 1 (Or.inl rfl)) (fun he => ⟨pk_in (20 * f + a) 80 (by omega), pk_eq (tx_kd T (20 * f + a)) k (fun hkk => p92 0 (Or.inr ⟨rfl, he, hkk⟩)) (fun _ => p92 1 (Or.inl rfl))⟩)
theorem ym_putN {G : gg_T} {b : Nat} {T : tx_T} {f_some f_empty f_wn f_nt : Int32} {a_first a_follow a_word a_reach a_beyond a_way a_bad a_part a_scopes a_inner a_tRule a_tFrom a_tTo a_before : Nat → Int32} {kn : Nat → Nat} {post : Int32 → SY → Prop} {p0 p1 p2 p3 : Int32} (hb : b ≤ 1) (h20 : ∀ f, tx_le T f ≤ 20) (hn : ¬ pv b T p0 p1 p2 p3) (hP : post 0 (nI (gg_np G), nI b, f_some, f_empty, f_wn, f_nt, nA (gg_ru G), nA (gg_sc G), nA (gg_ln G), nA (gg_sy G), gg_ro G, a_first, a_follow, nA (tx_kd T), nA (tx_va T), nA (tx_le T), a_word, a_reach, a_beyond, a_way, nA kn, a_bad, a_part, a_scopes, a_inner, a_tRule, a_tFrom, a_tTo, a_before)) : wpY_put post (nI (gg_np G), nI b, f_some, f_empty, f_wn, f_nt, nA (gg_ru G), nA (gg_sc G), nA (gg_ln G), nA (gg_sy G), gg_ro G, a_first, a_follow, nA (tx_kd T), nA (tx_va T), nA (tx_le T), a_word, a_reach, a_beyond, a_way, nA kn, a_bad, a_part, a_scopes, a_inner, a_tRule, a_tFrom, a_tTo, a_before) p0 p1 p2 p3 := by
  unfold wpY_put
  dsimp only
  refine br_c (fun _ => hP) (fun hb0 => ?_)
  refine yq_c p0 (fun _ => br_t rfl hP) (fun f hf e0 => br_f (by decide) ?_)
  subst e0
  refine br_c (fun _ => hP) (fun h1 => ?_)
  obtain ⟨a, ha, rfl⟩ := nI_of h1
  have := h20 f
  rw [nA_cl (show f < 2 ^ 31 by omega)]
  refine ⟨pk_in f 4 hf, pk_lt (tx_le T f) a (fun _ => hP) (fun h2 => br_c (fun _ => hP) (fun h3 => br_c (fun _ => hP) (fun h4 => br_c (fun _ => hP) (fun h5 => br_c (fun _ => hP) (fun h6 => pk_eq a 20 (fun _ => hP) (fun h7 => ?_))))))⟩
  obtain ⟨k, _, rfl⟩ := nI_of h3
  obtain ⟨v, _, rfl⟩ := nI_of h5
  rw [show (9 : Int32) = nI 9 from rfl, nI_ltI (by omega) (by omega)] at h4
  rw [show (15 : Int32) = nI 15 from rfl, nI_ltI (by omega) (by omega)] at h6
  exact absurd ⟨bu_1 hb hb0, f, a, k, v, hf, rfl, rfl, h2, h7, rfl, by omega, rfl, by omega⟩ hn
theorem yv_F {G : gg_T} {T T' : tx_T} {f : Nat} {kn : Nat → Nat} {a_bad a_part a_scopes a_inner : Nat → Int32} (hs : ∀ g, g ≠ f → tx_tok T g = tx_tok T' g ∧ tx_le T g = tx_le T' g) (h : yy_F G 1 T kn a_bad a_part a_scopes a_inner) : yy_F G 1 T' (un kn f 0) a_bad a_part a_scopes a_inner := by
  refine ⟨fun g => ?_, fun h => by omega, fun g hg hk => ?_⟩
  · by_cases e : g = f
    · rw [e, un_s]; omega
    · rw [un_n e]; exact h.1 g
  · by_cases e : g = f
    · rw [e, un_s] at hk; omega
    · rw [un_n e] at hk
      obtain ⟨e1, e2⟩ := hs g e
      have hA := h.2.2 g hg hk
      unfold yy_A at hA ⊢
      rw [cg_err e1 e2, cg_sen e1 e2, cg_inn e1, e1, e2] at hA
      exact hA
theorem ym_put {G : gg_T} {T : tx_T} {f_some f_empty f_wn f_nt : Int32} {a_first a_follow a_word a_reach a_beyond a_way a_bad a_part a_scopes a_inner a_tRule a_tFrom a_tTo a_before : Nat → Int32} {kn : Nat → Nat} {post : Int32 → SY → Prop} {f a k v : Nat} (hz : zz_ok G 1 T) (hf : f < 4) (ha : a ≤ tx_le T f) (ha2 : a ≠ 20) (hk : k < 10) (hv : v < 16) (hF : yy_F G 1 T kn a_bad a_part a_scopes a_inner)
    (hP : ∀ v', yy_R G 1 (tx_put T f a k v) v' → post 1 v') : wpY_put post (nI (gg_np G), nI 1, f_some, f_empty, f_wn, f_nt, nA (gg_ru G), nA (gg_sc G), nA (gg_ln G), nA (gg_sy G), gg_ro G, a_first, a_follow, nA (tx_kd T), nA (tx_va T), nA (tx_le T), a_word, a_reach, a_beyond, a_way, nA kn, a_bad, a_part, a_scopes, a_inner, a_tRule, a_tFrom, a_tTo, a_before) (nI f) (nI a) (nI k) (nI v) := by
  have h20 := hz.2.2.2.2.2.1
  have h2 := h20 f
  have e20 : (20 : Int32) * nI f + nI a = nI (20 * f + a) := by rw [show (20 : Int32) = nI 20 from rfl, pk_mul, nI_add]
  have hF' := yv_F (T' := tx_put T f a k v) (fun g hg => ⟨(tp_same (k := k) (v := v) (by omega) (h20 g) hg).1, (tp_same (k := k) (v := v) (show a < 20 by omega) (h20 g) hg).2.1⟩) hF
  unfold wpY_put
  dsimp only
  refine br_f (by decide) (yq_f hf (br_f (by decide) (br_f (nI_pos (by omega)) ?_)))
  rw [nA_cl (show f < 2 ^ 31 by omega), e20, nI_clamp (show 20 * f + a < 2 ^ 31 by omega), vb_w (show k < 128 by omega), vb_w (show v < 128 by omega), nA_upd, nA_upd, nI_clamp (show f < 2 ^ 31 by omega), nI_1, vb_w (show tx_le T f + 1 < 128 by omega), nA_upd, vo_0, nA_upd]
  refine ⟨pk_in f 4 hf, pk_lt (tx_le T f) a (fun h => absurd h (by omega)) (fun _ => br_f (nI_pos (by omega)) (br_f (fun hx => absurd hx (by rw [show (9 : Int32) = nI 9 from rfl, nI_ltI (by omega) (by omega)]; omega)) (br_f (nI_pos (by omega)) (br_f (fun hx => absurd hx (by rw [show (15 : Int32) = nI 15 from rfl, nI_ltI (by omega) (by omega)]; omega)) (pk_eq a 20 (fun h => absurd h ha2) (fun _ => ⟨pk_in (20 * f + a) 80 (by omega), nm_e ⟨pk_in (20 * f + a) 80 (by omega), nm_e ⟨pk_in f 4 hf, ?_⟩⟩⟩))))))⟩
  refine pk_eq a (tx_le T f) (fun he => ⟨pk_in f 4 hf, pk_in f 4 hf, nm_e ⟨pk_in f 4 hf, nm_e (hP _ ?_)⟩⟩) (fun he => ⟨pk_in f 4 hf, nm_e (hP _ ?_)⟩)
  · have := yy_mk (f_some := f_some) (f_empty := f_empty) (f_wn := f_wn) (f_nt := f_nt) (a_first := a_first) (a_follow := a_follow) (a_word := a_word) (a_reach := a_reach) (a_beyond := a_beyond) (a_way := a_way) (a_tRule := a_tRule) (a_tFrom := a_tFrom) (a_tTo := a_tTo) (a_before := a_before) hF'
    have e : tx_le (tx_put T f a k v) = un (tx_le T) f (tx_le T f + 1) := by
      show (if a = tx_le T f then un (tx_le T) f (tx_le T f + 1) else tx_le T) = _
      rw [if_pos he]
    rw [e] at this
    exact this
  · have := yy_mk (f_some := f_some) (f_empty := f_empty) (f_wn := f_wn) (f_nt := f_nt) (a_first := a_first) (a_follow := a_follow) (a_word := a_word) (a_reach := a_reach) (a_beyond := a_beyond) (a_way := a_way) (a_tRule := a_tRule) (a_tFrom := a_tFrom) (a_tTo := a_tTo) (a_before := a_before) hF'
    have e : tx_le (tx_put T f a k v) = tx_le T := by
      show (if a = tx_le T f then un (tx_le T) f (tx_le T f + 1) else tx_le T) = _
      rw [if_neg he]
    rw [e] at this
    exact this
end
section
def dl_s (g : Nat → Nat) (lo hi : Nat) : Nat → Nat := fun c => if lo ≤ c ∧ c < hi then g (c + 1) else g c
theorem dl_1 {g : Nat → Nat} {lo hi c : Nat} (h : lo ≤ c ∧ c < hi) : dl_s g lo hi c = g (c + 1) := if_pos h
theorem dl_0 {g : Nat → Nat} {lo hi c : Nat} (h : ¬ (lo ≤ c ∧ c < hi)) : dl_s g lo hi c = g c := if_neg h
theorem dl_n {g : Nat → Nat} {lo : Nat} : dl_s g lo lo = g := by funext c; exact dl_0 (by omega)
theorem dl_u {g : Nat → Nat} {lo i : Nat} (h : lo ≤ i) : un (dl_s g lo i) i (dl_s g lo i (i + 1)) = dl_s g lo (i + 1) := by
  funext c
  by_cases e : c = i
  · subst e; rw [un_s, dl_0 (by omega), dl_1 (by omega)]
  · rw [un_n e]
    by_cases h2 : lo ≤ c ∧ c < i
    · rw [dl_1 h2, dl_1 (by omega)]
    · rw [dl_0 h2, dl_0 (by omega)]
theorem dl_lt {g : Nat → Nat} {lo hi m : Nat} (h : ∀ c, g c < m) (c : Nat) : dl_s g lo hi c < m := by
  by_cases e : lo ≤ c ∧ c < hi
  · rw [dl_1 e]; exact h _
  · rw [dl_0 e]; exact h _
def tx_del (T : tx_T) (f a : Nat) : tx_T := (dl_s (tx_kd T) (20 * f + a) (20 * f + (tx_le T f - 1)), dl_s (tx_va T) (20 * f + a) (20 * f + (tx_le T f - 1)), un (tx_le T) f (tx_le T f - 1))
theorem zz_del {G : gg_T} {T : tx_T} {f a : Nat} (h : zz_ok G 1 T) : zz_ok G 1 (tx_del T f a) := by
  obtain ⟨h1, h2, h3, h4, h5, h6, h7⟩ := h
  refine ⟨h1, h2, h3, dl_lt h4, dl_lt h5, fun g => ?_, fun h => by omega⟩
  show un (tx_le T) f (tx_le T f - 1) g ≤ 20
  have := h6 f
  by_cases e : g = f
  · rw [e, un_s]; omega
  · rw [un_n e]; exact h6 g
theorem td_same {T : tx_T} {f a g : Nat} (h20 : tx_le T g ≤ 20) (h20f : tx_le T f ≤ 20) (hg : g ≠ f) : tx_tok T g = tx_tok (tx_del T f a) g ∧ tx_le T g = tx_le (tx_del T f a) g ∧ ∀ x, x < 20 → tx_va T (20 * g + x) = tx_va (tx_del T f a) (20 * g + x) := by
  have hle : tx_le T g = tx_le (tx_del T f a) g := (un_n hg).symm
  refine ⟨?_, hle, fun x hx => ?_⟩
  · funext x
    unfold tx_tok
    rw [← hle]
    by_cases h : x < tx_le T g
    · rw [if_pos h, if_pos h]
      show tx_kd T _ = dl_s (tx_kd T) _ _ _
      rw [dl_0 (by omega)]
    · rw [if_neg h, if_neg h]
  · show _ = dl_s (tx_va T) _ _ _
    rw [dl_0 (by omega)]
def dv (T : tx_T) (p0 p1 : Int32) : Prop := ∃ f a, f < 4 ∧ p0 = nI f ∧ p1 = nI a ∧ a < tx_le T f
theorem xm_delN {G : gg_T} {b : Nat} {T : tx_T} {f_nullable f_productive f_sp f_depth f_at : Int32} {a_first a_follow a_fault a_defs a_refs a_imports a_defAt a_refAt a_scopeOf a_importAt a_around a_beginsAt a_endsAt a_names a_scopes a_twice a_open a_stale a_link a_kept a_stack a_trial a_opened : Nat → Int32} {a_table : Nat → Int64} {md us : Nat → Nat} {post : Int32 → SX → Prop} {p0 p1 : Int32} (h20 : ∀ f, tx_le T f ≤ 20) (hn : ¬ dv T p0 p1) (hP : post 0 (nI (gg_np G), nI b, f_nullable, f_productive, f_sp, f_depth, f_at, nA (gg_ru G), nA (gg_ln G), nA (gg_sy G), gg_ro G, nA (gg_sc G), nA md, nA us, a_first, a_follow, a_table, nA (tx_kd T), nA (tx_va T), nA (tx_le T), a_fault, a_defs, a_refs, a_imports, a_defAt, a_refAt, a_scopeOf, a_importAt, a_around, a_beginsAt, a_endsAt, a_names, a_scopes, a_twice, a_open, a_stale, a_link, a_kept, a_stack, a_trial, a_opened)) : wpX_delete post (nI (gg_np G), nI b, f_nullable, f_productive, f_sp, f_depth, f_at, nA (gg_ru G), nA (gg_ln G), nA (gg_sy G), gg_ro G, nA (gg_sc G), nA md, nA us, a_first, a_follow, a_table, nA (tx_kd T), nA (tx_va T), nA (tx_le T), a_fault, a_defs, a_refs, a_imports, a_defAt, a_refAt, a_scopeOf, a_importAt, a_around, a_beginsAt, a_endsAt, a_names, a_scopes, a_twice, a_open, a_stale, a_link, a_kept, a_stack, a_trial, a_opened) p0 p1 := by
  unfold wpX_delete
  dsimp only
  refine xwi p0 4 (by omega) (fun _ => br_t rfl hP) (fun f hf e0 => br_f (by decide) ?_)
  subst e0
  have := h20 f
  rw [nA_cl (show f < 2 ^ 31 by omega)]
  refine ⟨pk_in f 4 hf, xwi p1 (tx_le T f) (by omega) (fun _ => br_t rfl hP) (fun a ha e1 => ?_)⟩
  exact absurd ⟨f, a, hf, rfl, e1, ha⟩ hn
theorem xm_del {G : gg_T} {T : tx_T} {f_nullable f_productive f_sp f_depth f_at : Int32} {a_first a_follow a_fault a_defs a_refs a_imports a_defAt a_refAt a_scopeOf a_importAt a_around a_beginsAt a_endsAt a_names a_scopes a_twice a_open a_stale a_link a_kept a_stack a_trial a_opened : Nat → Int32} {a_table : Nat → Int64} {md us : Nat → Nat} {post : Int32 → SX → Prop} {f a : Nat} (hz : zz_ok G 1 T) (hf : f < 4) (ha : a < tx_le T f)
    (hF : xx_F G 1 T md us a_table a_fault a_defs a_refs a_imports a_defAt a_refAt a_scopeOf a_importAt a_around a_beginsAt a_endsAt a_names a_scopes a_twice a_open a_stale a_link)
    (hP : ∀ u', xx_R G 1 (tx_del T f a) u' → post 1 u') : wpX_delete post (nI (gg_np G), nI 1, f_nullable, f_productive, f_sp, f_depth, f_at, nA (gg_ru G), nA (gg_ln G), nA (gg_sy G), gg_ro G, nA (gg_sc G), nA md, nA us, a_first, a_follow, a_table, nA (tx_kd T), nA (tx_va T), nA (tx_le T), a_fault, a_defs, a_refs, a_imports, a_defAt, a_refAt, a_scopeOf, a_importAt, a_around, a_beginsAt, a_endsAt, a_names, a_scopes, a_twice, a_open, a_stale, a_link, a_kept, a_stack, a_trial, a_opened) (nI f) (nI a) := by
  have hz' := zz_del (f := f) (a := a) hz
  obtain ⟨hG, _, hL, hkd, hva, h20, _⟩ := hz
  obtain ⟨_, _, _, hkd', hva', h20', _⟩ := hz'
  have h2 := h20 f
  have L := hL rfl
  obtain ⟨hm, hF1, _⟩ := hF
  obtain ⟨hB, hO⟩ := hF1 rfl
  have e20 : ∀ x : Nat, (20 : Int32) * nI f + nI x = nI (20 * f + x) := fun x => by rw [show (20 : Int32) = nI 20 from rfl, pk_mul, nI_add]
  have hsame := fun g (hg : g ≠ f) => td_same (a := a) (h20 g) h2 hg
  have eun : un (tx_le T) f (tx_le T f - 1) f = tx_le T f - 1 := un_s
  have loop : ∀ k i, i + k = 20 * f + (tx_le T f - 1) → 20 * f + a ≤ i → wX_delete_41 post (nI f) (nI (gg_np G)) (nI 1) f_nullable f_productive f_sp f_depth f_at (k + 1) (nI i) (nA (gg_ru G)) (nA (gg_ln G)) (nA (gg_sy G)) (gg_ro G) (nA (gg_sc G)) (nA md) (nA us) a_first a_follow a_table (nA (dl_s (tx_kd T) (20 * f + a) i)) (nA (dl_s (tx_va T) (20 * f + a) i)) (nA (un (tx_le T) f (tx_le T f - 1))) a_fault a_defs a_refs a_imports a_defAt a_refAt a_scopeOf a_importAt a_around a_beginsAt a_endsAt a_names a_scopes a_twice a_open a_stale a_link a_kept a_stack a_trial a_opened := by
    intro k
    induction k with
    | zero =>
      intro i hi hlo
      have e : i = 20 * f + (tx_le T f - 1) := by omega
      refine ⟨pk_in f 4 hf, ?_⟩
      rw [nA_cl (show f < 2 ^ 31 by omega), eun, e20]
      refine pk_le (20 * f + (tx_le T f - 1)) i (fun _ => ?_) (fun h => absurd h (by omega))
      rw [e]
      refine xf_refresh1 (T := tx_del T f a) (z_scopes := a_scopes) (z_around := a_around) (z_beginsAt := a_beginsAt) (z_endsAt := a_endsAt) (z_scopeOf := a_scopeOf) (z_defs := a_defs) (z_refs := a_refs) (z_imports := a_imports) (z_defAt := a_defAt) (z_refAt := a_refAt) (z_importAt := a_importAt) (z_fault := a_fault) (z_names := a_names) (z_twice := a_twice) (z_stale := a_stale)
        (L := fun g => tx_ps G (tx_del T f a) g 3) hG L hkd' hf hva' h20' hB (fun g hg hgf => ?_) ?_
      · obtain ⟨e1, e2, _⟩ := hsame g hgf
        refine ⟨?_, fun q hq => (tx_ps_in hq).1, tx_ps_len⟩
        rw [← cg_ps e1 e2]
        exact (hO g hg).1.2.2.2.1
      · intro f_sp' f_depth' f_at' a_stack' a_opened' a_fault' a_scopes' a_around' a_beginsAt' a_endsAt' a_scopeOf' a_defs' a_refs' a_imports' a_defAt' a_refAt' a_importAt' a_names' a_twice' a_stale' q1 q2 q3 q4 q5 q6 q7
        exact hP _ (xx_mk (T := tx_del T f a) (b := 1) (xv_F h20' hsame hm hB hO q1 q2 q3 q4 q5 q6 q7))
    | succ k ih =>
      intro i hi hlo
      have hk1 := dl_lt (lo := 20 * f + a) (hi := i) hkd (i + 1)
      have hv1 := dl_lt (lo := 20 * f + a) (hi := i) hva (i + 1)
      refine ⟨pk_in f 4 hf, ?_⟩
      rw [nA_cl (show f < 2 ^ 31 by omega), eun, e20]
      refine pk_le (20 * f + (tx_le T f - 1)) i (fun h => absurd h (by omega)) (fun _ => ?_)
      rw [nI_1, nA_cl (show i + 1 < 2 ^ 31 by omega), nA_cl (show i + 1 < 2 ^ 31 by omega), nI_clamp (show i < 2 ^ 31 by omega), vb_v (by omega), vb_v (by omega), nA_upd, nA_upd, dl_u hlo, dl_u hlo]
      exact ⟨pk_in (i + 1) 80 (by omega), pk_in i 80 (by omega), nm_e ⟨pk_in (i + 1) 80 (by omega), pk_in i 80 (by omega), nm_e (nm_e (ih (i + 1) (by omega) (by omega)))⟩⟩
  unfold wpX_delete
  dsimp only
  refine xw_1 (n := 4) hf (by omega) (br_f (by decide) ⟨pk_in f 4 hf, ?_⟩)
  have em1 : nI (tx_le T f) - 1 = nI (tx_le T f - 1) := pk_sub (b := 1) (by omega)
  rw [nA_cl (show f < 2 ^ 31 by omega), nI_clamp (show f < 2 ^ 31 by omega), em1, vb_w (show tx_le T f - 1 < 128 by omega), nA_upd, e20]
  refine xw_1 ha (by omega) (br_f (by decide) ⟨pk_in f 4 hf, pk_in f 4 hf, nm_e (nm_e ⟨tx_le T f - 1 - a + 1, ?_⟩)⟩)
  have := loop (tx_le T f - 1 - a) (20 * f + a) (by omega) (Nat.le_refl _)
  rw [dl_n, dl_n] at this
  exact this
theorem ym_delN {G : gg_T} {b : Nat} {T : tx_T} {f_some f_empty f_wn f_nt : Int32} {a_first a_follow a_word a_reach a_beyond a_way a_bad a_part a_scopes a_inner a_tRule a_tFrom a_tTo a_before : Nat → Int32} {kn : Nat → Nat} {post : Int32 → SY → Prop} {p0 p1 : Int32} (h20 : ∀ f, tx_le T f ≤ 20) (hn : ¬ dv T p0 p1) (hP : post 0 (nI (gg_np G), nI b, f_some, f_empty, f_wn, f_nt, nA (gg_ru G), nA (gg_sc G), nA (gg_ln G), nA (gg_sy G), gg_ro G, a_first, a_follow, nA (tx_kd T), nA (tx_va T), nA (tx_le T), a_word, a_reach, a_beyond, a_way, nA kn, a_bad, a_part, a_scopes, a_inner, a_tRule, a_tFrom, a_tTo, a_before)) : wpY_delete post (nI (gg_np G), nI b, f_some, f_empty, f_wn, f_nt, nA (gg_ru G), nA (gg_sc G), nA (gg_ln G), nA (gg_sy G), gg_ro G, a_first, a_follow, nA (tx_kd T), nA (tx_va T), nA (tx_le T), a_word, a_reach, a_beyond, a_way, nA kn, a_bad, a_part, a_scopes, a_inner, a_tRule, a_tFrom, a_tTo, a_before) p0 p1 := by
  unfold wpY_delete
  dsimp only
  refine yq_c p0 (fun _ => br_t rfl hP) (fun f hf e0 => br_f (by decide) ?_)
  subst e0
  refine br_c (fun _ => hP) (fun h1 => ?_)
  obtain ⟨a, ha, rfl⟩ := nI_of h1
  have := h20 f
  rw [nA_cl (show f < 2 ^ 31 by omega)]
  exact ⟨pk_in f 4 hf, pk_lt a (tx_le T f) (fun h2 => absurd ⟨f, a, hf, rfl, rfl, h2⟩ hn) (fun _ => hP)⟩
theorem ym_del {G : gg_T} {T : tx_T} {f_some f_empty f_wn f_nt : Int32} {a_first a_follow a_word a_reach a_beyond a_way a_bad a_part a_scopes a_inner a_tRule a_tFrom a_tTo a_before : Nat → Int32} {kn : Nat → Nat} {post : Int32 → SY → Prop} {f a : Nat} (hz : zz_ok G 1 T) (hf : f < 4) (ha : a < tx_le T f) (hF : yy_F G 1 T kn a_bad a_part a_scopes a_inner)
    (hP : ∀ v', yy_R G 1 (tx_del T f a) v' → post 1 v') : wpY_delete post (nI (gg_np G), nI 1, f_some, f_empty, f_wn, f_nt, nA (gg_ru G), nA (gg_sc G), nA (gg_ln G), nA (gg_sy G), gg_ro G, a_first, a_follow, nA (tx_kd T), nA (tx_va T), nA (tx_le T), a_word, a_reach, a_beyond, a_way, nA kn, a_bad, a_part, a_scopes, a_inner, a_tRule, a_tFrom, a_tTo, a_before) (nI f) (nI a) := by
  obtain ⟨hG, _, hL, hkd, hva, h20, _⟩ := hz
  have h2 := h20 f
  have e20 : ∀ x : Nat, (20 : Int32) * nI f + nI x = nI (20 * f + x) := fun x => by rw [show (20 : Int32) = nI 20 from rfl, pk_mul, nI_add]
  have em1 : nI (tx_le T f) - 1 = nI (tx_le T f - 1) := pk_sub (b := 1) (by omega)
  have em2 : nI (20 * f + tx_le T f) - 1 = nI (20 * f + (tx_le T f - 1)) := (pk_sub (b := 1) (by omega)).trans (congrArg nI (by omega))
  have hF' := yv_F (T' := tx_del T f a) (fun g hg => ⟨(td_same (a := a) (h20 g) h2 hg).1, (td_same (a := a) (h20 g) h2 hg).2.1⟩) hF
  have loop : ∀ k i, i + k = 20 * f + (tx_le T f - 1) → 20 * f + a ≤ i → wY_delete_31 post (nI f) (nI (gg_np G)) (nI 1) f_some f_empty f_wn f_nt (k + 1) (nI i) (nA (gg_ru G)) (nA (gg_sc G)) (nA (gg_ln G)) (nA (gg_sy G)) (gg_ro G) a_first a_follow (nA (dl_s (tx_kd T) (20 * f + a) i)) (nA (dl_s (tx_va T) (20 * f + a) i)) (nA (tx_le T)) a_word a_reach a_beyond a_way (nA kn) a_bad a_part a_scopes a_inner a_tRule a_tFrom a_tTo a_before := by
    intro k
    induction k with
    | zero =>
      intro i hi hlo
      have e : i = 20 * f + (tx_le T f - 1) := by omega
      refine ⟨pk_in f 4 hf, ?_⟩
      rw [nA_cl (show f < 2 ^ 31 by omega), e20, em2, em1, nI_clamp (show f < 2 ^ 31 by omega), vb_w (show tx_le T f - 1 < 128 by omega), nA_upd, vo_0, nA_upd]
      refine pk_le (20 * f + (tx_le T f - 1)) i (fun _ => ⟨pk_in f 4 hf, pk_in f 4 hf, nm_e ⟨pk_in f 4 hf, nm_e ?_⟩⟩) (fun h => absurd h (by omega))
      rw [e]
      exact hP _ (yy_mk (T := tx_del T f a) (b := 1) hF')
    | succ k ih =>
      intro i hi hlo
      have hk1 := dl_lt (lo := 20 * f + a) (hi := i) hkd (i + 1)
      have hv1 := dl_lt (lo := 20 * f + a) (hi := i) hva (i + 1)
      refine ⟨pk_in f 4 hf, ?_⟩
      rw [nA_cl (show f < 2 ^ 31 by omega), e20, em2]
      refine pk_le (20 * f + (tx_le T f - 1)) i (fun h => absurd h (by omega)) (fun _ => ?_)
      rw [nI_1, nA_cl (show i + 1 < 2 ^ 31 by omega), nA_cl (show i + 1 < 2 ^ 31 by omega), nI_clamp (show i < 2 ^ 31 by omega), vb_v (by omega), vb_v (by omega), nA_upd, nA_upd, dl_u hlo, dl_u hlo]
      exact ⟨pk_in (i + 1) 80 (by omega), pk_in i 80 (by omega), nm_e ⟨pk_in (i + 1) 80 (by omega), pk_in i 80 (by omega), nm_e (nm_e (ih (i + 1) (by omega) (by omega)))⟩⟩
  unfold wpY_delete
  dsimp only
  refine yq_f hf (br_f (by decide) (br_f (nI_pos (by omega)) ?_))
  rw [nA_cl (show f < 2 ^ 31 by omega), e20]
  refine ⟨pk_in f 4 hf, pk_lt a (tx_le T f) (fun _ => nm_e ⟨tx_le T f - 1 - a + 1, ?_⟩) (fun h => absurd h (by omega))⟩
  have := loop (tx_le T f - 1 - a) (20 * f + a) (by omega) (Nat.le_refl _)
  rw [dl_n, dl_n] at this
  exact this
end
section
/-! each method at the level of the two relations -/
def fv (b : Nat) (v1 : Int32) : Prop := b = 1 ∧ ∃ f, f < 4 ∧ v1 = nI f
theorem ix_no {x : Int32} {n j : Nat} (hx : x < 0 ∨ nI n ≤ x) (hn : n < 2 ^ 31) (hj : j < n) : x ≠ nI j := by
  intro e
  subst e
  rcases hx with h | h
  · exact nI_pos (by omega) h
  · exact nI_ge hj hn h
theorem fv_b {b : Nat} {v1 : Int32} (hb : nI b = 0) : ¬ fv b v1 := fun h => by rw [h.1] at hb; exact absurd hb (by decide)
theorem fv_x {b : Nat} {v1 : Int32} (hx : v1 < 0 ∨ nI 4 ≤ v1) : ¬ fv b v1 := fun ⟨_, f, hf, e⟩ => ix_no hx (by omega) hf e
theorem dv_x {T : tx_T} {v1 v2 : Int32} (hx : v1 < 0 ∨ nI 4 ≤ v1) : ¬ dv T v1 v2 := fun ⟨f, a, hf, e, _⟩ => ix_no hx (by omega) hf e
theorem yf_0 {G : gg_T} {b : Nat} {T : tx_T} {kn : Nat → Nat} {bad part scopes inner : Nat → Int32} (h : yy_F G b T kn bad part scopes inner) : yf G b T (fun _ => 0) kn bad part scopes inner := ⟨h, fun g hg => absurd (show (0 : Nat) = 1 from hg) (by omega)⟩
theorem nI_eqj {f g : Nat} (hf : f < 2 ^ 31) (hg : g < 2 ^ 31) (h : nI f = nI g) : f = g := nI_inj hf hg h
theorem tok_e : ∀ k, k < 10 → ∀ v, v < 16 → (nI k <<< ((4 : Int32) &&& 31)) ||| nI v = nI k * 16 + nI v := by decide +kernel
theorem sco_e : ∀ x, x < 20 → ∀ y, y < 20 → (nI x <<< ((5 : Int32) &&& 31)) ||| nI y = nI (32 * x + y) := by decide +kernel
section AX
variable {G : gg_T} {b : Nat} {T : tx_T} {u : SX} {v1 v2 v3 : Int32}
theorem xa_token {post : Int32 → Prop} (hz : zz_ok G b T) (hu : xx_R G b T u) (h0 : ¬ dv T v1 v2 → post (-1)) (h1 : ∀ f a, f < 4 → v1 = nI f → v2 = nI a → a < tx_le T f → post (nI (tx_kd T (20 * f + a)) * 16 + nI (tx_va T (20 * f + a)))) : wpX_token post u v1 v2 := by
  refine xx_el (P := fun u => wpX_token post u v1 v2) ?_ hu
  intro f_nullable f_productive f_sp f_depth f_at a_first a_follow a_fault a_defs a_refs a_imports a_defAt a_refAt a_scopeOf a_importAt a_around a_beginsAt a_endsAt a_names a_scopes a_twice a_open a_stale a_link a_kept a_stack a_trial a_opened a_table md us hF
  have h20 := hz.2.2.2.2.2.1
  unfold wpX_token
  dsimp only
  refine xwi v1 4 (by omega) (fun hx => br_t rfl (h0 (dv_x hx))) (fun f hf e => br_f (by decide) ?_)
  subst e
  have := h20 f
  rw [nA_cl (show f < 2 ^ 31 by omega)]
  refine ⟨pk_in f 4 hf, xwi v2 (tx_le T f) (by omega) (fun hx => br_t rfl (h0 (fun ⟨g, a, hg, e1, e2, ha⟩ => ?_))) (fun a ha e => br_f (by decide) ?_)⟩
  · have := nI_inj (by omega) (by omega) e1
    subst this
    exact ix_no hx (by omega) ha e2
  · subst e
    have e20 : (20 : Int32) * nI f + nI a = nI (20 * f + a) := by rw [show (20 : Int32) = nI 20 from rfl, pk_mul, nI_add]
    rw [e20, nA_cl (show 20 * f + a < 2 ^ 31 by omega), nA_cl (show 20 * f + a < 2 ^ 31 by omega), tok_e _ (hz.2.2.2.1 _) _ (hz.2.2.2.2.1 _)]
    exact ⟨pk_in (20 * f + a) 80 (by omega), pk_in (20 * f + a) 80 (by omega), h1 f a hf rfl rfl ha⟩
theorem xa_error {post : Int32 → Prop} (hu : xx_R G b T u) (hb : b ≤ 1) (h0 : ¬ fv b v1 → post (-2)) (h1 : ∀ f, b = 1 → f < 4 → v1 = nI f → post (tx_err G T f)) : wpX_errorAt post u v1 := by
  refine xx_el (P := fun u => wpX_errorAt post u v1) ?_ hu
  intro f_nullable f_productive f_sp f_depth f_at a_first a_follow a_fault a_defs a_refs a_imports a_defAt a_refAt a_scopeOf a_importAt a_around a_beginsAt a_endsAt a_names a_scopes a_twice a_open a_stale a_link a_kept a_stack a_trial a_opened a_table md us hF
  unfold wpX_errorAt
  dsimp only
  refine br_c (fun hb0 => h0 (fv_b hb0)) (fun hb0 => xwi v1 4 (by omega) (fun hx => br_t rfl (h0 (fv_x hx))) (fun f hf e => br_f (by decide) ?_))
  subst e
  have hb1 := bu_1 hb hb0
  rw [nI_clamp (show f < 2 ^ 31 by omega), ((hF.2.1 hb1).2 f hf).1.1]
  exact ⟨pk_in f 4 hf, h1 f hb1 hf rfl⟩
theorem xa_defs {post : Int32 → Prop} (hu : xx_R G b T u) (hb : b ≤ 1) (h0 : ¬ fv b v1 → post 0) (h1 : ∀ f, b = 1 → f < 4 → v1 = nI f → post (nI (tx_ps G T f 1).length)) : wpX_definitions post u v1 := by
  refine xx_el (P := fun u => wpX_definitions post u v1) ?_ hu
  intro f_nullable f_productive f_sp f_depth f_at a_first a_follow a_fault a_defs a_refs a_imports a_defAt a_refAt a_scopeOf a_importAt a_around a_beginsAt a_endsAt a_names a_scopes a_twice a_open a_stale a_link a_kept a_stack a_trial a_opened a_table md us hF
  unfold wpX_definitions
  dsimp only
  refine br_c (fun hb0 => h0 (fv_b hb0)) (fun hb0 => xwi v1 4 (by omega) (fun hx => br_t rfl (h0 (fv_x hx))) (fun f hf e => br_f (by decide) ?_))
  subst e
  have hb1 := bu_1 hb hb0
  rw [nI_clamp (show f < 2 ^ 31 by omega), ((hF.2.1 hb1).2 f hf).1.2.1.1]
  exact ⟨pk_in f 4 hf, h1 f hb1 hf rfl⟩
theorem xa_refs {post : Int32 → Prop} (hu : xx_R G b T u) (hb : b ≤ 1) (h0 : ¬ fv b v1 → post 0) (h1 : ∀ f, b = 1 → f < 4 → v1 = nI f → post (nI (tx_ps G T f 2).length)) : wpX_references post u v1 := by
  refine xx_el (P := fun u => wpX_references post u v1) ?_ hu
  intro f_nullable f_productive f_sp f_depth f_at a_first a_follow a_fault a_defs a_refs a_imports a_defAt a_refAt a_scopeOf a_importAt a_around a_beginsAt a_endsAt a_names a_scopes a_twice a_open a_stale a_link a_kept a_stack a_trial a_opened a_table md us hF
  unfold wpX_references
  dsimp only
  refine br_c (fun hb0 => h0 (fv_b hb0)) (fun hb0 => xwi v1 4 (by omega) (fun hx => br_t rfl (h0 (fv_x hx))) (fun f hf e => br_f (by decide) ?_))
  subst e
  have hb1 := bu_1 hb hb0
  rw [nI_clamp (show f < 2 ^ 31 by omega), ((hF.2.1 hb1).2 f hf).1.2.2.1.1]
  exact ⟨pk_in f 4 hf, h1 f hb1 hf rfl⟩
theorem xa_dup {post : Int32 → Prop} (hu : xx_R G b T u) (hb : b ≤ 1) (h0 : ¬ fv b v1 → post 0) (h1 : ∀ f, b = 1 → f < 4 → v1 = nI f → post (nI (tx_dup G T f))) : wpX_duplicates post u v1 := by
  refine xx_el (P := fun u => wpX_duplicates post u v1) ?_ hu
  intro f_nullable f_productive f_sp f_depth f_at a_first a_follow a_fault a_defs a_refs a_imports a_defAt a_refAt a_scopeOf a_importAt a_around a_beginsAt a_endsAt a_names a_scopes a_twice a_open a_stale a_link a_kept a_stack a_trial a_opened a_table md us hF
  unfold wpX_duplicates
  dsimp only
  refine br_c (fun hb0 => h0 (fv_b hb0)) (fun hb0 => xwi v1 4 (by omega) (fun hx => br_t rfl (h0 (fv_x hx))) (fun f hf e => br_f (by decide) ?_))
  subst e
  have hb1 := bu_1 hb hb0
  rw [nI_clamp (show f < 2 ^ 31 by omega), ((hF.2.1 hb1).2 f hf).2.1.2]
  exact ⟨pk_in f 4 hf, h1 f hb1 hf rfl⟩
theorem xa_scope {post : Int32 → Prop} (hz : zz_ok G b T) (hu : xx_R G b T u) (h0 : ¬ dv T v1 v2 → post (-2)) (h1 : ∀ f a, b = 1 → f < 4 → v1 = nI f → v2 = nI a → a < tx_le T f → tx_sen G T f → post (tx_inn G T f a)) (h2 : ∀ f a, b = 1 → f < 4 → v1 = nI f → v2 = nI a → a < tx_le T f → ¬ tx_sen G T f → post (-2)) : wpX_scope post u v1 v2 := by
  refine xx_el (P := fun u => wpX_scope post u v1 v2) ?_ hu
  intro f_nullable f_productive f_sp f_depth f_at a_first a_follow a_fault a_defs a_refs a_imports a_defAt a_refAt a_scopeOf a_importAt a_around a_beginsAt a_endsAt a_names a_scopes a_twice a_open a_stale a_link a_kept a_stack a_trial a_opened a_table md us hF
  have h20 := hz.2.2.2.2.2.1
  unfold wpX_scope
  dsimp only
  refine br_c (fun hb0 => h0 (fun ⟨f, a, hf, _, _, ha⟩ => ?_)) (fun hb0 => xwi v1 4 (by omega) (fun hx => br_t rfl (h0 (dv_x hx))) (fun f hf e => br_f (by decide) ?_))
  · have hb : b = 0 := by
      rcases (show b = 0 ∨ b = 1 by have := hz.2.1; omega) with h | h
      · exact h
      · rw [h] at hb0; exact absurd hb0 (by decide)
    have := hz.2.2.2.2.2.2 hb f hf
    omega
  · subst e
    have hle := h20 f
    have hb1 := bu_1 hz.2.1 hb0
    obtain ⟨hA, _, _⟩ := (hF.2.1 hb1).2 f hf
    rw [nA_cl (show f < 2 ^ 31 by omega)]
    refine ⟨pk_in f 4 hf, xwi v2 (tx_le T f) (by omega) (fun hx => br_t rfl (h0 (fun ⟨g, a, hg, e1, e2, ha⟩ => ?_))) (fun a ha e => br_f (by decide) ⟨pk_in f 4 hf, ?_⟩)⟩
    · have := nI_inj (by omega) (by omega) e1
      subst this
      exact ix_no hx (by omega) ha e2
    · subst e
      have e20 : (20 : Int32) * nI f + nI a = nI (20 * f + a) := by rw [show (20 : Int32) = nI 20 from rfl, pk_mul, nI_add]
      rw [nI_clamp (show f < 2 ^ 31 by omega), hA.1, e20, nI_clamp (show 20 * f + a < 2 ^ 31 by omega)]
      rcases tx_err_c hz hb1 f with ⟨hs, he⟩ | ⟨hs, q, hq, _, he⟩
      · rw [he]
        obtain ⟨ns, n1, n2, n3, n4⟩ := hA.2.2.2.2
        obtain ⟨so, par, bg, en, w1, w2, w3⟩ := n4 hs
        have hso := (w3.2.2.1 a ha).1
        have hp := h1 f a hb1 hf rfl rfl ha hs
        rw [lk_ig w3 ha hle] at hp
        unfold lk_cd at hp
        rw [w1 a ha]
        refine br_t (by decide) ⟨pk_in (20 * f + a) 80 (by omega), nm_e (pk_eq (so a) 0 (fun h => by rw [if_pos h] at hp; exact hp) (fun h => ?_))⟩
        have e128 : (128 : Int32) * nI f + nI (so a) = nI (128 * f + so a) := by rw [show (128 : Int32) = nI 128 from rfl, pk_mul, nI_add]
        have hs1 := w3.1 (so a) (by omega) hso
        have hw2 := w2 (so a) (by omega) hso
        rw [e128, nI_clamp (show 128 * f + so a < 2 ^ 31 by omega), hw2.2.1, hw2.2.2, sco_e _ (by omega) _ (by omega)]
        rw [if_neg h] at hp
        exact ⟨pk_in (128 * f + so a) 512 (by omega), pk_in (128 * f + so a) 512 (by omega), hp⟩
      · rw [he]
        exact br_f (nI_pos (by omega)) (h2 f a hb1 hf rfl rfl ha hs)
theorem xa_target {post : Int32 → SX → Prop} (hz : zz_ok G b T) (hu : xx_R G b T u) (h0 : ¬ (b = 1 ∧ ∃ f j, f < 4 ∧ v1 = nI f ∧ v2 = nI j ∧ j < (tx_ps G T f 2).length) → ∀ u', xx_R G b T u' → post (-2) u')
    (h1 : ∀ f j, b = 1 → f < 4 → v1 = nI f → v2 = nI j → j < (tx_ps G T f 2).length → ∀ u', xx_R G b T u' → post (tx_lk G T f ((tx_ps G T f 2).getD j 0)) u') : wpX_target post u v1 v2 := by
  refine xx_el (P := fun u => wpX_target post u v1 v2) ?_ hu
  intro f_nullable f_productive f_sp f_depth f_at a_first a_follow a_fault a_defs a_refs a_imports a_defAt a_refAt a_scopeOf a_importAt a_around a_beginsAt a_endsAt a_names a_scopes a_twice a_open a_stale a_link a_kept a_stack a_trial a_opened a_table md us hF
  have hmk := fun h => h0 h (nI (gg_np G), nI b, f_nullable, f_productive, f_sp, f_depth, f_at, nA (gg_ru G), nA (gg_ln G), nA (gg_sy G), gg_ro G, nA (gg_sc G), nA md, nA us, a_first, a_follow, a_table, nA (tx_kd T), nA (tx_va T), nA (tx_le T), a_fault, a_defs, a_refs, a_imports, a_defAt, a_refAt, a_scopeOf, a_importAt, a_around, a_beginsAt, a_endsAt, a_names, a_scopes, a_twice, a_open, a_stale, a_link, a_kept, a_stack, a_trial, a_opened) (xx_mk hF)
  unfold wpX_target
  dsimp only
  refine br_c (fun hb0 => hmk (fun h => by rw [h.1] at hb0; exact absurd hb0 (by decide))) (fun hb0 => xwi v1 4 (by omega) (fun hx => br_t rfl (hmk (fun ⟨_, f, j, hf, e, _⟩ => ix_no hx (by omega) hf e))) (fun f hf e => br_f (by decide) ?_))
  subst e
  refine ⟨pk_in f 4 hf, ?_⟩
  have hb1 := bu_1 hz.2.1 hb0
  obtain ⟨hB, hX⟩ := hF.2.1 hb1
  have hl20 := tx_ps_len (G := G) (T := T) (f := f) (x := 2)
  rw [nI_clamp (show f < 2 ^ 31 by omega), (hX f hf).1.2.2.1.1]
  refine xwi v2 (tx_ps G T f 2).length (by omega) (fun hx => br_t rfl (hmk (fun ⟨_, g, j, hg, e1, e2, hj⟩ => ?_))) (fun j hj e => br_f (by decide) ?_)
  · have := nI_inj (by omega) (by omega) e1
    subst this
    exact ix_no hx (by omega) hj e2
  · subst e
    refine xl_relink (z_link := a_link) (z_open := a_open) (z_stale := a_stale) hf hz.2.2.2.2.2.1 hz.2.2.2.2.1 (fun g hg => ⟨(hX g hg).1, (hX g hg).2.1⟩) (hX f hf).2.2 ?_
    intro a_link' a_open' a_stale' q1 q2 q3 q4 q5
    dsimp only
    have e20 : (20 : Int32) * nI f + nI j = nI (20 * f + j) := by rw [show (20 : Int32) = nI 20 from rfl, pk_mul, nI_add]
    rw [e20, nI_clamp (show 20 * f + j < 2 ^ 31 by omega), q2.1 j hj]
    refine ⟨pk_in (20 * f + j) 80 (by omega), h1 f j hb1 hf rfl rfl hj _ (xx_mk ⟨hF.1, fun _ => ⟨hB, fun g hg => ⟨(hX g hg).1, (hX g hg).2.1, fun h => ?_⟩⟩, fun h => by omega⟩)⟩
    by_cases e : g = f
    · subst e; exact q2
    · rw [q5 g e] at h
      obtain ⟨w1, w2⟩ := (hX g hg).2.2 h
      refine ⟨fun r hr => ?_, by rw [q4 g e]; exact w2⟩
      have hl := tx_ps_len (G := G) (T := T) (f := g) (x := 2)
      rw [q3 _ (by omega)]
      exact w1 r hr
theorem xa_unres {post : Int32 → SX → Prop} (hz : zz_ok G b T) (hu : xx_R G b T u) (h0 : b = 0 → ∀ u', xx_R G b T u' → post 0 u')
    (h1 : b = 1 → ∀ u', xx_R G b T u' → post (nI (tx_un G T 0 + tx_un G T 1 + tx_un G T 2 + tx_un G T 3)) u') : wpX_unresolved post u := by
  refine xx_el (P := fun u => wpX_unresolved post u) ?_ hu
  intro f_nullable f_productive f_sp f_depth f_at a_first a_follow a_fault a_defs a_refs a_imports a_defAt a_refAt a_scopeOf a_importAt a_around a_beginsAt a_endsAt a_names a_scopes a_twice a_open a_stale a_link a_kept a_stack a_trial a_opened a_table md us hF
  have hb := hz.2.1
  rcases (show b = 0 ∨ b = 1 by omega) with hb0 | hb1
  · exact ⟨1, br_f (by decide) (br_t (by rw [hb0]; rfl) (h0 hb0 _ (xx_mk hF)))⟩
  · have hsum : ∀ k, k ≤ 4 → ∃ s, s = (if 0 < k then tx_un G T 0 else 0) + (if 1 < k then tx_un G T 1 else 0) + (if 2 < k then tx_un G T 2 else 0) + (if 3 < k then tx_un G T 3 else 0) := fun k _ => ⟨_, rfl⟩
    obtain ⟨hB, hX⟩ := hF.2.1 hb1
    have loop : ∀ k g n a_link a_open a_stale, g + k = 4 → n = (if 0 < g then tx_un G T 0 else 0) + (if 1 < g then tx_un G T 1 else 0) + (if 2 < g then tx_un G T 2 else 0) + (if 3 < g then tx_un G T 3 else 0) →
        (∀ g', g' < 4 → xx_L G T g' a_stale a_link a_open) → wX_unresolved_4 post (k + 1) (nI n) (nI g) (nI (gg_np G)) (nI b) f_nullable f_productive f_sp f_depth f_at (nA (gg_ru G)) (nA (gg_ln G)) (nA (gg_sy G)) (gg_ro G) (nA (gg_sc G)) (nA md) (nA us) a_first a_follow a_table (nA (tx_kd T)) (nA (tx_va T)) (nA (tx_le T)) a_fault a_defs a_refs a_imports a_defAt a_refAt a_scopeOf a_importAt a_around a_beginsAt a_endsAt a_names a_scopes a_twice a_open a_stale a_link a_kept a_stack a_trial a_opened := by
      intro k
      induction k with
      | zero =>
        intro g n a_link a_open a_stale hg hn hL
        have e : g = 4 := by omega
        subst e
        refine br_t (by decide) ?_
        rw [hn]
        exact h1 hb1 _ (xx_mk ⟨hF.1, fun _ => ⟨hB, fun g hg => ⟨(hX g hg).1, (hX g hg).2.1, hL g hg⟩⟩, fun h => by omega⟩)
      | succ k ih =>
        intro g n a_link a_open a_stale hg hn hL
        have hg4 : g < 4 := by omega
        refine pk_le 4 g (fun h => absurd h (by omega)) (fun _ => br_f (by rw [hb1]; decide) ?_)
        refine xl_relink (z_link := a_link) (z_open := a_open) (z_stale := a_stale) hg4 hz.2.2.2.2.2.1 hz.2.2.2.2.1 (fun g hg => ⟨(hX g hg).1, (hX g hg).2.1⟩) (hL g hg4) ?_
        intro a_link' a_open' a_stale' q1 q2 q3 q4 q5
        dsimp only
        rw [nI_clamp (show g < 2 ^ 31 by omega), q2.2, nI_add]
        refine ⟨pk_in g 4 hg4, nm_e (nm_r (nI_1 g) (ih (g + 1) _ a_link' a_open' a_stale' (by omega) ?_ (fun g' hg' h => ?_)))⟩
        · rw [hn]
          rcases (show g = 0 ∨ g = 1 ∨ g = 2 ∨ g = 3 by omega) with e | e | e | e <;> subst e <;> simp
        · by_cases e : g' = g
          · subst e; exact q2
          · rw [q5 g' e] at h
            obtain ⟨w1, w2⟩ := hL g' hg' h
            refine ⟨fun r hr => ?_, by rw [q4 g' e]; exact w2⟩
            have hl := tx_ps_len (G := G) (T := T) (f := g') (x := 2)
            rw [q3 _ (by omega)]
            exact w1 r hr
    exact ⟨5, loop 4 0 0 a_link a_open a_stale (by omega) (by simp) (fun g hg => (hX g hg).2.2)⟩
end AX
end
section
def prv (G : gg_T) (b : Nat) (v1 : Int32) : Prop := b = 0 ∧ gg_np G ≠ 14 ∧ ∃ j, j ≤ 5 ∧ v1 = nI j
def syv (G : gg_T) (b : Nat) (v1 v2 : Int32) : Prop := b = 0 ∧ gg_np G ≠ 0 ∧ gg_ln G (gg_np G - 1) ≠ 4 ∧ ∃ s, s < 16 ∧ v1 = nI s ∧ (s < 10 → ∃ x, x ≤ 3 ∧ v2 = nI x)
theorem bu_0 {b : Nat} (h1 : b ≤ 1) (h : nI b = 0) : b = 0 := by
  rcases (show b = 0 ∨ b = 1 by omega) with e | e
  · exact e
  · rw [e] at h; exact absurd h (by decide)
section AX2
variable {G : gg_T} {b : Nat} {T : tx_T} {u : SX} {v : SY} {v1 v2 v3 v4 : Int32}
theorem xa_prod {post : Int32 → SX → Prop} {p1 : Int32} {s : Nat} (hz : zz_ok G b T) (hu : xx_R G b T u) (hs : vp_nar .boolean p1 = nI s) (h0 : ¬ prv G b v1 → ∀ u', xx_R G b T u' → post (-1) u')
    (h1 : ∀ j, prv G b v1 → j ≤ 5 → v1 = nI j → ∀ u', xx_R (gg_p G j s) 0 T u' → post (nI (gg_np G)) u') : wpX_production post u v1 p1 := by
  refine xx_el (P := fun u => wpX_production post u v1 p1) ?_ hu
  intro f_nullable f_productive f_sp f_depth f_at a_first a_follow a_fault a_defs a_refs a_imports a_defAt a_refAt a_scopeOf a_importAt a_around a_beginsAt a_endsAt a_names a_scopes a_twice a_open a_stale a_link a_kept a_stack a_trial a_opened a_table md us hF
  have hmk := fun h => h0 h (nI (gg_np G), nI b, f_nullable, f_productive, f_sp, f_depth, f_at, nA (gg_ru G), nA (gg_ln G), nA (gg_sy G), gg_ro G, nA (gg_sc G), nA md, nA us, a_first, a_follow, a_table, nA (tx_kd T), nA (tx_va T), nA (tx_le T), a_fault, a_defs, a_refs, a_imports, a_defAt, a_refAt, a_scopeOf, a_importAt, a_around, a_beginsAt, a_endsAt, a_names, a_scopes, a_twice, a_open, a_stale, a_link, a_kept, a_stack, a_trial, a_opened) (xx_mk hF)
  have h14 := hz.1.1
  unfold wpX_production
  dsimp only
  refine br_c (fun hb0 => ?_) (fun hb0 => hmk (fun h => hb0 (by rw [h.1]; rfl)))
  have hb := bu_0 hz.2.1 hb0
  refine br_c (fun hn => hmk (fun ⟨_, _, j, hj, e⟩ => by subst e; exact nI_pos (by omega) hn)) (fun hn => ?_)
  obtain ⟨j, hj, rfl⟩ := nI_of hn
  refine pk_lt 5 j (fun h5 => hmk (fun ⟨_, _, i, hi, e⟩ => ?_)) (fun h5 => pk_eq (gg_np G) 14 (fun he => hmk (fun h => h.2.1 he)) (fun he => ?_))
  · have := nI_inj hj (by omega) e
    omega
  · rw [nI_clamp (show gg_np G < 2 ^ 31 by omega), nI_clamp hj, vb_w (show j < 128 by omega), nA_upd, hs, nA_upd, vb_0, nA_upd, show nA md j = nI (md j) from rfl, nb_sh (by omega), nb_or, nA_upd]
    refine ⟨pk_in (gg_np G) 14 (by omega), nm_e ⟨pk_in (gg_np G) 14 (by omega), nm_e ⟨pk_in (gg_np G) 14 (by omega), nm_e ⟨pk_in j 6 (by omega), pk_in j 6 (by omega), nm_e (nm_r (nI_1 _) ?_)⟩⟩⟩⟩
    subst hb
    exact h1 j ⟨rfl, he, j, h5, rfl⟩ h5 rfl _ (xx_mk (G := gg_p G j s) (b := 0) ⟨xp_m hF.1 (by omega), fun h => by omega, fun h => hF.2.2 h⟩)
theorem ya_prod {post : Int32 → SY → Prop} {p1 : Int32} {s : Nat} (hz : zz_ok G b T) (hv : yy_R G b T v) (hs : vp_nar .boolean p1 = nI s) (h0 : ¬ prv G b v1 → ∀ v', yy_R G b T v' → post (-1) v')
    (h1 : ∀ j, prv G b v1 → j ≤ 5 → v1 = nI j → ∀ v', yy_R (gg_p G j s) 0 T v' → post (nI (gg_np G)) v') : wpY_production post v v1 p1 := by
  refine yy_el (P := fun v => wpY_production post v v1 p1) ?_ hv
  intro f_some f_empty f_wn f_nt a_first a_follow a_word a_reach a_beyond a_way a_bad a_part a_scopes a_inner a_tRule a_tFrom a_tTo a_before kn hF
  have hmk := fun h => h0 h (nI (gg_np G), nI b, f_some, f_empty, f_wn, f_nt, nA (gg_ru G), nA (gg_sc G), nA (gg_ln G), nA (gg_sy G), gg_ro G, a_first, a_follow, nA (tx_kd T), nA (tx_va T), nA (tx_le T), a_word, a_reach, a_beyond, a_way, nA kn, a_bad, a_part, a_scopes, a_inner, a_tRule, a_tFrom, a_tTo, a_before) (yy_mk hF)
  have h14 := hz.1.1
  unfold wpY_production
  dsimp only
  refine br_c (fun hb0 => ?_) (fun hb0 => hmk (fun h => hb0 (by rw [h.1]; rfl)))
  have hb := bu_0 hz.2.1 hb0
  refine br_c (fun hn => hmk (fun ⟨_, _, j, hj, e⟩ => by subst e; exact nI_pos (by omega) hn)) (fun hn => ?_)
  obtain ⟨j, hj, rfl⟩ := nI_of hn
  refine pk_lt 5 j (fun h5 => hmk (fun ⟨_, _, i, hi, e⟩ => ?_)) (fun h5 => pk_eq (gg_np G) 14 (fun he => hmk (fun h => h.2.1 he)) (fun he => ?_))
  · have := nI_inj hj (by omega) e
    omega
  · rw [nI_clamp (show gg_np G < 2 ^ 31 by omega), vb_w (show j < 128 by omega), nA_upd, hs, nA_upd, vb_0, nA_upd]
    refine ⟨pk_in (gg_np G) 14 (by omega), nm_e ⟨pk_in (gg_np G) 14 (by omega), nm_e ⟨pk_in (gg_np G) 14 (by omega), nm_e (nm_r (nI_1 _) ?_)⟩⟩⟩
    subst hb
    exact h1 j ⟨rfl, he, j, h5, rfl⟩ h5 rfl _ (yy_mk (G := gg_p G j s) (b := 0) ⟨hF.1, fun _ => hF.2.1 rfl, fun f hf hk => by have := hF.2.1 rfl f hf; omega⟩)
theorem xa_sym {post : Int32 → SX → Prop} (hz : zz_ok G b T) (hu : xx_R G b T u) (h0 : ¬ syv G b v1 v2 → ∀ u', xx_R G b T u' → post 0 u')
    (h1 : ∀ s, syv G b v1 v2 → s < 16 → v1 = nI s → ∀ u', xx_R (gg_y G s (vp_nar .byte v2.toInt8.toInt32)) 0 T u' → post 1 u') : wpX_symbol post u v1 v2 := by
  refine xx_el (P := fun u => wpX_symbol post u v1 v2) ?_ hu
  intro f_nullable f_productive f_sp f_depth f_at a_first a_follow a_fault a_defs a_refs a_imports a_defAt a_refAt a_scopeOf a_importAt a_around a_beginsAt a_endsAt a_names a_scopes a_twice a_open a_stale a_link a_kept a_stack a_trial a_opened a_table md us hF
  have hmk := fun h => h0 h (nI (gg_np G), nI b, f_nullable, f_productive, f_sp, f_depth, f_at, nA (gg_ru G), nA (gg_ln G), nA (gg_sy G), gg_ro G, nA (gg_sc G), nA md, nA us, a_first, a_follow, a_table, nA (tx_kd T), nA (tx_va T), nA (tx_le T), a_fault, a_defs, a_refs, a_imports, a_defAt, a_refAt, a_scopeOf, a_importAt, a_around, a_beginsAt, a_endsAt, a_names, a_scopes, a_twice, a_open, a_stale, a_link, a_kept, a_stack, a_trial, a_opened) (xx_mk hF)
  have h14 := hz.1.1
  unfold wpX_symbol
  dsimp only
  refine br_c (fun hb0 => ?_) (fun hb0 => hmk (fun h => hb0 (by rw [h.1]; rfl)))
  have hb := bu_0 hz.2.1 hb0
  subst hb
  refine pk_eq (gg_np G) 0 (fun he => hmk (fun h => h.2.1 he)) (fun hn0 => ?_)
  refine br_c (fun hn => hmk (fun ⟨_, _, _, s, hs, e, _⟩ => by subst e; exact nI_pos (by omega) hn)) (fun hn => ?_)
  obtain ⟨s, hs, rfl⟩ := nI_of hn
  refine pk_lt 15 s (fun h15 => hmk (fun ⟨_, _, _, i, hi, e, _⟩ => ?_)) (fun h15 => ?_)
  · have := nI_inj hs (by omega) e
    omega
  · have main : (s < 10 → ∃ x, x ≤ 3 ∧ v2 = nI x) → wX_symbol_41 post (nI s) v2 (nI (gg_np G)) (nI 0) f_nullable f_productive f_sp f_depth f_at (nA (gg_ru G)) (nA (gg_ln G)) (nA (gg_sy G)) (gg_ro G) (nA (gg_sc G)) (nA md) (nA us) a_first a_follow a_table (nA (tx_kd T)) (nA (tx_va T)) (nA (tx_le T)) a_fault a_defs a_refs a_imports a_defAt a_refAt a_scopeOf a_importAt a_around a_beginsAt a_endsAt a_names a_scopes a_twice a_open a_stale a_link a_kept a_stack a_trial a_opened := by
      intro hr
      have em : nI (gg_np G) - 1 = nI (gg_np G - 1) := pk_sub (b := 1) (by omega)
      have hl4 := hz.1.2.2.1 (gg_np G - 1)
      have e4 : (4 : Int32) * nI (gg_np G - 1) + nI (gg_ln G (gg_np G - 1)) = nI (4 * (gg_np G - 1) + gg_ln G (gg_np G - 1)) := by rw [show (4 : Int32) = nI 4 from rfl, pk_mul, nI_add]
      unfold wX_symbol_41
      refine nm_r em ?_
      rw [nA_cl (show gg_np G - 1 < 2 ^ 31 by omega), e4, nI_clamp (show gg_np G - 1 < 2 ^ 31 by omega)]
      refine ⟨pk_in (gg_np G - 1) 14 (by omega), pk_eq (gg_ln G (gg_np G - 1)) 4 (fun he => hmk (fun h => h.2.2.1 he)) (fun hl => ?_)⟩
      rw [nI_1, vb_w (show gg_ln G (gg_np G - 1) + 1 < 128 by omega), nA_upd, vb_w (show s < 128 by omega)]
      refine ⟨pk_in (gg_np G - 1) 14 (by omega), pk_in (gg_np G - 1) 14 (by omega), nm_e (nm_e ?_)⟩
      rw [nI_clamp (show 4 * (gg_np G - 1) + gg_ln G (gg_np G - 1) < 2 ^ 31 by omega), nA_upd]
      have hsy : syv G 0 (nI s) v2 := ⟨rfl, hn0, hl, s, by omega, rfl, hr⟩
      have hm := xy_m (r := vp_nar .byte v2.toInt8.toInt32) hz.1 hF.1 hn0 (show s < 16 by omega) hl
      refine ⟨pk_in (4 * (gg_np G - 1) + gg_ln G (gg_np G - 1)) 56 (by omega), nm_e ⟨pk_in (4 * (gg_np G - 1) + gg_ln G (gg_np G - 1)) 56 (by omega), nm_e (pk_le s 9 (fun h9 => ?_) (fun h9 => ?_))⟩⟩
      · rw [if_pos (by omega)] at hm
        exact h1 s hsy (by omega) rfl _ (xx_mk (G := gg_y G s (vp_nar .byte v2.toInt8.toInt32)) (b := 0) ⟨hm, fun h => by omega, fun h => hF.2.2 h⟩)
      · rw [if_neg (by omega)] at hm
        have es : nI s - 10 = nI (s - 10) := pk_sub (b := 10) (by omega)
        rw [es, nI_clamp (show s - 10 < 2 ^ 31 by omega), show nA us (s - 10) = nI (us (s - 10)) from rfl, nb_sh (by omega), nb_or, nA_upd]
        exact ⟨pk_in (s - 10) 6 (by omega), pk_in (s - 10) 6 (by omega), nm_e (h1 s hsy (by omega) rfl _ (xx_mk (G := gg_y G s (vp_nar .byte v2.toInt8.toInt32)) (b := 0) ⟨hm, fun h => by omega, fun h => hF.2.2 h⟩))⟩
    refine pk_le 10 s (fun h10 => main (fun h => by omega)) (fun h10 => br_c (fun hr => hmk (fun ⟨_, _, _, i, hi, e, hx⟩ => ?_)) (fun hr => ?_))
    · have e2 := nI_inj hs (by omega) e
      subst e2
      obtain ⟨x, hx1, hx2⟩ := hx h10
      subst hx2
      exact nI_pos (by omega) hr
    · obtain ⟨x, hx, rfl⟩ := nI_of hr
      refine pk_le x 3 (fun h3 => main (fun _ => ⟨x, h3, rfl⟩)) (fun h3 => hmk (fun ⟨_, _, _, i, hi, e, hy⟩ => ?_))
      have e2 := nI_inj hs (by omega) e
      subst e2
      obtain ⟨y, hy1, hy2⟩ := hy h10
      have := nI_inj hx (by omega) hy2
      omega
theorem ya_sym {post : Int32 → SY → Prop} (hz : zz_ok G b T) (hv : yy_R G b T v) (h0 : ¬ syv G b v1 v2 → ∀ v', yy_R G b T v' → post 0 v')
    (h1 : ∀ s, syv G b v1 v2 → s < 16 → v1 = nI s → ∀ v', yy_R (gg_y G s (vp_nar .byte v2.toInt8.toInt32)) 0 T v' → post 1 v') : wpY_symbol post v v1 v2 := by
  refine yy_el (P := fun v => wpY_symbol post v v1 v2) ?_ hv
  intro f_some f_empty f_wn f_nt a_first a_follow a_word a_reach a_beyond a_way a_bad a_part a_scopes a_inner a_tRule a_tFrom a_tTo a_before kn hF
  have hmk := fun h => h0 h (nI (gg_np G), nI b, f_some, f_empty, f_wn, f_nt, nA (gg_ru G), nA (gg_sc G), nA (gg_ln G), nA (gg_sy G), gg_ro G, a_first, a_follow, nA (tx_kd T), nA (tx_va T), nA (tx_le T), a_word, a_reach, a_beyond, a_way, nA kn, a_bad, a_part, a_scopes, a_inner, a_tRule, a_tFrom, a_tTo, a_before) (yy_mk hF)
  have h14 := hz.1.1
  unfold wpY_symbol
  dsimp only
  refine br_c (fun hb0 => ?_) (fun hb0 => hmk (fun h => hb0 (by rw [h.1]; rfl)))
  have hb := bu_0 hz.2.1 hb0
  subst hb
  refine pk_eq (gg_np G) 0 (fun he => hmk (fun h => h.2.1 he)) (fun hn0 => ?_)
  have em : nI (gg_np G) - 1 = nI (gg_np G - 1) := pk_sub (b := 1) (by omega)
  have hl4 := hz.1.2.2.1 (gg_np G - 1)
  have e4 : (4 : Int32) * nI (gg_np G - 1) + nI (gg_ln G (gg_np G - 1)) = nI (4 * (gg_np G - 1) + gg_ln G (gg_np G - 1)) := by rw [show (4 : Int32) = nI 4 from rfl, pk_mul, nI_add]
  rw [em, nA_cl (show gg_np G - 1 < 2 ^ 31 by omega)]
  refine ⟨pk_in (gg_np G - 1) 14 (by omega), pk_eq (gg_ln G (gg_np G - 1)) 4 (fun he => hmk (fun h => h.2.2.1 he)) (fun hl => ?_)⟩
  refine br_c (fun hn => hmk (fun ⟨_, _, _, s, hs, e, _⟩ => by subst e; exact nI_pos (by omega) hn)) (fun hn => ?_)
  obtain ⟨s, hs, rfl⟩ := nI_of hn
  refine pk_lt 15 s (fun h15 => hmk (fun ⟨_, _, _, i, hi, e, _⟩ => ?_)) (fun h15 => ?_)
  · have := nI_inj hs (by omega) e
    omega
  · have main : (s < 10 → ∃ x, x ≤ 3 ∧ v2 = nI x) → wY_symbol_56 post (nI s) v2 (nI (gg_np G)) (nI 0) f_some f_empty f_wn f_nt (nA (gg_ru G)) (nA (gg_sc G)) (nA (gg_ln G)) (nA (gg_sy G)) (gg_ro G) a_first a_follow (nA (tx_kd T)) (nA (tx_va T)) (nA (tx_le T)) a_word a_reach a_beyond a_way (nA kn) a_bad a_part a_scopes a_inner a_tRule a_tFrom a_tTo a_before := by
      intro hr
      unfold wY_symbol_56
      rw [em, nA_cl (show gg_np G - 1 < 2 ^ 31 by omega), e4, nI_clamp (show gg_np G - 1 < 2 ^ 31 by omega), nI_1, vb_w (show gg_ln G (gg_np G - 1) + 1 < 128 by omega), nA_upd, vb_w (show s < 128 by omega)]
      refine ⟨pk_in (gg_np G - 1) 14 (by omega), pk_in (gg_np G - 1) 14 (by omega), nm_e (nm_e ?_)⟩
      rw [nI_clamp (show 4 * (gg_np G - 1) + gg_ln G (gg_np G - 1) < 2 ^ 31 by omega), nA_upd]
      have hsy : syv G 0 (nI s) v2 := ⟨rfl, hn0, hl, s, by omega, rfl, hr⟩
      refine ⟨pk_in (4 * (gg_np G - 1) + gg_ln G (gg_np G - 1)) 56 (by omega), nm_e ⟨pk_in (4 * (gg_np G - 1) + gg_ln G (gg_np G - 1)) 56 (by omega), nm_e ?_⟩⟩
      exact h1 s hsy (by omega) rfl _ (yy_mk (G := gg_y G s (vp_nar .byte v2.toInt8.toInt32)) (b := 0) ⟨hF.1, fun _ => hF.2.1 rfl, fun f hf hk => by have := hF.2.1 rfl f hf; omega⟩)
    refine pk_le 10 s (fun h10 => main (fun h => by omega)) (fun h10 => br_c (fun hr => hmk (fun ⟨_, _, _, i, hi, e, hx⟩ => ?_)) (fun hr => ?_))
    · have e2 := nI_inj hs (by omega) e
      subst e2
      obtain ⟨x, hx1, hx2⟩ := hx h10
      subst hx2
      exact nI_pos (by omega) hr
    · obtain ⟨x, hx, rfl⟩ := nI_of hr
      refine pk_le x 3 (fun h3 => main (fun _ => ⟨x, h3, rfl⟩)) (fun h3 => hmk (fun ⟨_, _, _, i, hi, e, hy⟩ => ?_))
      have e2 := nI_inj hs (by omega) e
      subst e2
      obtain ⟨y, hy1, hy2⟩ := hy h10
      have := nI_inj hx (by omega) hy2
      omega
end AX2
end
section
section AY
variable {G : gg_T} {b : Nat} {T : tx_T} {u : SX} {v : SY} {v1 v2 v3 v4 : Int32}
def fv0 (b : Nat) (v1 : Int32) : Prop := b = 0 ∨ (b = 1 ∧ (v1 < 0 ∨ nI 4 ≤ v1))
theorem fv_0 {b : Nat} {v1 : Int32} (hb : b ≤ 1) (h : ¬ fv b v1) : fv0 b v1 := by
  rcases (show b = 0 ∨ b = 1 by omega) with e | e
  · exact Or.inl e
  · rcases pk_ix v1 (n := 4) (by omega) with h1 | h1 | ⟨f, hf, e1⟩
    · exact Or.inr ⟨e, Or.inl h1⟩
    · exact Or.inr ⟨e, Or.inr h1⟩
    · exact absurd ⟨e, f, hf, e1⟩ h
theorem dv_1 {f : Nat} (hz : zz_ok G b T) (hf : f < 4) {a : Nat} (ha : a < tx_le T f) : b = 1 := by
  rcases (show b = 0 ∨ b = 1 by have := hz.2.1; omega) with h | h
  · have := hz.2.2.2.2.2.2 h f hf
    omega
  · exact h
theorem ya_token0 {post : Int32 → Prop} (hz : zz_ok G b T) (hv : yy_R G b T v) (hd : ¬ dv T v1 v2) (hm : post (-1)) : wpY_token post v v1 v2 := by
  refine yy_el (P := fun v => wpY_token post v v1 v2) ?_ hv
  intro f_some f_empty f_wn f_nt a_first a_follow a_word a_reach a_beyond a_way a_bad a_part a_scopes a_inner a_tRule a_tFrom a_tTo a_before kn hF
  have h20 := hz.2.2.2.2.2.1
  unfold wpY_token
  dsimp only
  refine yq_c v1 (fun _ => br_t rfl hm) (fun f hf e => br_f (by decide) (br_c (fun _ => hm) (fun hn => ?_)))
  subst e
  have h2 := h20 f
  obtain ⟨a, ha, rfl⟩ := nI_of hn
  rw [nA_cl (show f < 2 ^ 31 by omega)]
  exact ⟨pk_in f 4 hf, pk_lt a (tx_le T f) (fun hl => absurd ⟨f, a, hf, rfl, rfl, hl⟩ hd) (fun _ => hm)⟩
theorem ya_token1 {post : Int32 → Prop} {f a : Nat} (hz : zz_ok G b T) (hv : yy_R G b T v) (hf : f < 4) (ha : a < tx_le T f) (hm : post (nI (tx_kd T (20 * f + a)) * 16 + nI (tx_va T (20 * f + a)))) : wpY_token post v (nI f) (nI a) := by
  refine yy_el (P := fun v => wpY_token post v (nI f) (nI a)) ?_ hv
  intro f_some f_empty f_wn f_nt a_first a_follow a_word a_reach a_beyond a_way a_bad a_part a_scopes a_inner a_tRule a_tFrom a_tTo a_before kn hF
  have h20 := hz.2.2.2.2.2.1
  have h2 := h20 f
  have e20 : (20 : Int32) * nI f + nI a = nI (20 * f + a) := by rw [show (20 : Int32) = nI 20 from rfl, pk_mul, nI_add]
  unfold wpY_token
  dsimp only
  rw [nA_cl (show f < 2 ^ 31 by omega), e20, nA_cl (show 20 * f + a < 2 ^ 31 by omega), nA_cl (show 20 * f + a < 2 ^ 31 by omega)]
  exact yq_f hf (br_f (by decide) (br_f (nI_pos (by omega)) ⟨pk_in f 4 hf, pk_lt a (tx_le T f) (fun _ => ⟨pk_in (20 * f + a) 80 (by omega), pk_in (20 * f + a) 80 (by omega), hm⟩) (fun h => absurd ha (by omega))⟩))
theorem ya_error0 {post : Int32 → SY → Prop} (hv : yy_R G b T v) (hd : fv0 b v1) (hm : ∀ v', yy_R G b T v' → post (-2) v') : wpY_errorAt post v v1 := by
  refine yy_el (P := fun v => wpY_errorAt post v v1) ?_ hv
  intro f_some f_empty f_wn f_nt a_first a_follow a_word a_reach a_beyond a_way a_bad a_part a_scopes a_inner a_tRule a_tFrom a_tTo a_before kn hF
  have hk := hm (nI (gg_np G), nI b, f_some, f_empty, f_wn, f_nt, nA (gg_ru G), nA (gg_sc G), nA (gg_ln G), nA (gg_sy G), gg_ro G, a_first, a_follow, nA (tx_kd T), nA (tx_va T), nA (tx_le T), a_word, a_reach, a_beyond, a_way, nA kn, a_bad, a_part, a_scopes, a_inner, a_tRule, a_tFrom, a_tTo, a_before) (yy_mk hF)
  rcases hd with hb | ⟨hb, h⟩
  · exact br_t (by rw [hb]; rfl) hk
  · exact br_f (by rw [hb]; decide) (yq_nf h (br_t rfl hk))
theorem ya_error1 {post : Int32 → SY → Prop} {f : Nat} (hz : zz_ok G b T) (hv : yy_R G b T v) (hb : b = 1) (hf : f < 4) (hm : ∀ v', yy_R G b T v' → post (tx_err G T f) v') : wpY_errorAt post v (nI f) := by
  refine yy_el (P := fun v => wpY_errorAt post v (nI f)) ?_ hv
  intro f_some f_empty f_wn f_nt a_first a_follow a_word a_reach a_beyond a_way a_bad a_part a_scopes a_inner a_tRule a_tFrom a_tTo a_before kn hF
  exact yq_error hz hb hf (yf_0 hF) (fun f_wn f_nt a_word a_reach a_beyond a_way a_bad a_part a_scopes a_inner a_tRule a_tFrom a_tTo kn hF => hm _ (yy_mk hF.1))
theorem ya_scope0 {post : Int32 → SY → Prop} (hz : zz_ok G b T) (hv : yy_R G b T v) (hd : ¬ dv T v1 v2) (hm : ∀ v', yy_R G b T v' → post (-2) v') : wpY_scope post v v1 v2 := by
  refine yy_el (P := fun v => wpY_scope post v v1 v2) ?_ hv
  intro f_some f_empty f_wn f_nt a_first a_follow a_word a_reach a_beyond a_way a_bad a_part a_scopes a_inner a_tRule a_tFrom a_tTo a_before kn hF
  have h20 := hz.2.2.2.2.2.1
  have hk := hm (nI (gg_np G), nI b, f_some, f_empty, f_wn, f_nt, nA (gg_ru G), nA (gg_sc G), nA (gg_ln G), nA (gg_sy G), gg_ro G, a_first, a_follow, nA (tx_kd T), nA (tx_va T), nA (tx_le T), a_word, a_reach, a_beyond, a_way, nA kn, a_bad, a_part, a_scopes, a_inner, a_tRule, a_tFrom, a_tTo, a_before) (yy_mk hF)
  unfold wpY_scope
  dsimp only
  refine yq_c v1 (fun _ => br_t rfl hk) (fun f hf e => br_f (by decide) (br_c (fun _ => hk) (fun hn => ?_)))
  subst e
  have h2 := h20 f
  obtain ⟨a, ha, rfl⟩ := nI_of hn
  rw [nA_cl (show f < 2 ^ 31 by omega)]
  exact ⟨pk_in f 4 hf, pk_lt a (tx_le T f) (fun hl => absurd ⟨f, a, hf, rfl, rfl, hl⟩ hd) (fun _ => hk)⟩
theorem ya_scope1 {post : Int32 → SY → Prop} {f a : Nat} (hz : zz_ok G b T) (hv : yy_R G b T v) (hb : b = 1) (hf : f < 4) (ha : a < tx_le T f) (h1 : tx_sen G T f → ∀ v', yy_R G b T v' → post (tx_inn G T f a) v') (h2 : ¬ tx_sen G T f → ∀ v', yy_R G b T v' → post (-2) v') : wpY_scope post v (nI f) (nI a) := by
  refine yy_el (P := fun v => wpY_scope post v (nI f) (nI a)) ?_ hv
  intro f_some f_empty f_wn f_nt a_first a_follow a_word a_reach a_beyond a_way a_bad a_part a_scopes a_inner a_tRule a_tFrom a_tTo a_before kn hF
  exact yq_scope hz hb hf ha (yf_0 hF) (fun hs f_wn f_nt a_word a_reach a_beyond a_way a_bad a_part a_scopes a_inner a_tRule a_tFrom a_tTo kn hF => h1 hs _ (yy_mk hF.1)) (fun hs f_wn f_nt a_word a_reach a_beyond a_way a_bad a_part a_scopes a_inner a_tRule a_tFrom a_tTo kn hF => h2 hs _ (yy_mk hF.1))
theorem ya_count0 {post : Int32 → SY → Prop} {x : Int32} (hv : yy_R G b T v) (hd : fv0 b v1) (hm : ∀ v', yy_R G b T v' → post 0 v') : wpY_count post v v1 x := by
  refine yy_el (P := fun v => wpY_count post v v1 x) ?_ hv
  intro f_some f_empty f_wn f_nt a_first a_follow a_word a_reach a_beyond a_way a_bad a_part a_scopes a_inner a_tRule a_tFrom a_tTo a_before kn hF
  have hk := hm (nI (gg_np G), nI b, f_some, f_empty, f_wn, f_nt, nA (gg_ru G), nA (gg_sc G), nA (gg_ln G), nA (gg_sy G), gg_ro G, a_first, a_follow, nA (tx_kd T), nA (tx_va T), nA (tx_le T), a_word, a_reach, a_beyond, a_way, nA kn, a_bad, a_part, a_scopes, a_inner, a_tRule, a_tFrom, a_tTo, a_before) (yy_mk hF)
  rcases hd with hb | ⟨hb, h⟩
  · exact br_t (by rw [hb]; rfl) hk
  · exact br_f (by rw [hb]; decide) (yq_nf h (br_t rfl hk))
theorem ya_count1 {post : Int32 → SY → Prop} {f x : Nat} (hz : zz_ok G b T) (hv : yy_R G b T v) (hb : b = 1) (hf : f < 4) (hm : ∀ v', yy_R G b T v' → post (nI (tx_ps G T f x).length) v') : wpY_count post v (nI f) (nI x) := by
  refine yy_el (P := fun v => wpY_count post v (nI f) (nI x)) ?_ hv
  intro f_some f_empty f_wn f_nt a_first a_follow a_word a_reach a_beyond a_way a_bad a_part a_scopes a_inner a_tRule a_tFrom a_tTo a_before kn hF
  exact yq_count hz hb hf (yf_0 hF) (fun f_wn f_nt a_word a_reach a_beyond a_way a_bad a_part a_scopes a_inner a_tRule a_tFrom a_tTo kn hF => hm _ (yy_mk hF.1))
theorem ya_defs0 {post : Int32 → SY → Prop} (hv : yy_R G b T v) (hd : fv0 b v1) (hm : ∀ v', yy_R G b T v' → post 0 v') : wpY_definitions post v v1 := by
  obtain ⟨f_np, f_built, f_some, f_empty, f_wn, f_nt, a_pRule, a_pScope, a_pLen, a_sym, a_role, a_first, a_follow, a_kind, a_val, a_len, a_word, a_reach, a_beyond, a_way, a_known, a_bad, a_part, a_scopes, a_inner, a_tRule, a_tFrom, a_tTo, a_before⟩ := v
  exact ya_count0 hv hd (fun v' h => by obtain ⟨f_np, f_built, f_some, f_empty, f_wn, f_nt, a_pRule, a_pScope, a_pLen, a_sym, a_role, a_first, a_follow, a_kind, a_val, a_len, a_word, a_reach, a_beyond, a_way, a_known, a_bad, a_part, a_scopes, a_inner, a_tRule, a_tFrom, a_tTo, a_before⟩ := v'; exact hm _ h)
theorem ya_defs1 {post : Int32 → SY → Prop} {f : Nat} (hz : zz_ok G b T) (hv : yy_R G b T v) (hb : b = 1) (hf : f < 4) (hm : ∀ v', yy_R G b T v' → post (nI (tx_ps G T f 1).length) v') : wpY_definitions post v (nI f) := by
  obtain ⟨f_np, f_built, f_some, f_empty, f_wn, f_nt, a_pRule, a_pScope, a_pLen, a_sym, a_role, a_first, a_follow, a_kind, a_val, a_len, a_word, a_reach, a_beyond, a_way, a_known, a_bad, a_part, a_scopes, a_inner, a_tRule, a_tFrom, a_tTo, a_before⟩ := v
  exact ya_count1 (x := 1) hz hv hb hf (fun v' h => by obtain ⟨f_np, f_built, f_some, f_empty, f_wn, f_nt, a_pRule, a_pScope, a_pLen, a_sym, a_role, a_first, a_follow, a_kind, a_val, a_len, a_word, a_reach, a_beyond, a_way, a_known, a_bad, a_part, a_scopes, a_inner, a_tRule, a_tFrom, a_tTo, a_before⟩ := v'; exact hm _ h)
theorem ya_refs0 {post : Int32 → SY → Prop} (hv : yy_R G b T v) (hd : fv0 b v1) (hm : ∀ v', yy_R G b T v' → post 0 v') : wpY_references post v v1 := by
  obtain ⟨f_np, f_built, f_some, f_empty, f_wn, f_nt, a_pRule, a_pScope, a_pLen, a_sym, a_role, a_first, a_follow, a_kind, a_val, a_len, a_word, a_reach, a_beyond, a_way, a_known, a_bad, a_part, a_scopes, a_inner, a_tRule, a_tFrom, a_tTo, a_before⟩ := v
  exact ya_count0 hv hd (fun v' h => by obtain ⟨f_np, f_built, f_some, f_empty, f_wn, f_nt, a_pRule, a_pScope, a_pLen, a_sym, a_role, a_first, a_follow, a_kind, a_val, a_len, a_word, a_reach, a_beyond, a_way, a_known, a_bad, a_part, a_scopes, a_inner, a_tRule, a_tFrom, a_tTo, a_before⟩ := v'; exact hm _ h)
theorem ya_refs1 {post : Int32 → SY → Prop} {f : Nat} (hz : zz_ok G b T) (hv : yy_R G b T v) (hb : b = 1) (hf : f < 4) (hm : ∀ v', yy_R G b T v' → post (nI (tx_ps G T f 2).length) v') : wpY_references post v (nI f) := by
  obtain ⟨f_np, f_built, f_some, f_empty, f_wn, f_nt, a_pRule, a_pScope, a_pLen, a_sym, a_role, a_first, a_follow, a_kind, a_val, a_len, a_word, a_reach, a_beyond, a_way, a_known, a_bad, a_part, a_scopes, a_inner, a_tRule, a_tFrom, a_tTo, a_before⟩ := v
  exact ya_count1 (x := 2) hz hv hb hf (fun v' h => by obtain ⟨f_np, f_built, f_some, f_empty, f_wn, f_nt, a_pRule, a_pScope, a_pLen, a_sym, a_role, a_first, a_follow, a_kind, a_val, a_len, a_word, a_reach, a_beyond, a_way, a_known, a_bad, a_part, a_scopes, a_inner, a_tRule, a_tFrom, a_tTo, a_before⟩ := v'; exact hm _ h)
theorem ya_target0 {post : Int32 → SY → Prop} (hz : zz_ok G b T) (hv : yy_R G b T v) (hd : ¬ (b = 1 ∧ ∃ f j, f < 4 ∧ v1 = nI f ∧ v2 = nI j ∧ j < (tx_ps G T f 2).length)) (hm : ∀ v', yy_R G b T v' → post (-2) v') : wpY_target post v v1 v2 := by
  refine yy_el (P := fun v => wpY_target post v v1 v2) ?_ hv
  intro f_some f_empty f_wn f_nt a_first a_follow a_word a_reach a_beyond a_way a_bad a_part a_scopes a_inner a_tRule a_tFrom a_tTo a_before kn hF
  have hk := hm (nI (gg_np G), nI b, f_some, f_empty, f_wn, f_nt, nA (gg_ru G), nA (gg_sc G), nA (gg_ln G), nA (gg_sy G), gg_ro G, a_first, a_follow, nA (tx_kd T), nA (tx_va T), nA (tx_le T), a_word, a_reach, a_beyond, a_way, nA kn, a_bad, a_part, a_scopes, a_inner, a_tRule, a_tFrom, a_tTo, a_before) (yy_mk hF)
  rcases (show b = 0 ∨ b = 1 by have := hz.2.1; omega) with hb | hb
  · refine br_t (by rw [hb]; rfl) ?_
    unfold wY_target_25 wY_target_26
    exact br_f nn_m1 hk
  · have bad : v1 < 0 ∨ nI 4 ≤ v1 → wpY_target post (nI (gg_np G), nI b, f_some, f_empty, f_wn, f_nt, nA (gg_ru G), nA (gg_sc G), nA (gg_ln G), nA (gg_sy G), gg_ro G, a_first, a_follow, nA (tx_kd T), nA (tx_va T), nA (tx_le T), a_word, a_reach, a_beyond, a_way, nA kn, a_bad, a_part, a_scopes, a_inner, a_tRule, a_tFrom, a_tTo, a_before) v1 v2 := fun h => br_f (by rw [hb]; decide) (yq_nf h (br_t rfl (by unfold wY_target_25 wY_target_26; exact br_f nn_m1 hk)))
    rcases pk_ix v1 (n := 4) (by omega) with h | h | ⟨f, hf, e⟩
    · exact bad (Or.inl h)
    · exact bad (Or.inr h)
    · subst e
      by_cases hn : v2 < 0
      · exact yq_targetN hb hf hn hk
      · obtain ⟨j, hj, rfl⟩ := nI_of hn
        refine yq_target hz hb hf hj (yf_0 hF) (fun _ f_wn f_nt a_word a_reach a_beyond a_way a_bad a_part a_scopes a_inner a_tRule a_tFrom a_tTo kn hF => hm _ (yy_mk hF.1)) (fun a ha => absurd ⟨hb, f, j, hf, rfl, rfl, (List.getElem?_eq_some_iff.mp ha).1⟩ hd)
theorem ya_target1 {post : Int32 → SY → Prop} {f j : Nat} (hz : zz_ok G b T) (hv : yy_R G b T v) (hb : b = 1) (hf : f < 4) (hj : j < (tx_ps G T f 2).length) (hm : ∀ v', yy_R G b T v' → post (tx_lk G T f ((tx_ps G T f 2).getD j 0)) v') : wpY_target post v (nI f) (nI j) := by
  refine yy_el (P := fun v => wpY_target post v (nI f) (nI j)) ?_ hv
  intro f_some f_empty f_wn f_nt a_first a_follow a_word a_reach a_beyond a_way a_bad a_part a_scopes a_inner a_tRule a_tFrom a_tTo a_before kn hF
  have hl := tx_ps_len (G := G) (T := T) (f := f) (x := 2)
  refine yq_target hz hb hf (by omega) (yf_0 hF) (fun hn => ?_) (fun a ha f_wn f_nt a_word a_reach a_beyond a_way a_bad a_part a_scopes a_inner a_tRule a_tFrom a_tTo kn hF => ?_)
  · have := List.getElem?_eq_none_iff.mp hn
    omega
  · have e : (tx_ps G T f 2).getD j 0 = a := by rw [List.getD_eq_getElem?_getD, ha]; rfl
    rw [e] at hm
    exact hm _ (yy_mk hF.1)
theorem ya_dup0 {post : Int32 → SY → Prop} (hv : yy_R G b T v) (hd : fv0 b v1) (hm : ∀ v', yy_R G b T v' → post 0 v') : wpY_duplicates post v v1 := by
  refine yy_el (P := fun v => wpY_duplicates post v v1) ?_ hv
  intro f_some f_empty f_wn f_nt a_first a_follow a_word a_reach a_beyond a_way a_bad a_part a_scopes a_inner a_tRule a_tFrom a_tTo a_before kn hF
  have hk := hm (nI (gg_np G), nI b, f_some, f_empty, f_wn, f_nt, nA (gg_ru G), nA (gg_sc G), nA (gg_ln G), nA (gg_sy G), gg_ro G, a_first, a_follow, nA (tx_kd T), nA (tx_va T), nA (tx_le T), a_word, a_reach, a_beyond, a_way, nA kn, a_bad, a_part, a_scopes, a_inner, a_tRule, a_tFrom, a_tTo, a_before) (yy_mk hF)
  rcases hd with hb | ⟨hb, h⟩
  · exact ⟨1, br_f (by decide) (br_t (by rw [hb]; rfl) hk)⟩
  · exact ⟨1, br_f (by decide) (br_f (by rw [hb]; decide) (yq_nf h (br_t rfl hk)))⟩
theorem ya_dup1 {post : Int32 → SY → Prop} {f : Nat} (hz : zz_ok G b T) (hv : yy_R G b T v) (hb : b = 1) (hf : f < 4) (hm : ∀ v', yy_R G b T v' → post (nI (tx_dup G T f)) v') : wpY_duplicates post v (nI f) := by
  refine yy_el (P := fun v => wpY_duplicates post v (nI f)) ?_ hv
  intro f_some f_empty f_wn f_nt a_first a_follow a_word a_reach a_beyond a_way a_bad a_part a_scopes a_inner a_tRule a_tFrom a_tTo a_before kn hF
  exact yq_dup hz hb hf (yf_0 hF) (fun f_wn f_nt a_word a_reach a_beyond a_way a_bad a_part a_scopes a_inner a_tRule a_tFrom a_tTo kn hF => hm _ (yy_mk hF.1))
theorem ya_unres0 {post : Int32 → SY → Prop} (hv : yy_R G b T v) (hb : b = 0) (hm : ∀ v', yy_R G b T v' → post 0 v') : wpY_unresolved post v := by
  refine yy_el (P := fun v => wpY_unresolved post v) ?_ hv
  intro f_some f_empty f_wn f_nt a_first a_follow a_word a_reach a_beyond a_way a_bad a_part a_scopes a_inner a_tRule a_tFrom a_tTo a_before kn hF
  exact br_t (by rw [hb]; rfl) (hm _ (yy_mk hF))
theorem ya_unres1 {post : Int32 → SY → Prop} (hz : zz_ok G b T) (hv : yy_R G b T v) (hb : b = 1) (hm : ∀ v', yy_R G b T v' → post (nI (tx_un G T 0 + tx_un G T 1 + tx_un G T 2 + tx_un G T 3)) v') : wpY_unresolved post v := by
  refine yy_el (P := fun v => wpY_unresolved post v) ?_ hv
  intro f_some f_empty f_wn f_nt a_first a_follow a_word a_reach a_beyond a_way a_bad a_part a_scopes a_inner a_tRule a_tFrom a_tTo a_before kn hF
  exact yq_unres hz hb (yf_0 hF) (fun f_wn f_nt a_word a_reach a_beyond a_way a_bad a_part a_scopes a_inner a_tRule a_tFrom a_tTo kn hF => hm _ (yy_mk hF.1))
end AY
end
section
section AZ
variable {G : gg_T} {b : Nat} {T : tx_T} {u : SX} {v : SY} {v1 v2 v3 v4 : Int32}
theorem xa_build {post : Int32 → SX → Prop} (hz : zz_ok G b T) (hu : xx_R G b T u) (h1 : b = 1 → ∀ u', xx_R G b T u' → post 1 u')
    (hP : ∀ k, b = 0 → gg_bP G k → ∀ u', xx_R G 0 T u' → post (nI (16 + k)) u') (hC : ∀ q, b = 0 → gg_bC G q → ∀ u', xx_R G 0 T u' → post (nI (32 + q)) u')
    (hO : b = 0 → gg_bO G → ∀ u', xx_R G 1 T u' → post 0 u') : wpX_build post u := by
  refine xx_el (P := fun u => wpX_build post u) ?_ hu
  intro f_nullable f_productive f_sp f_depth f_at a_first a_follow a_fault a_defs a_refs a_imports a_defAt a_refAt a_scopeOf a_importAt a_around a_beginsAt a_endsAt a_names a_scopes a_twice a_open a_stale a_link a_kept a_stack a_trial a_opened a_table md us hF
  rcases (show b = 0 ∨ b = 1 by have := hz.2.1; omega) with hb | hb
  · subst hb
    refine xb_build hz.1 hF.1 hz.2.2.2.1 hz.2.2.2.2.1 hz.2.2.2.2.2.1 (hF.2.2 rfl) ?_ ?_ ?_
    · intro k f_nullable f_productive hk
      exact hP k rfl hk _ (xx_mk (b := 0) ⟨hF.1, fun h => by omega, fun _ => hF.2.2 rfl⟩)
    · intro q f_nullable f_productive a_first a_follow a_table hk
      exact hC q rfl hk _ (xx_mk (b := 0) ⟨hF.1, fun h => by omega, fun _ => hF.2.2 rfl⟩)
    · intro f_nullable f_productive f_sp f_depth f_at a_first a_follow a_table a_stack a_opened a_fault a_scopes a_around a_beginsAt a_endsAt a_scopeOf a_defs a_refs a_imports a_defAt a_refAt a_importAt a_names a_twice a_stale hO' hB hI
      exact hO rfl hO' _ (xx_mk (b := 1) ⟨hF.1, fun _ => ⟨hB, fun f hf => ⟨(hI.1 f hf).1.1, (hI.1 f hf).1.2, fun h => absurd h (hI.1 f hf).2⟩⟩, fun h => by omega⟩)
  · exact br_f (by rw [hb]; decide) (h1 hb _ (xx_mk hF))
theorem ya_build {post : Int32 → SY → Prop} (hz : zz_ok G b T) (hv : yy_R G b T v) (h1 : b = 1 → ∀ v', yy_R G b T v' → post 1 v')
    (hP : ∀ k, b = 0 → gg_bP G k → ∀ v', yy_R G 0 T v' → post (nI (16 + k)) v') (hC : ∀ q, b = 0 → gg_bC G q → ∀ v', yy_R G 0 T v' → post (nI (32 + q)) v')
    (hO : b = 0 → gg_bO G → ∀ v', yy_R G 1 T v' → post 0 v') : wpY_build post v := by
  refine yy_el (P := fun v => wpY_build post v) ?_ hv
  intro f_some f_empty f_wn f_nt a_first a_follow a_word a_reach a_beyond a_way a_bad a_part a_scopes a_inner a_tRule a_tFrom a_tTo a_before kn hF
  rcases (show b = 0 ∨ b = 1 by have := hz.2.1; omega) with hb | hb
  · subst hb
    refine yc_build hz.1 ?_ ?_ ?_
    · intro k f_some f_empty a_first a_follow hk
      exact hP k rfl hk _ (yy_mk (b := 0) hF)
    · intro q f_some f_empty a_first a_follow hk
      exact hC q rfl hk _ (yy_mk (b := 0) hF)
    · intro f_some f_empty a_first a_follow hk
      exact hO rfl hk _ (yy_mk (b := 1) ⟨hF.1, fun h => by omega, fun f hf hk => by have := hF.2.1 rfl f hf; omega⟩)
  · exact br_f (by rw [hb]; decide) (h1 hb _ (yy_mk hF))
theorem xa_put0 {post : Int32 → SX → Prop} (hz : zz_ok G b T) (hu : xx_R G b T u) (hn : ¬ pv b T v1 v2 v3 v4) (hm : ∀ u', xx_R G b T u' → post 0 u') : wpX_put post u v1 v2 v3 v4 := by
  refine xx_el (P := fun u => wpX_put post u v1 v2 v3 v4) ?_ hu
  intro f_nullable f_productive f_sp f_depth f_at a_first a_follow a_fault a_defs a_refs a_imports a_defAt a_refAt a_scopeOf a_importAt a_around a_beginsAt a_endsAt a_names a_scopes a_twice a_open a_stale a_link a_kept a_stack a_trial a_opened a_table md us hF
  exact xm_putN hz.2.1 hz.2.2.2.2.2.1 hn (hm _ (xx_mk hF))
theorem xa_put1 {post : Int32 → SX → Prop} {f a k w : Nat} (hz : zz_ok G 1 T) (hu : xx_R G 1 T u) (hf : f < 4) (ha : a ≤ tx_le T f) (ha2 : a ≠ 20) (hk : k < 10) (hw : w < 16) (hm : ∀ u', xx_R G 1 (tx_put T f a k w) u' → post 1 u') : wpX_put post u (nI f) (nI a) (nI k) (nI w) := by
  refine xx_el (P := fun u => wpX_put post u (nI f) (nI a) (nI k) (nI w)) ?_ hu
  intro f_nullable f_productive f_sp f_depth f_at a_first a_follow a_fault a_defs a_refs a_imports a_defAt a_refAt a_scopeOf a_importAt a_around a_beginsAt a_endsAt a_names a_scopes a_twice a_open a_stale a_link a_kept a_stack a_trial a_opened a_table md us hF
  exact xm_put hz hf ha ha2 hk hw hF hm
theorem ya_put0 {post : Int32 → SY → Prop} (hz : zz_ok G b T) (hv : yy_R G b T v) (hn : ¬ pv b T v1 v2 v3 v4) (hm : ∀ v', yy_R G b T v' → post 0 v') : wpY_put post v v1 v2 v3 v4 := by
  refine yy_el (P := fun v => wpY_put post v v1 v2 v3 v4) ?_ hv
  intro f_some f_empty f_wn f_nt a_first a_follow a_word a_reach a_beyond a_way a_bad a_part a_scopes a_inner a_tRule a_tFrom a_tTo a_before kn hF
  exact ym_putN hz.2.1 hz.2.2.2.2.2.1 hn (hm _ (yy_mk hF))
theorem ya_put1 {post : Int32 → SY → Prop} {f a k w : Nat} (hz : zz_ok G 1 T) (hv : yy_R G 1 T v) (hf : f < 4) (ha : a ≤ tx_le T f) (ha2 : a ≠ 20) (hk : k < 10) (hw : w < 16) (hm : ∀ v', yy_R G 1 (tx_put T f a k w) v' → post 1 v') : wpY_put post v (nI f) (nI a) (nI k) (nI w) := by
  refine yy_el (P := fun v => wpY_put post v (nI f) (nI a) (nI k) (nI w)) ?_ hv
  intro f_some f_empty f_wn f_nt a_first a_follow a_word a_reach a_beyond a_way a_bad a_part a_scopes a_inner a_tRule a_tFrom a_tTo a_before kn hF
  exact ym_put hz hf ha ha2 hk hw hF hm
theorem xa_del0 {post : Int32 → SX → Prop} (hz : zz_ok G b T) (hu : xx_R G b T u) (hn : ¬ dv T v1 v2) (hm : ∀ u', xx_R G b T u' → post 0 u') : wpX_delete post u v1 v2 := by
  refine xx_el (P := fun u => wpX_delete post u v1 v2) ?_ hu
  intro f_nullable f_productive f_sp f_depth f_at a_first a_follow a_fault a_defs a_refs a_imports a_defAt a_refAt a_scopeOf a_importAt a_around a_beginsAt a_endsAt a_names a_scopes a_twice a_open a_stale a_link a_kept a_stack a_trial a_opened a_table md us hF
  exact xm_delN hz.2.2.2.2.2.1 hn (hm _ (xx_mk hF))
theorem xa_del1 {post : Int32 → SX → Prop} {f a : Nat} (hz : zz_ok G 1 T) (hu : xx_R G 1 T u) (hf : f < 4) (ha : a < tx_le T f) (hm : ∀ u', xx_R G 1 (tx_del T f a) u' → post 1 u') : wpX_delete post u (nI f) (nI a) := by
  refine xx_el (P := fun u => wpX_delete post u (nI f) (nI a)) ?_ hu
  intro f_nullable f_productive f_sp f_depth f_at a_first a_follow a_fault a_defs a_refs a_imports a_defAt a_refAt a_scopeOf a_importAt a_around a_beginsAt a_endsAt a_names a_scopes a_twice a_open a_stale a_link a_kept a_stack a_trial a_opened a_table md us hF
  exact xm_del hz hf ha hF hm
theorem ya_del0 {post : Int32 → SY → Prop} (hz : zz_ok G b T) (hv : yy_R G b T v) (hn : ¬ dv T v1 v2) (hm : ∀ v', yy_R G b T v' → post 0 v') : wpY_delete post v v1 v2 := by
  refine yy_el (P := fun v => wpY_delete post v v1 v2) ?_ hv
  intro f_some f_empty f_wn f_nt a_first a_follow a_word a_reach a_beyond a_way a_bad a_part a_scopes a_inner a_tRule a_tFrom a_tTo a_before kn hF
  exact ym_delN hz.2.2.2.2.2.1 hn (hm _ (yy_mk hF))
theorem ya_del1 {post : Int32 → SY → Prop} {f a : Nat} (hz : zz_ok G 1 T) (hv : yy_R G 1 T v) (hf : f < 4) (ha : a < tx_le T f) (hm : ∀ v', yy_R G 1 (tx_del T f a) v' → post 1 v') : wpY_delete post v (nI f) (nI a) := by
  refine yy_el (P := fun v => wpY_delete post v (nI f) (nI a)) ?_ hv
  intro f_some f_empty f_wn f_nt a_first a_follow a_word a_reach a_beyond a_way a_bad a_part a_scopes a_inner a_tRule a_tFrom a_tTo a_before kn hF
  exact ym_del hz hf ha hF hm
def exv (b : Nat) (T : tx_T) (v1 v2 : Int32) : Prop := b = 1 ∧ ∃ f n, f < 4 ∧ v1 = nI f ∧ v2 = nI n ∧ n ≤ tx_le T f
theorem xa_exp0 {post : Int32 → SX → Prop} (hz : zz_ok G b T) (hu : xx_R G b T u) (hn : ¬ exv b T v1 v2) (hm : ∀ u', xx_R G b T u' → post (-1) u') : wpX_expected post u v1 v2 := by
  refine xx_el (P := fun u => wpX_expected post u v1 v2) ?_ hu
  intro f_nullable f_productive f_sp f_depth f_at a_first a_follow a_fault a_defs a_refs a_imports a_defAt a_refAt a_scopeOf a_importAt a_around a_beginsAt a_endsAt a_names a_scopes a_twice a_open a_stale a_link a_kept a_stack a_trial a_opened a_table md us hF
  have h20 := hz.2.2.2.2.2.1
  have hk := hm (nI (gg_np G), nI b, f_nullable, f_productive, f_sp, f_depth, f_at, nA (gg_ru G), nA (gg_ln G), nA (gg_sy G), gg_ro G, nA (gg_sc G), nA md, nA us, a_first, a_follow, a_table, nA (tx_kd T), nA (tx_va T), nA (tx_le T), a_fault, a_defs, a_refs, a_imports, a_defAt, a_refAt, a_scopeOf, a_importAt, a_around, a_beginsAt, a_endsAt, a_names, a_scopes, a_twice, a_open, a_stale, a_link, a_kept, a_stack, a_trial, a_opened) (xx_mk hF)
  unfold wpX_expected
  dsimp only
  refine br_c (fun _ => hk) (fun hb0 => xwi v1 4 (by omega) (fun _ => br_t rfl hk) (fun f hf e => br_f (by decide) (br_c (fun _ => hk) (fun hn2 => ?_))))
  subst e
  have hb := bu_1 hz.2.1 hb0
  have h2 := h20 f
  obtain ⟨n, hn3, rfl⟩ := nI_of hn2
  rw [nA_cl (show f < 2 ^ 31 by omega)]
  exact ⟨pk_in f 4 hf, pk_le n (tx_le T f) (fun hl => absurd ⟨hb, f, n, hf, rfl, rfl, hl⟩ hn) (fun _ => hk)⟩
theorem xa_exp1 {post : Int32 → SX → Prop} {f n : Nat} (hz : zz_ok G 1 T) (hu : xx_R G 1 T u) (hf : f < 4) (hn : n ≤ tx_le T f) (hm : ∀ m, m < 2 ^ 11 → (∀ t, m.testBit t = true ↔ tx_xp G T f n t) → ∀ u', xx_R G 1 T u' → post (nI m) u') : wpX_expected post u (nI f) (nI n) := by
  refine xx_el (P := fun u => wpX_expected post u (nI f) (nI n)) ?_ hu
  intro f_nullable f_productive f_sp f_depth f_at a_first a_follow a_fault a_defs a_refs a_imports a_defAt a_refAt a_scopeOf a_importAt a_around a_beginsAt a_endsAt a_names a_scopes a_twice a_open a_stale a_link a_kept a_stack a_trial a_opened a_table md us hF
  exact xe_expected hz.1 (hz.2.2.1 rfl) hz.2.2.2.1 (hz.2.2.2.2.2.1 f) hf hn (hF.2.1 rfl).1 (fun m f_sp f_depth f_at a_stack a_trial h1 h2 => hm m h1 h2 _ (xx_mk hF))
theorem ya_exp0 {post : Int32 → SY → Prop} (hz : zz_ok G b T) (hv : yy_R G b T v) (hn : ¬ exv b T v1 v2) (hm : ∀ v', yy_R G b T v' → post (-1) v') : wpY_expected post v v1 v2 := by
  refine yy_el (P := fun v => wpY_expected post v v1 v2) ?_ hv
  intro f_some f_empty f_wn f_nt a_first a_follow a_word a_reach a_beyond a_way a_bad a_part a_scopes a_inner a_tRule a_tFrom a_tTo a_before kn hF
  have h20 := hz.2.2.2.2.2.1
  have hk := hm (nI (gg_np G), nI b, f_some, f_empty, f_wn, f_nt, nA (gg_ru G), nA (gg_sc G), nA (gg_ln G), nA (gg_sy G), gg_ro G, a_first, a_follow, nA (tx_kd T), nA (tx_va T), nA (tx_le T), a_word, a_reach, a_beyond, a_way, nA kn, a_bad, a_part, a_scopes, a_inner, a_tRule, a_tFrom, a_tTo, a_before) (yy_mk hF)
  unfold wpY_expected
  dsimp only
  refine br_c (fun _ => hk) (fun hb0 => yq_c v1 (fun _ => br_t rfl hk) (fun f hf e => br_f (by decide) (br_c (fun _ => hk) (fun hn2 => ?_))))
  subst e
  have hb := bu_1 hz.2.1 hb0
  have h2 := h20 f
  obtain ⟨n, hn3, rfl⟩ := nI_of hn2
  rw [nA_cl (show f < 2 ^ 31 by omega)]
  exact ⟨pk_in f 4 hf, pk_le n (tx_le T f) (fun hl => absurd ⟨hb, f, n, hf, rfl, rfl, hl⟩ hn) (fun _ => hk)⟩
theorem ya_exp1 {post : Int32 → SY → Prop} {f n : Nat} (hz : zz_ok G b T) (hv : yy_R G b T v) (hb : b = 1) (hf : f < 4) (hn : n ≤ tx_le T f) (hm : ∀ m, m < 2 ^ 11 → (∀ t, m.testBit t = true ↔ tx_xp G T f n t) → ∀ v', yy_R G b T v' → post (nI m) v') : wpY_expected post v (nI f) (nI n) := by
  refine yy_el (P := fun v => wpY_expected post v (nI f) (nI n)) ?_ hv
  intro f_some f_empty f_wn f_nt a_first a_follow a_word a_reach a_beyond a_way a_bad a_part a_scopes a_inner a_tRule a_tFrom a_tTo a_before kn hF
  exact yq_expected hz hb hf hn hF (fun m f_wn a_word a_way a_reach a_beyond h1 h2 => hm m h1 h2 _ (yy_mk hF))
def rnv (G : gg_T) (b : Nat) (T : tx_T) (v1 v2 v3 : Int32) : Prop := b = 1 ∧ ∃ f d nm, f < 4 ∧ v1 = nI f ∧ v2 = nI d ∧ d < (tx_ps G T f 1).length ∧ v3 = nI nm ∧ nm < 16
theorem rv_16 {f q d nm : Nat} (hz : zz_ok G b T) (hnm : nm < 16) : ∀ c, rn_v G T f q d nm (tx_va T) c < 16 := by
  intro c
  by_cases h : c = 20 * f + q ∨ rn_h G T f d c
  · rw [rn_v1 h]; exact hnm
  · rw [rn_v0 h]; exact hz.2.2.2.2.1 c
theorem xa_ren0 {post : Int32 → SX → Prop} (hz : zz_ok G b T) (hu : xx_R G b T u) (hn : ¬ rnv G b T v1 v2 v3) (hm : ∀ u', xx_R G b T u' → post 0 u') : wpX_rename post u v1 v2 v3 := by
  refine xx_el (P := fun u => wpX_rename post u v1 v2 v3) ?_ hu
  intro f_nullable f_productive f_sp f_depth f_at a_first a_follow a_fault a_defs a_refs a_imports a_defAt a_refAt a_scopeOf a_importAt a_around a_beginsAt a_endsAt a_names a_scopes a_twice a_open a_stale a_link a_kept a_stack a_trial a_opened a_table md us hF
  have hk := hm (nI (gg_np G), nI b, f_nullable, f_productive, f_sp, f_depth, f_at, nA (gg_ru G), nA (gg_ln G), nA (gg_sy G), gg_ro G, nA (gg_sc G), nA md, nA us, a_first, a_follow, a_table, nA (tx_kd T), nA (tx_va T), nA (tx_le T), a_fault, a_defs, a_refs, a_imports, a_defAt, a_refAt, a_scopeOf, a_importAt, a_around, a_beginsAt, a_endsAt, a_names, a_scopes, a_twice, a_open, a_stale, a_link, a_kept, a_stack, a_trial, a_opened) (xx_mk hF)
  unfold wpX_rename
  dsimp only
  refine br_c (fun _ => hk) (fun hb0 => xwi v1 4 (by omega) (fun _ => br_t rfl hk) (fun f hf e => br_f (by decide) ⟨by rw [e]; exact pk_in f 4 hf, ?_⟩))
  subst e
  have hb := bu_1 hz.2.1 hb0
  have hl := tx_ps_len (G := G) (T := T) (f := f) (x := 1)
  rw [nI_clamp (show f < 2 ^ 31 by omega), ((hF.2.1 hb).2 f hf).1.2.1.1]
  refine xwi v2 (tx_ps G T f 1).length (by omega) (fun _ => br_t rfl hk) (fun d hd e => br_f (by decide) (xwi v3 16 (by omega) (fun _ => br_t rfl hk) (fun nm hnm e3 => absurd ⟨hb, f, d, nm, hf, rfl, e, hd, e3, hnm⟩ hn)))
theorem xa_ren1 {post : Int32 → SX → Prop} {f d nm : Nat} (hz : zz_ok G 1 T) (hu : xx_R G 1 T u) (hf : f < 4) (hd : d < (tx_ps G T f 1).length) (hnm : nm < 16)
    (h1 : rn_ok G T (rn_T T (rn_v G T f ((tx_ps G T f 1).getD d 0) d nm (tx_va T))) f → ∀ u', xx_R G 1 (rn_T T (rn_v G T f ((tx_ps G T f 1).getD d 0) d nm (tx_va T))) u' → post 1 u')
    (h0 : ¬ rn_ok G T (rn_T T (rn_v G T f ((tx_ps G T f 1).getD d 0) d nm (tx_va T))) f → ∀ u', xx_R G 1 T u' → post 0 u') : wpX_rename post u (nI f) (nI d) (nI nm) := by
  refine xx_el (P := fun u => wpX_rename post u (nI f) (nI d) (nI nm)) ?_ hu
  intro f_nullable f_productive f_sp f_depth f_at a_first a_follow a_fault a_defs a_refs a_imports a_defAt a_refAt a_scopeOf a_importAt a_around a_beginsAt a_endsAt a_names a_scopes a_twice a_open a_stale a_link a_kept a_stack a_trial a_opened a_table md us hF
  obtain ⟨hB, hX⟩ := hF.2.1 rfl
  refine xr_rename hf hz.2.2.2.2.2.1 hz.2.2.2.2.1 hd hnm (fun g hg => ⟨(hX g hg).1, (hX g hg).2.1⟩) (fun g hg => (hX g hg).2.2) ?_ ?_
  · intro a_names a_twice a_open a_stale a_link a_kept hok hA hL
    exact h1 hok _ (xx_mk (b := 1) (T := rn_T T (rn_v G T f ((tx_ps G T f 1).getD d 0) d nm (tx_va T))) ⟨hF.1, fun _ => ⟨hB, fun g hg => ⟨(hA g hg).1, (hA g hg).2, fun _ => (hL g hg).2⟩⟩, fun h => by omega⟩)
  · intro a_names a_twice a_open a_stale a_link a_kept hok hA hL
    exact h0 hok _ (xx_mk (b := 1) ⟨hF.1, fun _ => ⟨hB, fun g hg => ⟨(hA g hg).1, (hA g hg).2, fun h => by rw [hL g hg] at h; exact absurd h (by decide)⟩⟩, fun h => by omega⟩)
theorem ya_ren0 {post : Int32 → SY → Prop} (hz : zz_ok G b T) (hv : yy_R G b T v) (hn : ¬ rnv G b T v1 v2 v3) (hm : ∀ v', yy_R G b T v' → post 0 v') : wpY_rename post v v1 v2 v3 := by
  refine yy_el (P := fun v => wpY_rename post v v1 v2 v3) ?_ hv
  intro f_some f_empty f_wn f_nt a_first a_follow a_word a_reach a_beyond a_way a_bad a_part a_scopes a_inner a_tRule a_tFrom a_tTo a_before kn hF
  have hk := hm (nI (gg_np G), nI b, f_some, f_empty, f_wn, f_nt, nA (gg_ru G), nA (gg_sc G), nA (gg_ln G), nA (gg_sy G), gg_ro G, a_first, a_follow, nA (tx_kd T), nA (tx_va T), nA (tx_le T), a_word, a_reach, a_beyond, a_way, nA kn, a_bad, a_part, a_scopes, a_inner, a_tRule, a_tFrom, a_tTo, a_before) (yy_mk hF)
  have m1 : (-1 : Int32) < 0 := by decide
  rcases (show b = 0 ∨ b = 1 by have := hz.2.1; omega) with hb | hb
  · refine br_t (by rw [hb]; rfl) ?_
    unfold wY_rename_25 wY_rename_26
    exact br_t m1 hk
  · have bad : v1 < 0 ∨ nI 4 ≤ v1 → wpY_rename post (nI (gg_np G), nI b, f_some, f_empty, f_wn, f_nt, nA (gg_ru G), nA (gg_sc G), nA (gg_ln G), nA (gg_sy G), gg_ro G, a_first, a_follow, nA (tx_kd T), nA (tx_va T), nA (tx_le T), a_word, a_reach, a_beyond, a_way, nA kn, a_bad, a_part, a_scopes, a_inner, a_tRule, a_tFrom, a_tTo, a_before) v1 v2 v3 := fun h => br_f (by rw [hb]; decide) (yq_nf h (br_t rfl (by unfold wY_rename_25 wY_rename_26; exact br_t m1 hk)))
    rcases pk_ix v1 (n := 4) (by omega) with h | h | ⟨f, hf, e⟩
    · exact bad (Or.inl h)
    · exact bad (Or.inr h)
    · subst e
      refine br_f (by rw [hb]; decide) (yq_f hf (br_f (by decide) ?_))
      by_cases hn2 : v2 < 0
      · refine yq_placeN (x := 1) hn2 ?_
        dsimp only
        unfold wY_rename_26
        exact br_t m1 hk
      · obtain ⟨j, hj, rfl⟩ := nI_of hn2
        refine yq_place (x := 1) hz hb hf hj (yf_0 hF) ?_
        intro f_wn f_nt a_word a_reach a_beyond a_way a_bad a_part a_scopes a_inner a_tRule a_tFrom a_tTo kn hF _
        have hk := hm (nI (gg_np G), nI b, f_some, f_empty, f_wn, f_nt, nA (gg_ru G), nA (gg_sc G), nA (gg_ln G), nA (gg_sy G), gg_ro G, a_first, a_follow, nA (tx_kd T), nA (tx_va T), nA (tx_le T), a_word, a_reach, a_beyond, a_way, nA kn, a_bad, a_part, a_scopes, a_inner, a_tRule, a_tFrom, a_tTo, a_before) (yy_mk hF.1)
        dsimp only
        unfold wY_rename_26
        cases ha : (tx_ps G T f 1)[j]? with
        | none => exact br_t m1 hk
        | some a =>
          have hl := (List.getElem?_eq_some_iff.mp ha).1
          refine br_c (fun _ => hk) (fun _ => br_c (fun _ => hk) (fun h3 => ?_))
          obtain ⟨nm, hnm, rfl⟩ := nI_of h3
          exact pk_le nm 15 (fun h15 => absurd ⟨hb, f, j, nm, hf, rfl, rfl, hl, rfl, by omega⟩ hn) (fun _ => hk)
theorem ya_ren1 {post : Int32 → SY → Prop} {f d nm : Nat} (hz : zz_ok G b T) (hv : yy_R G b T v) (hb : b = 1) (hf : f < 4) (hd : d < (tx_ps G T f 1).length) (hnm : nm < 16)
    (h1 : rn_ok G T (rn_T T (rn_v G T f ((tx_ps G T f 1).getD d 0) d nm (tx_va T))) f → ∀ v', yy_R G b (rn_T T (rn_v G T f ((tx_ps G T f 1).getD d 0) d nm (tx_va T))) v' → post 1 v')
    (h0 : ¬ rn_ok G T (rn_T T (rn_v G T f ((tx_ps G T f 1).getD d 0) d nm (tx_va T))) f → ∀ v', yy_R G b T v' → post 0 v') : wpY_rename post v (nI f) (nI d) (nI nm) := by
  refine yy_el (P := fun v => wpY_rename post v (nI f) (nI d) (nI nm)) ?_ hv
  intro f_some f_empty f_wn f_nt a_first a_follow a_word a_reach a_beyond a_way a_bad a_part a_scopes a_inner a_tRule a_tFrom a_tTo a_before kn hF
  refine yr_rename hz hb hf hd hnm (yf_0 hF) ?_ ?_
  · intro a_before f_wn f_nt a_word a_reach a_beyond a_way a_bad a_part a_scopes a_inner a_tRule a_tFrom a_tTo kn hok hF
    exact h1 hok _ (yy_mk (T := rn_T T (rn_v G T f ((tx_ps G T f 1).getD d 0) d nm (tx_va T))) hF)
  · intro a_before f_wn f_nt a_word a_reach a_beyond a_way a_bad a_part a_scopes a_inner a_tRule a_tFrom a_tTo kn hok hF
    exact h0 hok _ (yy_mk hF)
end AZ
end
section
/-! the relation and the owed rows -/
def i_Rel (k : Nat) (u : SX) (v : SY) : Prop := ∃ G b T, zz_ok G b T ∧ xx_R G b T u ∧ yy_R G b T v
theorem i_up {k : Nat} {u : SX} {v : SY} (h : i_Rel k u v) : i_Rel (k + 5) u v := h
def zg : gg_T := (0, fun _ => 0, fun _ => 0, fun _ => 0, fun _ => 0, fun _ => 0)
def zt : tx_T := (fun _ => 0, fun _ => 0, fun _ => 0)
theorem zt_r : tx_r zt = zt := by
  show ((fun _ => 0), (fun _ => 0), fun g => if g < 4 then 0 else 0) = zt
  have e : (fun g : Nat => if g < 4 then 0 else 0) = fun _ => (0 : Nat) := by
    funext g
    by_cases h : g < 4
    · exact if_pos h
    · exact if_neg h
  rw [e]
  rfl
theorem zz_z : zz_ok zg 0 zt := ⟨⟨Nat.zero_le _, fun _ => (by decide : 0 < 6), fun _ => Nat.zero_le _, fun _ => (by decide : 0 < 16), fun _ => Nat.zero_le _, fun _ _ => ⟨0, Nat.zero_le _, rfl⟩⟩, Nat.zero_le _, fun h => absurd h (by decide), fun _ => (by decide : 0 < 10), fun _ => (by decide : 0 < 16), fun _ => Nat.zero_le _, fun _ _ _ => rfl⟩
theorem nA_z : nA (fun _ => 0) = fun _ => (0 : Int32) := rfl
theorem xx_z : xx_R zg 0 zt (0, 0, 0, 0, 0, 0, 0, (fun _ => 0), (fun _ => 0), (fun _ => 0), (fun _ => 0), (fun _ => 0), (fun _ => 0), (fun _ => 0), (fun _ => 0), (fun _ => 0), (fun _ => 0), (fun _ => 0), (fun _ => 0), (fun _ => 0), (fun _ => 0), (fun _ => 0), (fun _ => 0), (fun _ => 0), (fun _ => 0), (fun _ => 0), (fun _ => 0), (fun _ => 0), (fun _ => 0), (fun _ => 0), (fun _ => 0), (fun _ => 0), (fun _ => 0), (fun _ => 0), (fun _ => 0), (fun _ => 0), (fun _ => 0), (fun _ => 0), (fun _ => 0), (fun _ => 0), (fun _ => 0)) := by
  refine ⟨rfl, rfl, rfl, rfl, rfl, rfl, rfl, rfl, rfl, rfl, fun _ => 0, fun _ => 0, rfl, rfl, ?_, fun h => absurd h (by decide), fun _ _ _ => rfl⟩
  intro A hA
  refine ⟨⟨(by decide : 0 < 2 ^ 14), fun p => ⟨fun h => ?_, fun h => absurd h.1 (Nat.not_lt_zero p)⟩⟩, ⟨(by decide : 0 < 2 ^ 14), fun p => ⟨fun h => ?_, fun h => absurd h.1 (Nat.not_lt_zero p)⟩⟩⟩
  · rw [Nat.zero_testBit] at h; exact absurd h (by decide)
  · rw [Nat.zero_testBit] at h; exact absurd h (by decide)
theorem yy_z : yy_R zg 0 zt (0, 0, 0, 0, 0, 0, (fun _ => 0), (fun _ => 0), (fun _ => 0), (fun _ => 0), (fun _ => 0), (fun _ => 0), (fun _ => 0), (fun _ => 0), (fun _ => 0), (fun _ => 0), (fun _ => 0), (fun _ => 0), (fun _ => 0), (fun _ => 0), (fun _ => 0), (fun _ => 0), (fun _ => 0), (fun _ => 0), (fun _ => 0), (fun _ => 0), (fun _ => 0), (fun _ => 0), (fun _ => 0)) :=
  ⟨rfl, rfl, rfl, rfl, rfl, rfl, rfl, rfl, rfl, rfl, fun _ => 0, rfl, fun _ => Nat.zero_le _, fun _ _ _ => rfl, fun _ _ h => absurd h (by decide : ¬ (0 : Nat) = 1)⟩
theorem i_vc0 : wpX_init (fun u => wpY_init (fun v => i_Rel 0 u v)) := by
  unfold wpX_init
  refine xz_restart xx_z (fun u' hu => ?_)
  obtain ⟨f_nP, f_built, f_nullable, f_productive, f_sp, f_depth, f_at, a_pRule, a_pLen, a_pSymbol, a_pRole, a_pScope, a_made, a_users, a_first, a_follow, a_table, a_kind, a_value, a_length, a_fault, a_defs, a_refs, a_imports, a_defAt, a_refAt, a_scopeOf, a_importAt, a_around, a_beginsAt, a_endsAt, a_names, a_scopes, a_twice, a_open, a_stale, a_link, a_kept, a_stack, a_trial, a_opened⟩ := u'
  rw [zt_r] at hu
  exact ⟨zg, 0, zt, zz_z, hu, yy_z⟩
theorem i_vc_production {k : Nat} {u : SX} {v : SY} (I : i_Rel k u v) (hk : k + 5 ≤ 2560) (v1 : Int32) (v2 : Int32) : wpX_production (fun r u' => wpY_production (fun r' v' => r' = r ∧ i_Rel (k + 5) u' v') v v1 (lw_bz v2)) u v1 (lw_bz v2) := by
  obtain ⟨G, b, T, hz, hu, hv⟩ := I
  obtain ⟨s, hs1, hs⟩ := lw_bz_n01 v2
  refine xa_prod hz hu hs (fun hn u' hu' => ya_prod hz hv hs (fun _ v' hv' => ⟨rfl, G, b, T, hz, hu', hv'⟩) (fun j h => absurd h hn)) (fun j h hj e u' hu' => ya_prod hz hv hs (fun hn => absurd h hn) (fun j' h' hj' e' v' hv' => ?_))
  have ej := nI_inj (show j < 2 ^ 31 by omega) (show j' < 2 ^ 31 by omega) (e.symm.trans e')
  subst ej
  have hb := h.1
  subst hb
  have h14 := hz.1.1
  have hn := h.2.1
  exact ⟨rfl, _, 0, T, zz_p hz hj hs1 (by omega), hu', hv'⟩
theorem i_vc_symbol {k : Nat} {u : SX} {v : SY} (I : i_Rel k u v) (hk : k + 5 ≤ 2560) (v1 : Int32) (v2 : Int32) : wpX_symbol (fun r u' => wpY_symbol (fun r' v' => r' = r ∧ i_Rel (k + 5) u' v') v v1 v2) u v1 v2 := by
  obtain ⟨G, b, T, hz, hu, hv⟩ := I
  refine xa_sym hz hu (fun hn u' hu' => ya_sym hz hv (fun _ v' hv' => ⟨rfl, G, b, T, hz, hu', hv'⟩) (fun j h => absurd h hn)) (fun s h hs e u' hu' => ya_sym hz hv (fun hn => absurd h hn) (fun s' h' hs' e' v' hv' => ?_))
  have ej := nI_inj (show s < 2 ^ 31 by omega) (show s' < 2 ^ 31 by omega) (e.symm.trans e')
  subst ej
  obtain ⟨hb, hn, hl, s2, hs2, e2, hr⟩ := h
  have e3 := nI_inj (show s < 2 ^ 31 by omega) (show s2 < 2 ^ 31 by omega) (e.symm.trans e2)
  subst e3
  subst hb
  refine ⟨rfl, _, 0, T, zz_y hz hs (fun h10 => ?_) hl, hu', hv'⟩
  obtain ⟨x, hx, ex⟩ := hr h10
  subst ex
  exact ⟨x, hx, vb_w (show x < 128 by omega)⟩
theorem bp_u {G : gg_T} {k k' : Nat} (h : gg_bP G k) (h' : gg_bP G k') : k = k' := by
  rcases Nat.lt_trichotomy k k' with hl | hl | hl
  · exact absurd (h'.2.2 k hl h.2.1.1) h.2.1.2
  · exact hl
  · exact absurd (h.2.2 k' hl h'.2.1.1) h'.2.1.2
theorem bc_u {G : gg_T} {k k' : Nat} (h : gg_bC G k) (h' : gg_bC G k') : k = k' := by
  rcases Nat.lt_trichotomy k k' with hl | hl | hl
  · exact absurd h.2.2.1 (h'.2.2.2 k hl)
  · exact hl
  · exact absurd h'.2.2.1 (h.2.2.2 k' hl)
theorem i_vc_build {k : Nat} {u : SX} {v : SY} (I : i_Rel k u v) (hk : k + 5 ≤ 2560) : wpX_build (fun r u' => wpY_build (fun r' v' => r' = r ∧ i_Rel (k + 5) u' v') v) u := by
  obtain ⟨G, b, T, hz, hu, hv⟩ := I
  refine xa_build hz hu ?_ ?_ ?_ ?_
  · intro hb u' hu'
    exact ya_build hz hv (fun _ v' hv' => ⟨rfl, G, b, T, hz, hu', hv'⟩) (fun _ h => by omega) (fun _ h => by omega) (fun h => by omega)
  · intro j hb hj u' hu'
    subst hb
    refine ya_build hz hv (fun h => by omega) (fun j' _ hj' v' hv' => ?_) (fun q _ hq => absurd (hq.1 j hj.1 hj.2.1.1) hj.2.1.2) (fun _ hq => absurd (hq.1 j hj.1 hj.2.1.1) hj.2.1.2)
    rw [bp_u hj' hj]
    exact ⟨rfl, G, 0, T, hz, hu', hv'⟩
  · intro q hb hq u' hu'
    subst hb
    refine ya_build hz hv (fun h => by omega) (fun j _ hj => absurd (hq.1 j hj.1 hj.2.1.1) hj.2.1.2) (fun q' _ hq' v' hv' => ?_) (fun _ ho => absurd hq.2.2.1 (ho.2 q hq.2.1))
    rw [bc_u hq' hq]
    exact ⟨rfl, G, 0, T, hz, hu', hv'⟩
  · intro hb ho u' hu'
    subst hb
    refine ya_build hz hv (fun h => by omega) (fun j _ hj => absurd (ho.1 j hj.1 hj.2.1.1) hj.2.1.2) (fun q _ hq => absurd hq.2.2.1 (ho.2 q hq.2.1)) (fun _ _ v' hv' => ?_)
    exact ⟨rfl, G, 1, T, ⟨hz.1, by omega, fun _ => gg_bO_LL ho, hz.2.2.2.1, hz.2.2.2.2.1, hz.2.2.2.2.2.1, fun h => by omega⟩, hu', hv'⟩
theorem i_vc_put {k : Nat} {u : SX} {v : SY} (I : i_Rel k u v) (hk : k + 5 ≤ 2560) (v1 : Int32) (v2 : Int32) (v3 : Int32) (v4 : Int32) : wpX_put (fun r u' => wpY_put (fun r' v' => r' = r ∧ i_Rel (k + 5) u' v') v v1 v2 v3 v4) u v1 v2 v3 v4 := by
  obtain ⟨G, b, T, hz, hu, hv⟩ := I
  by_cases h : pv b T v1 v2 v3 v4
  · obtain ⟨hb, f, a, kd, w, hf, rfl, rfl, ha, ha2, rfl, hkd, rfl, hw⟩ := h
    subst hb
    exact xa_put1 hz hu hf ha ha2 hkd hw (fun u' hu' => ya_put1 hz hv hf ha ha2 hkd hw (fun v' hv' => ⟨rfl, G, 1, _, zz_put hz ha ha2 hkd hw, hu', hv'⟩))
  · exact xa_put0 hz hu h (fun u' hu' => ya_put0 hz hv h (fun v' hv' => ⟨rfl, G, b, T, hz, hu', hv'⟩))
theorem i_vc_delete {k : Nat} {u : SX} {v : SY} (I : i_Rel k u v) (hk : k + 5 ≤ 2560) (v1 : Int32) (v2 : Int32) : wpX_delete (fun r u' => wpY_delete (fun r' v' => r' = r ∧ i_Rel (k + 5) u' v') v v1 v2) u v1 v2 := by
  obtain ⟨G, b, T, hz, hu, hv⟩ := I
  by_cases h : dv T v1 v2
  · obtain ⟨f, a, hf, rfl, rfl, ha⟩ := h
    have hb := dv_1 hz hf ha
    subst hb
    exact xa_del1 hz hu hf ha (fun u' hu' => ya_del1 hz hv hf ha (fun v' hv' => ⟨rfl, G, 1, _, zz_del hz, hu', hv'⟩))
  · exact xa_del0 hz hu h (fun u' hu' => ya_del0 hz hv h (fun v' hv' => ⟨rfl, G, b, T, hz, hu', hv'⟩))
theorem i_vc_token {k : Nat} {u : SX} {v : SY} (I : i_Rel k u v) (hk : k + 5 ≤ 2560) (v1 : Int32) (v2 : Int32) : wpX_token (fun r => wpY_token (fun r' => r' = r ∧ i_Rel (k + 5) u v) v v1 v2) u v1 v2 := by
  have I0 : i_Rel (k + 5) u v := I
  obtain ⟨G, b, T, hz, hu, hv⟩ := I
  refine xa_token hz hu (fun hd => ya_token0 hz hv hd ⟨rfl, I0⟩) (fun f a hf e1 e2 ha => ?_)
  subst e1 e2
  exact ya_token1 hz hv hf ha ⟨rfl, I0⟩
theorem i_vc_errorAt {k : Nat} {u : SX} {v : SY} (I : i_Rel k u v) (hk : k + 5 ≤ 2560) (v1 : Int32) : wpX_errorAt (fun r => wpY_errorAt (fun r' v' => r' = r ∧ i_Rel (k + 5) u v') v v1) u v1 := by
  obtain ⟨G, b, T, hz, hu, hv⟩ := I
  refine xa_error hu hz.2.1 (fun hd => ya_error0 hv (fv_0 hz.2.1 hd) (fun v' hv' => ⟨rfl, G, b, T, hz, hu, hv'⟩)) (fun f hb hf e1 => ?_)
  subst e1
  exact ya_error1 hz hv hb hf (fun v' hv' => ⟨rfl, G, b, T, hz, hu, hv'⟩)
theorem i_vc_expected {k : Nat} {u : SX} {v : SY} (I : i_Rel k u v) (hk : k + 5 ≤ 2560) (v1 : Int32) (v2 : Int32) : wpX_expected (fun r u' => wpY_expected (fun r' v' => r' = r ∧ i_Rel (k + 5) u' v') v v1 v2) u v1 v2 := by
  obtain ⟨G, b, T, hz, hu, hv⟩ := I
  by_cases h : exv b T v1 v2
  · obtain ⟨hb, f, n, hf, rfl, rfl, hn⟩ := h
    subst hb
    refine xa_exp1 hz hu hf hn (fun m hm1 hm2 u' hu' => ya_exp1 hz hv rfl hf hn (fun m' hm1' hm2' v' hv' => ?_))
    have e : m' = m := nb_ext (fun i => (hm2' i).trans (hm2 i).symm)
    rw [e]
    exact ⟨rfl, G, 1, T, hz, hu', hv'⟩
  · exact xa_exp0 hz hu h (fun u' hu' => ya_exp0 hz hv h (fun v' hv' => ⟨rfl, G, b, T, hz, hu', hv'⟩))
theorem i_vc_scope {k : Nat} {u : SX} {v : SY} (I : i_Rel k u v) (hk : k + 5 ≤ 2560) (v1 : Int32) (v2 : Int32) : wpX_scope (fun r => wpY_scope (fun r' v' => r' = r ∧ i_Rel (k + 5) u v') v v1 v2) u v1 v2 := by
  obtain ⟨G, b, T, hz, hu, hv⟩ := I
  refine xa_scope hz hu (fun hd => ya_scope0 hz hv hd (fun v' hv' => ⟨rfl, G, b, T, hz, hu, hv'⟩)) (fun f a hb hf e1 e2 ha hs => ?_) (fun f a hb hf e1 e2 ha hs => ?_)
  · subst e1 e2
    exact ya_scope1 hz hv hb hf ha (fun _ v' hv' => ⟨rfl, G, b, T, hz, hu, hv'⟩) (fun h => absurd hs h)
  · subst e1 e2
    exact ya_scope1 hz hv hb hf ha (fun h => absurd h hs) (fun _ v' hv' => ⟨rfl, G, b, T, hz, hu, hv'⟩)
theorem i_vc_definitions {k : Nat} {u : SX} {v : SY} (I : i_Rel k u v) (hk : k + 5 ≤ 2560) (v1 : Int32) : wpX_definitions (fun r => wpY_definitions (fun r' v' => r' = r ∧ i_Rel (k + 5) u v') v v1) u v1 := by
  obtain ⟨G, b, T, hz, hu, hv⟩ := I
  refine xa_defs hu hz.2.1 (fun hd => ya_defs0 hv (fv_0 hz.2.1 hd) (fun v' hv' => ⟨rfl, G, b, T, hz, hu, hv'⟩)) (fun f hb hf e1 => ?_)
  subst e1
  exact ya_defs1 hz hv hb hf (fun v' hv' => ⟨rfl, G, b, T, hz, hu, hv'⟩)
theorem i_vc_references {k : Nat} {u : SX} {v : SY} (I : i_Rel k u v) (hk : k + 5 ≤ 2560) (v1 : Int32) : wpX_references (fun r => wpY_references (fun r' v' => r' = r ∧ i_Rel (k + 5) u v') v v1) u v1 := by
  obtain ⟨G, b, T, hz, hu, hv⟩ := I
  refine xa_refs hu hz.2.1 (fun hd => ya_refs0 hv (fv_0 hz.2.1 hd) (fun v' hv' => ⟨rfl, G, b, T, hz, hu, hv'⟩)) (fun f hb hf e1 => ?_)
  subst e1
  exact ya_refs1 hz hv hb hf (fun v' hv' => ⟨rfl, G, b, T, hz, hu, hv'⟩)
theorem i_vc_target {k : Nat} {u : SX} {v : SY} (I : i_Rel k u v) (hk : k + 5 ≤ 2560) (v1 : Int32) (v2 : Int32) : wpX_target (fun r u' => wpY_target (fun r' v' => r' = r ∧ i_Rel (k + 5) u' v') v v1 v2) u v1 v2 := by
  obtain ⟨G, b, T, hz, hu, hv⟩ := I
  refine xa_target hz hu (fun hd u' hu' => ya_target0 hz hv hd (fun v' hv' => ⟨rfl, G, b, T, hz, hu', hv'⟩)) (fun f j hb hf e1 e2 hj u' hu' => ?_)
  subst e1 e2
  exact ya_target1 hz hv hb hf hj (fun v' hv' => ⟨rfl, G, b, T, hz, hu', hv'⟩)
theorem i_vc_duplicates {k : Nat} {u : SX} {v : SY} (I : i_Rel k u v) (hk : k + 5 ≤ 2560) (v1 : Int32) : wpX_duplicates (fun r => wpY_duplicates (fun r' v' => r' = r ∧ i_Rel (k + 5) u v') v v1) u v1 := by
  obtain ⟨G, b, T, hz, hu, hv⟩ := I
  refine xa_dup hu hz.2.1 (fun hd => ya_dup0 hv (fv_0 hz.2.1 hd) (fun v' hv' => ⟨rfl, G, b, T, hz, hu, hv'⟩)) (fun f hb hf e1 => ?_)
  subst e1
  exact ya_dup1 hz hv hb hf (fun v' hv' => ⟨rfl, G, b, T, hz, hu, hv'⟩)
theorem i_vc_unresolved {k : Nat} {u : SX} {v : SY} (I : i_Rel k u v) (hk : k + 5 ≤ 2560) : wpX_unresolved (fun r u' => wpY_unresolved (fun r' v' => r' = r ∧ i_Rel (k + 5) u' v') v) u := by
  obtain ⟨G, b, T, hz, hu, hv⟩ := I
  exact xa_unres hz hu (fun hb u' hu' => ya_unres0 hv hb (fun v' hv' => ⟨rfl, G, b, T, hz, hu', hv'⟩)) (fun hb u' hu' => ya_unres1 hz hv hb (fun v' hv' => ⟨rfl, G, b, T, hz, hu', hv'⟩))
theorem i_vc_rename {k : Nat} {u : SX} {v : SY} (I : i_Rel k u v) (hk : k + 5 ≤ 2560) (v1 : Int32) (v2 : Int32) (v3 : Int32) : wpX_rename (fun r u' => wpY_rename (fun r' v' => r' = r ∧ i_Rel (k + 5) u' v') v v1 v2 v3) u v1 v2 v3 := by
  obtain ⟨G, b, T, hz, hu, hv⟩ := I
  by_cases h : rnv G b T v1 v2 v3
  · obtain ⟨hb, f, d, nm, hf, rfl, rfl, hd, rfl, hnm⟩ := h
    subst hb
    refine xa_ren1 hz hu hf hd hnm (fun hok u' hu' => ya_ren1 hz hv rfl hf hd hnm (fun _ v' hv' => ?_) (fun h => absurd hok h)) (fun hok u' hu' => ya_ren1 hz hv rfl hf hd hnm (fun h => absurd h hok) (fun _ v' hv' => ?_))
    · exact ⟨rfl, G, 1, _, ry_z hz (rv_16 hz hnm), hu', hv'⟩
    · exact ⟨rfl, G, 1, T, hz, hu', hv'⟩
  · exact xa_ren0 hz hu h (fun u' hu' => ya_ren0 hz hv h (fun v' hv' => ⟨rfl, G, b, T, hz, hu', hv'⟩))
theorem i_vc_restart {k : Nat} {u : SX} {v : SY} (I : i_Rel k u v) (hk : k + 5 ≤ 2560) : wpX_restart (fun u' => wpY_restart (fun v' => i_Rel (k + 5) u' v') v) u := by
  obtain ⟨G, b, T, hz, hu, hv⟩ := I
  exact xz_restart hu (fun u' hu' => yz_restart hv (fun v' hv' => ⟨_, 0, _, zz_r hz, hu', hv'⟩))
end

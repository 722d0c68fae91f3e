section
/-! pure rows to paste: stores, nI and lN arithmetic, masks, shifts, narrowing, branches by naturals (pk_le, pk_lt, pk_eq), loops (lp1 .. lp16: the measure of the state; rp1 ..: recursion), negatives. Take what you need -/
theorem pk_us {f : Nat → Int32} {k : Nat} {x : Int32} : upd f k x k = x := if_pos rfl
theorem pk_un {f : Nat → Int32} {k j : Nat} {x : Int32} (h : j ≠ k) : upd f k x j = f j := if_neg h
theorem pk_uLs {f : Nat → Int64} {k : Nat} {x : Int64} : vp_updL f k x k = x := if_pos rfl
theorem pk_uLn {f : Nat → Int64} {k j : Nat} {x : Int64} (h : j ≠ k) : vp_updL f k x j = f j := if_neg h
theorem pk_sub {a b : Nat} (h : b ≤ a) : nI a - nI b = nI (a - b) := by
  obtain ⟨c, rfl⟩ : ∃ c, a = c + b := ⟨a - b, by omega⟩
  rw [← nI_add, Int32.add_sub_cancel, Nat.add_sub_cancel]
theorem pk_m1 (n : Nat) : nI (n + 1) + (-1) = nI n := by
  rw [← nI_1, Int32.add_assoc, show (1 : Int32) + (-1) = 0 from rfl, Int32.add_zero]
theorem pk_mul (a b : Nat) : nI a * nI b = nI (a * b) := (Int32.ofNat_mul a b).symm
theorem pk_div {a d : Nat} (ha : a < 2 ^ 31) (h0 : 0 < d) (hd : d < 2 ^ 31) : nI a / nI d = nI (a / d) := by
  apply Int32.toInt_inj.mp
  rw [lg_idiv_nonneg (by rw [nI_toInt ha]; omega) (by rw [nI_toInt hd]; omega), nI_toInt ha, nI_toInt hd, nI_toInt (Nat.lt_of_le_of_lt (Nat.div_le_self a d) ha)]
  first | rfl | exact (Int.natCast_ediv _ _).symm
theorem pk_rem {a d : Nat} (ha : a < 2 ^ 31) (h0 : 0 < d) (hd : d < 2 ^ 31) : nI a - nI a / nI d * nI d = nI (a % d) := by
  rw [pk_div ha h0 hd, pk_mul, pk_sub (Nat.div_mul_le_self a d)]
  exact congrArg nI (by have := Nat.div_add_mod' a d; omega)
theorem pk_sub_toInt {a b : Nat} (ha : a < 2 ^ 30) (hb : b < 2 ^ 30) : (nI a - nI b).toInt = (a : Int) - b := by
  rw [Int32.toInt_sub, nI_toInt (by omega), nI_toInt (by omega)]
  exact Int.bmod_eq_of_le (by omega) (by omega)
theorem pk_sneg {a b : Nat} (hb : b < 2 ^ 30) (h : a < b) : nI a - nI b < 0 := by
  rw [Int32.lt_iff_toInt_lt, pk_sub_toInt (by omega) hb, show (0 : Int32).toInt = 0 from by decide]
  omega
theorem pk_ix (x : Int32) {n : Nat} (hn : n < 2 ^ 31) : x < 0 ∨ nI n ≤ x ∨ ∃ j : Nat, j < n ∧ x = nI j := by
  by_cases h : x < 0
  · exact Or.inl h
  · obtain ⟨j, hj, rfl⟩ := nI_of h
    by_cases h2 : j < n
    · exact Or.inr (Or.inr ⟨j, h2, rfl⟩)
    · exact Or.inr (Or.inl (nI_le (by omega) hj))
theorem pk_le {x y : Int32} {A B : Prop} (a b : Nat) (f : a ≤ b → A) (g : b < a → B) (hx : x = nI a := by rfl) (hy : y = nI b := by rfl) (ha : a < 2 ^ 31 := by omega) (hb : b < 2 ^ 31 := by omega) : (x ≤ y → A) ∧ (¬ x ≤ y → B) := by
  subst hx hy
  rw [nI_leI ha hb]
  exact ⟨f, fun z => g (by omega)⟩
theorem pk_lt {x y : Int32} {A B : Prop} (a b : Nat) (f : a < b → A) (g : b ≤ a → B) (hx : x = nI a := by rfl) (hy : y = nI b := by rfl) (ha : a < 2 ^ 31 := by omega) (hb : b < 2 ^ 31 := by omega) : (x < y → A) ∧ (¬ x < y → B) := by
  subst hx hy
  rw [nI_ltI ha hb]
  exact ⟨f, fun z => g (by omega)⟩
theorem pk_eq {x y : Int32} {A B : Prop} (a b : Nat) (f : a = b → A) (g : a ≠ b → B) (hx : x = nI a := by rfl) (hy : y = nI b := by rfl) (ha : a < 2 ^ 31 := by omega) (hb : b < 2 ^ 31 := by omega) : (x = y → A) ∧ (¬ x = y → B) := by
  subst hx hy
  rw [nI_eq ha hb]
  exact ⟨f, g⟩
theorem pk_in {x : Int32} (n N : Nat) (h : n < N) (hx : x = nI n := by rfl) (hN : N < 2 ^ 31 := by omega) : vp_in x N := by
  subst hx
  exact vp_in_nI h hN
theorem pk_cl {x : Int32} (n : Nat) (hx : x = nI n := by rfl) (h : n < 2 ^ 31 := by omega) : x.toNatClampNeg = n := by
  subst hx
  exact nI_clamp h
theorem pk_tn {n : Nat} (h : n < 2 ^ 32) : (nI n).toBitVec.toNat = n := Nat.mod_eq_of_lt h
theorem pk_and (x : Int32) {m : Int32} (k : Nat) (hm : m.toBitVec.toNat = 2 ^ k - 1) : x &&& m = nI (x.toBitVec.toNat % 2 ^ k) := by
  apply Int32.toBitVec_inj.mp
  apply BitVec.eq_of_toNat_eq
  rw [Int32.toBitVec_and, BitVec.toNat_and, hm, Nat.and_two_pow_sub_one_eq_mod]
  show _ = (BitVec.ofNat 32 _).toNat
  rw [BitVec.toNat_ofNat]
  exact (Nat.mod_eq_of_lt (Nat.lt_of_le_of_lt (Nat.mod_le _ _) x.toBitVec.isLt)).symm
theorem pk_andN {n : Nat} (h : n < 2 ^ 32) {m : Int32} (k : Nat) (hm : m.toBitVec.toNat = 2 ^ k - 1) : nI n &&& m = nI (n % 2 ^ k) := by
  rw [pk_and _ k hm, pk_tn h]
theorem pk_andE (x : Int32) {m : Int32} (k : Nat) (hm : m.toBitVec.toNat = 2 ^ k - 1) : ∃ j : Nat, j < 2 ^ k ∧ x &&& m = nI j := ⟨_, Nat.mod_lt _ (Nat.two_pow_pos k), pk_and x k hm⟩
theorem pk_andIn (x : Int32) {m : Int32} (k : Nat) (hm : m.toBitVec.toNat = 2 ^ k - 1) (hk : k ≤ 30) : vp_in (x &&& m) (2 ^ k) := by
  obtain ⟨j, hj, e⟩ := pk_andE x k hm
  rw [e]
  exact vp_in_nI hj (Nat.lt_of_le_of_lt (Nat.pow_le_pow_right (by decide) hk) (by decide))
theorem pk_shl (a s : Int32) (k : Nat) (hs : (s.toBitVec.smod 32).toNat = k) : (a <<< s).toBitVec.toNat = a.toBitVec.toNat * 2 ^ k % 2 ^ 32 := by
  show (a.toBitVec <<< (s.toBitVec.smod 32).toNat).toNat = _
  rw [hs, BitVec.toNat_shiftLeft, Nat.shiftLeft_eq]
theorem pk_shlN {n : Nat} (s : Int32) (k : Nat) (hs : (s.toBitVec.smod 32).toNat = k) (h : n * 2 ^ k < 2 ^ 32) : nI n <<< s = nI (n * 2 ^ k) := by
  apply Int32.toBitVec_inj.mp
  apply BitVec.eq_of_toNat_eq
  have hn : n < 2 ^ 32 := Nat.lt_of_le_of_lt (Nat.le_mul_of_pos_right n (Nat.two_pow_pos k)) h
  rw [pk_shl _ _ k hs, pk_tn hn, pk_tn h, Nat.mod_eq_of_lt h]
theorem pk_shr (a s : Int32) (k : Nat) (hs : (s.toBitVec.smod 32).toNat = k) : (a >>> s).toInt = a.toInt >>> k := by
  show (a.toBitVec.sshiftRight (s.toBitVec.smod 32).toNat).toInt = _
  rw [hs, BitVec.toInt_sshiftRight]
  rfl
theorem pk_shrN {n : Nat} (h : n < 2 ^ 31) (s : Int32) (k : Nat) (hs : (s.toBitVec.smod 32).toNat = k) : nI n >>> s = nI (n / 2 ^ k) := by
  apply Int32.toInt_inj.mp
  have h2 : n / 2 ^ k ≤ n := Nat.div_le_self _ _
  rw [pk_shr _ _ k hs, nI_toInt h, nI_toInt (by omega), Int.shiftRight_eq_div_pow]
  rfl
theorem pk_ushr (x s : Int32) (k : Nat) (hs : ((s.toUInt32 &&& Int32.toUInt32 31).toBitVec % 32).toNat = k) : (x.toUInt32 >>> (s.toUInt32 &&& Int32.toUInt32 31)).toInt32.toBitVec.toNat = x.toBitVec.toNat / 2 ^ k := by
  have e : (x.toUInt32 >>> (s.toUInt32 &&& Int32.toUInt32 31)).toInt32.toBitVec = x.toBitVec >>> k := by
    rw [← hs]
    exact UInt32.toBitVec_shiftRight _ _
  rw [e, BitVec.toNat_ushiftRight, Nat.shiftRight_eq_div_pow]
theorem pk_ushrN {n : Nat} (hn : n < 2 ^ 32) (s : Int32) (k : Nat) (hs : ((s.toUInt32 &&& Int32.toUInt32 31).toBitVec % 32).toNat = k) : ((nI n).toUInt32 >>> (s.toUInt32 &&& Int32.toUInt32 31)).toInt32 = nI (n / 2 ^ k) := by
  apply Int32.toBitVec_inj.mp
  apply BitVec.eq_of_toNat_eq
  rw [pk_ushr _ s k hs, pk_tn hn, pk_tn (Nat.lt_of_le_of_lt (Nat.div_le_self _ _) hn)]
theorem pk_nb (z : Int32) : narrow .byte (.int z.toInt8.toInt32) = .int z.toInt8.toInt32 := congrArg Value.int (by simp)
theorem pk_ns (z : Int32) : narrow .short (.int z.toInt16.toInt32) = .int z.toInt16.toInt32 := congrArg Value.int (by simp)
theorem pk_fb (r : Int32) : fits .byte (.int r.toInt8.toInt32) = true := by
  have ⟨a, b⟩ := lg_i2b_range r
  have h1 : (-128 : Int32).toInt = -128 := by decide
  have h2 : (127 : Int32).toInt = 127 := by decide
  simp only [fits, Bool.and_eq_true, decide_eq_true_eq, Int32.le_iff_toInt_le, h1, h2]
  omega
theorem pk_fs (r : Int32) : fits .short (.int r.toInt16.toInt32) = true := by
  have ⟨a, b⟩ := lg_i2s_range r
  have h1 : (-32768 : Int32).toInt = -32768 := by decide
  have h2 : (32767 : Int32).toInt = 32767 := by decide
  simp only [fits, Bool.and_eq_true, decide_eq_true_eq, Int32.le_iff_toInt_le, h1, h2]
  omega
theorem pk_charN {q : Nat} (hq : q < 65536) : narrow .char (.int (nI q)) = .int (nI q) ∧ fits .char (.int (nI q)) = true := by
  constructor
  · have e : (nI q).toUInt32.toUInt16.toUInt32.toInt32 = nI q := by
      apply Int32.toBitVec_inj.mp
      apply BitVec.eq_of_toNat_eq
      show (nI q).toUInt32.toUInt16.toUInt32.toNat = q % 2 ^ 32
      rw [UInt16.toNat_toUInt32, UInt32.toNat_toUInt16, show (nI q).toUInt32.toNat = q % 2 ^ 32 from rfl]
      omega
    exact congrArg Value.int e
  · have a : (0 : Int32) ≤ nI q := nI_pos' (by omega)
    have b : nI q ≤ 65535 := nI_le (b := 65535) (by omega) (by decide)
    show (decide ((0 : Int32) ≤ nI q) && decide (nI q ≤ 65535)) = true
    rw [decide_eq_true a, decide_eq_true b]
    rfl
theorem pk_char (x : Int32) : (x.toUInt32 % 65536).toInt32 = nI (x.toBitVec.toNat % 65536) := by
  apply Int32.toBitVec_inj.mp
  apply BitVec.eq_of_toNat_eq
  rw [pk_tn (by omega)]
  show (x.toUInt32 % 65536).toNat = _
  rw [UInt32.toNat_mod]
  rfl
theorem pk_nc (x : Int32) : narrow .char (.int (x.toUInt32 % 65536).toInt32) = .int (x.toUInt32 % 65536).toInt32 := by
  rw [pk_char]
  exact (pk_charN (Nat.mod_lt _ (by decide))).1
theorem pk_fc (x : Int32) : fits .char (.int (x.toUInt32 % 65536).toInt32) = true := by
  rw [pk_char]
  exact (pk_charN (Nat.mod_lt _ (by decide))).2
theorem pk_vb (z : Int32) : vp_nar .byte z.toInt8.toInt32 = z.toInt8.toInt32 := by rw [vp_nar_byte]; simp
theorem pk_vs (z : Int32) : vp_nar .short z.toInt16.toInt32 = z.toInt16.toInt32 := by rw [vp_nar_short]; simp
theorem pk_vc (z : Int32) : vp_nar .char (z.toUInt32 % 65536).toInt32 = (z.toUInt32 % 65536).toInt32 := Value.int.inj (pk_nc z)
theorem pk_lT {n : Nat} (h : n < 2 ^ 63) : (lN n).toInt = (n : Int) := lg_ofNat_toInt h
theorem pk_lLT {a b : Nat} (ha : a < 2 ^ 63) (hb : b < 2 ^ 63) : lN a < lN b ↔ a < b := by
  rw [Int64.lt_iff_toInt_lt, pk_lT ha, pk_lT hb]; omega
theorem pk_lLE {a b : Nat} (ha : a < 2 ^ 63) (hb : b < 2 ^ 63) : lN a ≤ lN b ↔ a ≤ b := by
  rw [Int64.le_iff_toInt_le, pk_lT ha, pk_lT hb]; omega
theorem pk_lEQ {a b : Nat} (ha : a < 2 ^ 63) (hb : b < 2 ^ 63) : lN a = lN b ↔ a = b := by
  rw [← Int64.toInt_inj, pk_lT ha, pk_lT hb]; omega
theorem pk_lOf {x : Int64} (h : ¬ x < 0) : ∃ k : Nat, k < 2 ^ 63 ∧ x = lN k := by
  rw [Int64.lt_iff_toInt_lt] at h
  have h0 : (0 : Int64).toInt = 0 := by decide
  have hx := Int64.toInt_lt x
  refine ⟨x.toInt.toNat, by omega, Int64.toInt_inj.mp ?_⟩
  rw [pk_lT (by omega)]
  omega
theorem pk_lDiv {a b : Nat} (ha : a < 2 ^ 63) (h0 : 0 < b) (hb : b < 2 ^ 63) : lN a / lN b = lN (a / b) := by
  apply Int64.toInt_inj.mp
  rw [lg_ldiv_nonneg (by rw [pk_lT ha]; omega) (by rw [pk_lT hb]; omega), pk_lT ha, pk_lT hb, pk_lT (Nat.lt_of_le_of_lt (Nat.div_le_self a b) ha)]
  rfl
theorem pk_lRem {a b : Nat} (ha : a < 2 ^ 63) (h0 : 0 < b) (hb : b < 2 ^ 63) : lN a - lN a / lN b * lN b = lN (a % b) := by
  rw [pk_lDiv ha h0 hb, lN_mul, lN_sub (Nat.div_mul_le_self a b)]
  exact congrArg lN (by have := Nat.div_add_mod' a b; omega)
theorem pk_loop {σ : Type} (W : Nat → Nat → σ → Prop) (I : Nat → σ → Prop) (e i0 : Nat) (s : σ) (hi : i0 ≤ e) (h0 : I i0 s) (hx : ∀ n s, I e s → W (n + 1) e s)
    (hs : ∀ n i s, i < e → I i s → (∀ s', I (i + 1) s' → W n (i + 1) s') → W (n + 1) i s) : ∃ n, W n i0 s :=
  ⟨e + 1, loop_i W I e hx hs (e + 1) i0 s hi (by omega) h0⟩
theorem pk_loopD {σ : Type} (W : Nat → Nat → σ → Prop) (I : Nat → σ → Prop) (hx : ∀ n s, I 0 s → W (n + 1) 0 s)
    (hs : ∀ n i s, I (i + 1) s → (∀ s', I i s' → W n i s') → W (n + 1) (i + 1) s) : ∀ (e : Nat) (s : σ), I e s → W (e + 1) e s := by
  intro e
  induction e with
  | zero => exact fun s h => hx 0 s h
  | succ e ih => exact fun s h => hs (e + 1) e s h (fun s' h' => ih s' h')
theorem lp1 {A1 : Type} (W : Nat → A1 → Prop) (I : A1 → Prop) (μ : A1 → Nat) (hs : ∀ (n : Nat) (a1 : A1), I a1 → (∀ (b1 : A1), I b1 → μ b1 < μ a1 → W n b1) → W (n + 1) a1) (a1 : A1) (h : I a1) : ∃ n, W n a1 :=
  loop_m (σ := A1) (fun n s => W n s) (fun s => I s) (fun s => μ s) (fun n s hI hk => hs n s hI (fun b1 h9 hm => hk b1 h9 hm)) a1 h
theorem lp2 {A1 A2 : Type} (W : Nat → A1 → A2 → Prop) (I : A1 → A2 → Prop) (μ : A1 → A2 → Nat) (hs : ∀ (n : Nat) (a1 : A1) (a2 : A2), I a1 a2 → (∀ (b1 : A1) (b2 : A2), I b1 b2 → μ b1 b2 < μ a1 a2 → W n b1 b2) → W (n + 1) a1 a2) (a1 : A1) (a2 : A2) (h : I a1 a2) : ∃ n, W n a1 a2 :=
  loop_m (σ := A1 × A2) (fun n s => W n s.1 s.2) (fun s => I s.1 s.2) (fun s => μ s.1 s.2) (fun n s hI hk => hs n s.1 s.2 hI (fun b1 b2 h9 hm => hk (b1, b2) h9 hm)) (a1, a2) h
theorem lp3 {A1 A2 A3 : Type} (W : Nat → A1 → A2 → A3 → Prop) (I : A1 → A2 → A3 → Prop) (μ : A1 → A2 → A3 → Nat) (hs : ∀ (n : Nat) (a1 : A1) (a2 : A2) (a3 : A3), I a1 a2 a3 → (∀ (b1 : A1) (b2 : A2) (b3 : A3), I b1 b2 b3 → μ b1 b2 b3 < μ a1 a2 a3 → W n b1 b2 b3) → W (n + 1) a1 a2 a3) (a1 : A1) (a2 : A2) (a3 : A3) (h : I a1 a2 a3) : ∃ n, W n a1 a2 a3 :=
  loop_m (σ := A1 × A2 × A3) (fun n s => W n s.1 s.2.1 s.2.2) (fun s => I s.1 s.2.1 s.2.2) (fun s => μ s.1 s.2.1 s.2.2) (fun n s hI hk => hs n s.1 s.2.1 s.2.2 hI (fun b1 b2 b3 h9 hm => hk (b1, b2, b3) h9 hm)) (a1, a2, a3) h
theorem lp4 {A1 A2 A3 A4 : Type} (W : Nat → A1 → A2 → A3 → A4 → Prop) (I : A1 → A2 → A3 → A4 → Prop) (μ : A1 → A2 → A3 → A4 → Nat) (hs : ∀ (n : Nat) (a1 : A1) (a2 : A2) (a3 : A3) (a4 : A4), I a1 a2 a3 a4 → (∀ (b1 : A1) (b2 : A2) (b3 : A3) (b4 : A4), I b1 b2 b3 b4 → μ b1 b2 b3 b4 < μ a1 a2 a3 a4 → W n b1 b2 b3 b4) → W (n + 1) a1 a2 a3 a4) (a1 : A1) (a2 : A2) (a3 : A3) (a4 : A4) (h : I a1 a2 a3 a4) : ∃ n, W n a1 a2 a3 a4 :=
  loop_m (σ := A1 × A2 × A3 × A4) (fun n s => W n s.1 s.2.1 s.2.2.1 s.2.2.2) (fun s => I s.1 s.2.1 s.2.2.1 s.2.2.2) (fun s => μ s.1 s.2.1 s.2.2.1 s.2.2.2) (fun n s hI hk => hs n s.1 s.2.1 s.2.2.1 s.2.2.2 hI (fun b1 b2 b3 b4 h9 hm => hk (b1, b2, b3, b4) h9 hm)) (a1, a2, a3, a4) h
theorem lp5 {A1 A2 A3 A4 A5 : Type} (W : Nat → A1 → A2 → A3 → A4 → A5 → Prop) (I : A1 → A2 → A3 → A4 → A5 → Prop) (μ : A1 → A2 → A3 → A4 → A5 → Nat) (hs : ∀ (n : Nat) (a1 : A1) (a2 : A2) (a3 : A3) (a4 : A4) (a5 : A5), I a1 a2 a3 a4 a5 → (∀ (b1 : A1) (b2 : A2) (b3 : A3) (b4 : A4) (b5 : A5), I b1 b2 b3 b4 b5 → μ b1 b2 b3 b4 b5 < μ a1 a2 a3 a4 a5 → W n b1 b2 b3 b4 b5) → W (n + 1) a1 a2 a3 a4 a5) (a1 : A1) (a2 : A2) (a3 : A3) (a4 : A4) (a5 : A5) (h : I a1 a2 a3 a4 a5) : ∃ n, W n a1 a2 a3 a4 a5 :=
  loop_m (σ := A1 × A2 × A3 × A4 × A5) (fun n s => W n s.1 s.2.1 s.2.2.1 s.2.2.2.1 s.2.2.2.2) (fun s => I s.1 s.2.1 s.2.2.1 s.2.2.2.1 s.2.2.2.2) (fun s => μ s.1 s.2.1 s.2.2.1 s.2.2.2.1 s.2.2.2.2) (fun n s hI hk => hs n s.1 s.2.1 s.2.2.1 s.2.2.2.1 s.2.2.2.2 hI (fun b1 b2 b3 b4 b5 h9 hm => hk (b1, b2, b3, b4, b5) h9 hm)) (a1, a2, a3, a4, a5) h
theorem lp6 {A1 A2 A3 A4 A5 A6 : Type} (W : Nat → A1 → A2 → A3 → A4 → A5 → A6 → Prop) (I : A1 → A2 → A3 → A4 → A5 → A6 → Prop) (μ : A1 → A2 → A3 → A4 → A5 → A6 → Nat) (hs : ∀ (n : Nat) (a1 : A1) (a2 : A2) (a3 : A3) (a4 : A4) (a5 : A5) (a6 : A6), I a1 a2 a3 a4 a5 a6 → (∀ (b1 : A1) (b2 : A2) (b3 : A3) (b4 : A4) (b5 : A5) (b6 : A6), I b1 b2 b3 b4 b5 b6 → μ b1 b2 b3 b4 b5 b6 < μ a1 a2 a3 a4 a5 a6 → W n b1 b2 b3 b4 b5 b6) → W (n + 1) a1 a2 a3 a4 a5 a6) (a1 : A1) (a2 : A2) (a3 : A3) (a4 : A4) (a5 : A5) (a6 : A6) (h : I a1 a2 a3 a4 a5 a6) : ∃ n, W n a1 a2 a3 a4 a5 a6 :=
  loop_m (σ := A1 × A2 × A3 × A4 × A5 × A6) (fun n s => W n s.1 s.2.1 s.2.2.1 s.2.2.2.1 s.2.2.2.2.1 s.2.2.2.2.2) (fun s => I s.1 s.2.1 s.2.2.1 s.2.2.2.1 s.2.2.2.2.1 s.2.2.2.2.2) (fun s => μ s.1 s.2.1 s.2.2.1 s.2.2.2.1 s.2.2.2.2.1 s.2.2.2.2.2) (fun n s hI hk => hs n s.1 s.2.1 s.2.2.1 s.2.2.2.1 s.2.2.2.2.1 s.2.2.2.2.2 hI (fun b1 b2 b3 b4 b5 b6 h9 hm => hk (b1, b2, b3, b4, b5, b6) h9 hm)) (a1, a2, a3, a4, a5, a6) h
theorem lp7 {A1 A2 A3 A4 A5 A6 A7 : Type} (W : Nat → A1 → A2 → A3 → A4 → A5 → A6 → A7 → Prop) (I : A1 → A2 → A3 → A4 → A5 → A6 → A7 → Prop) (μ : A1 → A2 → A3 → A4 → A5 → A6 → A7 → Nat) (hs : ∀ (n : Nat) (a1 : A1) (a2 : A2) (a3 : A3) (a4 : A4) (a5 : A5) (a6 : A6) (a7 : A7), I a1 a2 a3 a4 a5 a6 a7 → (∀ (b1 : A1) (b2 : A2) (b3 : A3) (b4 : A4) (b5 : A5) (b6 : A6) (b7 : A7), I b1 b2 b3 b4 b5 b6 b7 → μ b1 b2 b3 b4 b5 b6 b7 < μ a1 a2 a3 a4 a5 a6 a7 → W n b1 b2 b3 b4 b5 b6 b7) → W (n + 1) a1 a2 a3 a4 a5 a6 a7) (a1 : A1) (a2 : A2) (a3 : A3) (a4 : A4) (a5 : A5) (a6 : A6) (a7 : A7) (h : I a1 a2 a3 a4 a5 a6 a7) : ∃ n, W n a1 a2 a3 a4 a5 a6 a7 :=
  loop_m (σ := A1 × A2 × A3 × A4 × A5 × A6 × A7) (fun n s => W n s.1 s.2.1 s.2.2.1 s.2.2.2.1 s.2.2.2.2.1 s.2.2.2.2.2.1 s.2.2.2.2.2.2) (fun s => I s.1 s.2.1 s.2.2.1 s.2.2.2.1 s.2.2.2.2.1 s.2.2.2.2.2.1 s.2.2.2.2.2.2) (fun s => μ s.1 s.2.1 s.2.2.1 s.2.2.2.1 s.2.2.2.2.1 s.2.2.2.2.2.1 s.2.2.2.2.2.2) (fun n s hI hk => hs n s.1 s.2.1 s.2.2.1 s.2.2.2.1 s.2.2.2.2.1 s.2.2.2.2.2.1 s.2.2.2.2.2.2 hI (fun b1 b2 b3 b4 b5 b6 b7 h9 hm => hk (b1, b2, b3, b4, b5, b6, b7) h9 hm)) (a1, a2, a3, a4, a5, a6, a7) h
theorem lp8 {A1 A2 A3 A4 A5 A6 A7 A8 : Type} (W : Nat → A1 → A2 → A3 → A4 → A5 → A6 → A7 → A8 → Prop) (I : A1 → A2 → A3 → A4 → A5 → A6 → A7 → A8 → Prop) (μ : A1 → A2 → A3 → A4 → A5 → A6 → A7 → A8 → Nat) (hs : ∀ (n : Nat) (a1 : A1) (a2 : A2) (a3 : A3) (a4 : A4) (a5 : A5) (a6 : A6) (a7 : A7) (a8 : A8), I a1 a2 a3 a4 a5 a6 a7 a8 → (∀ (b1 : A1) (b2 : A2) (b3 : A3) (b4 : A4) (b5 : A5) (b6 : A6) (b7 : A7) (b8 : A8), I b1 b2 b3 b4 b5 b6 b7 b8 → μ b1 b2 b3 b4 b5 b6 b7 b8 < μ a1 a2 a3 a4 a5 a6 a7 a8 → W n b1 b2 b3 b4 b5 b6 b7 b8) → W (n + 1) a1 a2 a3 a4 a5 a6 a7 a8) (a1 : A1) (a2 : A2) (a3 : A3) (a4 : A4) (a5 : A5) (a6 : A6) (a7 : A7) (a8 : A8) (h : I a1 a2 a3 a4 a5 a6 a7 a8) : ∃ n, W n a1 a2 a3 a4 a5 a6 a7 a8 :=
  loop_m (σ := A1 × A2 × A3 × A4 × A5 × A6 × A7 × A8) (fun n s => W n s.1 s.2.1 s.2.2.1 s.2.2.2.1 s.2.2.2.2.1 s.2.2.2.2.2.1 s.2.2.2.2.2.2.1 s.2.2.2.2.2.2.2) (fun s => I s.1 s.2.1 s.2.2.1 s.2.2.2.1 s.2.2.2.2.1 s.2.2.2.2.2.1 s.2.2.2.2.2.2.1 s.2.2.2.2.2.2.2) (fun s => μ s.1 s.2.1 s.2.2.1 s.2.2.2.1 s.2.2.2.2.1 s.2.2.2.2.2.1 s.2.2.2.2.2.2.1 s.2.2.2.2.2.2.2) (fun n s hI hk => hs n s.1 s.2.1 s.2.2.1 s.2.2.2.1 s.2.2.2.2.1 s.2.2.2.2.2.1 s.2.2.2.2.2.2.1 s.2.2.2.2.2.2.2 hI (fun b1 b2 b3 b4 b5 b6 b7 b8 h9 hm => hk (b1, b2, b3, b4, b5, b6, b7, b8) h9 hm)) (a1, a2, a3, a4, a5, a6, a7, a8) h
theorem lp9 {A1 A2 A3 A4 A5 A6 A7 A8 A9 : Type} (W : Nat → A1 → A2 → A3 → A4 → A5 → A6 → A7 → A8 → A9 → Prop) (I : A1 → A2 → A3 → A4 → A5 → A6 → A7 → A8 → A9 → Prop) (μ : A1 → A2 → A3 → A4 → A5 → A6 → A7 → A8 → A9 → Nat) (hs : ∀ (n : Nat) (a1 : A1) (a2 : A2) (a3 : A3) (a4 : A4) (a5 : A5) (a6 : A6) (a7 : A7) (a8 : A8) (a9 : A9), I a1 a2 a3 a4 a5 a6 a7 a8 a9 → (∀ (b1 : A1) (b2 : A2) (b3 : A3) (b4 : A4) (b5 : A5) (b6 : A6) (b7 : A7) (b8 : A8) (b9 : A9), I b1 b2 b3 b4 b5 b6 b7 b8 b9 → μ b1 b2 b3 b4 b5 b6 b7 b8 b9 < μ a1 a2 a3 a4 a5 a6 a7 a8 a9 → W n b1 b2 b3 b4 b5 b6 b7 b8 b9) → W (n + 1) a1 a2 a3 a4 a5 a6 a7 a8 a9) (a1 : A1) (a2 : A2) (a3 : A3) (a4 : A4) (a5 : A5) (a6 : A6) (a7 : A7) (a8 : A8) (a9 : A9) (h : I a1 a2 a3 a4 a5 a6 a7 a8 a9) : ∃ n, W n a1 a2 a3 a4 a5 a6 a7 a8 a9 :=
  loop_m (σ := A1 × A2 × A3 × A4 × A5 × A6 × A7 × A8 × A9) (fun n s => W n s.1 s.2.1 s.2.2.1 s.2.2.2.1 s.2.2.2.2.1 s.2.2.2.2.2.1 s.2.2.2.2.2.2.1 s.2.2.2.2.2.2.2.1 s.2.2.2.2.2.2.2.2) (fun s => I s.1 s.2.1 s.2.2.1 s.2.2.2.1 s.2.2.2.2.1 s.2.2.2.2.2.1 s.2.2.2.2.2.2.1 s.2.2.2.2.2.2.2.1 s.2.2.2.2.2.2.2.2) (fun s => μ s.1 s.2.1 s.2.2.1 s.2.2.2.1 s.2.2.2.2.1 s.2.2.2.2.2.1 s.2.2.2.2.2.2.1 s.2.2.2.2.2.2.2.1 s.2.2.2.2.2.2.2.2) (fun n s hI hk => hs n s.1 s.2.1 s.2.2.1 s.2.2.2.1 s.2.2.2.2.1 s.2.2.2.2.2.1 s.2.2.2.2.2.2.1 s.2.2.2.2.2.2.2.1 s.2.2.2.2.2.2.2.2 hI (fun b1 b2 b3 b4 b5 b6 b7 b8 b9 h9 hm => hk (b1, b2, b3, b4, b5, b6, b7, b8, b9) h9 hm)) (a1, a2, a3, a4, a5, a6, a7, a8, a9) h
theorem lp10 {A1 A2 A3 A4 A5 A6 A7 A8 A9 A10 : Type} (W : Nat → A1 → A2 → A3 → A4 → A5 → A6 → A7 → A8 → A9 → A10 → Prop) (I : A1 → A2 → A3 → A4 → A5 → A6 → A7 → A8 → A9 → A10 → Prop) (μ : A1 → A2 → A3 → A4 → A5 → A6 → A7 → A8 → A9 → A10 → Nat) (hs : ∀ (n : Nat) (a1 : A1) (a2 : A2) (a3 : A3) (a4 : A4) (a5 : A5) (a6 : A6) (a7 : A7) (a8 : A8) (a9 : A9) (a10 : A10), I a1 a2 a3 a4 a5 a6 a7 a8 a9 a10 → (∀ (b1 : A1) (b2 : A2) (b3 : A3) (b4 : A4) (b5 : A5) (b6 : A6) (b7 : A7) (b8 : A8) (b9 : A9) (b10 : A10), I b1 b2 b3 b4 b5 b6 b7 b8 b9 b10 → μ b1 b2 b3 b4 b5 b6 b7 b8 b9 b10 < μ a1 a2 a3 a4 a5 a6 a7 a8 a9 a10 → W n b1 b2 b3 b4 b5 b6 b7 b8 b9 b10) → W (n + 1) a1 a2 a3 a4 a5 a6 a7 a8 a9 a10) (a1 : A1) (a2 : A2) (a3 : A3) (a4 : A4) (a5 : A5) (a6 : A6) (a7 : A7) (a8 : A8) (a9 : A9) (a10 : A10) (h : I a1 a2 a3 a4 a5 a6 a7 a8 a9 a10) : ∃ n, W n a1 a2 a3 a4 a5 a6 a7 a8 a9 a10 :=
  loop_m (σ := A1 × A2 × A3 × A4 × A5 × A6 × A7 × A8 × A9 × A10) (fun n s => W n s.1 s.2.1 s.2.2.1 s.2.2.2.1 s.2.2.2.2.1 s.2.2.2.2.2.1 s.2.2.2.2.2.2.1 s.2.2.2.2.2.2.2.1 s.2.2.2.2.2.2.2.2.1 s.2.2.2.2.2.2.2.2.2) (fun s => I s.1 s.2.1 s.2.2.1 s.2.2.2.1 s.2.2.2.2.1 s.2.2.2.2.2.1 s.2.2.2.2.2.2.1 s.2.2.2.2.2.2.2.1 s.2.2.2.2.2.2.2.2.1 s.2.2.2.2.2.2.2.2.2) (fun s => μ s.1 s.2.1 s.2.2.1 s.2.2.2.1 s.2.2.2.2.1 s.2.2.2.2.2.1 s.2.2.2.2.2.2.1 s.2.2.2.2.2.2.2.1 s.2.2.2.2.2.2.2.2.1 s.2.2.2.2.2.2.2.2.2) (fun n s hI hk => hs n s.1 s.2.1 s.2.2.1 s.2.2.2.1 s.2.2.2.2.1 s.2.2.2.2.2.1 s.2.2.2.2.2.2.1 s.2.2.2.2.2.2.2.1 s.2.2.2.2.2.2.2.2.1 s.2.2.2.2.2.2.2.2.2 hI (fun b1 b2 b3 b4 b5 b6 b7 b8 b9 b10 h9 hm => hk (b1, b2, b3, b4, b5, b6, b7, b8, b9, b10) h9 hm)) (a1, a2, a3, a4, a5, a6, a7, a8, a9, a10) h
theorem lp11 {A1 A2 A3 A4 A5 A6 A7 A8 A9 A10 A11 : Type} (W : Nat → A1 → A2 → A3 → A4 → A5 → A6 → A7 → A8 → A9 → A10 → A11 → Prop) (I : A1 → A2 → A3 → A4 → A5 → A6 → A7 → A8 → A9 → A10 → A11 → Prop) (μ : A1 → A2 → A3 → A4 → A5 → A6 → A7 → A8 → A9 → A10 → A11 → Nat) (hs : ∀ (n : Nat) (a1 : A1) (a2 : A2) (a3 : A3) (a4 : A4) (a5 : A5) (a6 : A6) (a7 : A7) (a8 : A8) (a9 : A9) (a10 : A10) (a11 : A11), I a1 a2 a3 a4 a5 a6 a7 a8 a9 a10 a11 → (∀ (b1 : A1) (b2 : A2) (b3 : A3) (b4 : A4) (b5 : A5) (b6 : A6) (b7 : A7) (b8 : A8) (b9 : A9) (b10 : A10) (b11 : A11), I b1 b2 b3 b4 b5 b6 b7 b8 b9 b10 b11 → μ b1 b2 b3 b4 b5 b6 b7 b8 b9 b10 b11 < μ a1 a2 a3 a4 a5 a6 a7 a8 a9 a10 a11 → W n b1 b2 b3 b4 b5 b6 b7 b8 b9 b10 b11) → W (n + 1) a1 a2 a3 a4 a5 a6 a7 a8 a9 a10 a11) (a1 : A1) (a2 : A2) (a3 : A3) (a4 : A4) (a5 : A5) (a6 : A6) (a7 : A7) (a8 : A8) (a9 : A9) (a10 : A10) (a11 : A11) (h : I a1 a2 a3 a4 a5 a6 a7 a8 a9 a10 a11) : ∃ n, W n a1 a2 a3 a4 a5 a6 a7 a8 a9 a10 a11 :=
  loop_m (σ := A1 × A2 × A3 × A4 × A5 × A6 × A7 × A8 × A9 × A10 × A11) (fun n s => W n s.1 s.2.1 s.2.2.1 s.2.2.2.1 s.2.2.2.2.1 s.2.2.2.2.2.1 s.2.2.2.2.2.2.1 s.2.2.2.2.2.2.2.1 s.2.2.2.2.2.2.2.2.1 s.2.2.2.2.2.2.2.2.2.1 s.2.2.2.2.2.2.2.2.2.2) (fun s => I s.1 s.2.1 s.2.2.1 s.2.2.2.1 s.2.2.2.2.1 s.2.2.2.2.2.1 s.2.2.2.2.2.2.1 s.2.2.2.2.2.2.2.1 s.2.2.2.2.2.2.2.2.1 s.2.2.2.2.2.2.2.2.2.1 s.2.2.2.2.2.2.2.2.2.2) (fun s => μ s.1 s.2.1 s.2.2.1 s.2.2.2.1 s.2.2.2.2.1 s.2.2.2.2.2.1 s.2.2.2.2.2.2.1 s.2.2.2.2.2.2.2.1 s.2.2.2.2.2.2.2.2.1 s.2.2.2.2.2.2.2.2.2.1 s.2.2.2.2.2.2.2.2.2.2) (fun n s hI hk => hs n s.1 s.2.1 s.2.2.1 s.2.2.2.1 s.2.2.2.2.1 s.2.2.2.2.2.1 s.2.2.2.2.2.2.1 s.2.2.2.2.2.2.2.1 s.2.2.2.2.2.2.2.2.1 s.2.2.2.2.2.2.2.2.2.1 s.2.2.2.2.2.2.2.2.2.2 hI (fun b1 b2 b3 b4 b5 b6 b7 b8 b9 b10 b11 h9 hm => hk (b1, b2, b3, b4, b5, b6, b7, b8, b9, b10, b11) h9 hm)) (a1, a2, a3, a4, a5, a6, a7, a8, a9, a10, a11) h
theorem lp12 {A1 A2 A3 A4 A5 A6 A7 A8 A9 A10 A11 A12 : Type} (W : Nat → A1 → A2 → A3 → A4 → A5 → A6 → A7 → A8 → A9 → A10 → A11 → A12 → Prop) (I : A1 → A2 → A3 → A4 → A5 → A6 → A7 → A8 → A9 → A10 → A11 → A12 → Prop) (μ : A1 → A2 → A3 → A4 → A5 → A6 → A7 → A8 → A9 → A10 → A11 → A12 → Nat) (hs : ∀ (n : Nat) (a1 : A1) (a2 : A2) (a3 : A3) (a4 : A4) (a5 : A5) (a6 : A6) (a7 : A7) (a8 : A8) (a9 : A9) (a10 : A10) (a11 : A11) (a12 : A12), I a1 a2 a3 a4 a5 a6 a7 a8 a9 a10 a11 a12 → (∀ (b1 : A1) (b2 : A2) (b3 : A3) (b4 : A4) (b5 : A5) (b6 : A6) (b7 : A7) (b8 : A8) (b9 : A9) (b10 : A10) (b11 : A11) (b12 : A12), I b1 b2 b3 b4 b5 b6 b7 b8 b9 b10 b11 b12 → μ b1 b2 b3 b4 b5 b6 b7 b8 b9 b10 b11 b12 < μ a1 a2 a3 a4 a5 a6 a7 a8 a9 a10 a11 a12 → W n b1 b2 b3 b4 b5 b6 b7 b8 b9 b10 b11 b12) → W (n + 1) a1 a2 a3 a4 a5 a6 a7 a8 a9 a10 a11 a12) (a1 : A1) (a2 : A2) (a3 : A3) (a4 : A4) (a5 : A5) (a6 : A6) (a7 : A7) (a8 : A8) (a9 : A9) (a10 : A10) (a11 : A11) (a12 : A12) (h : I a1 a2 a3 a4 a5 a6 a7 a8 a9 a10 a11 a12) : ∃ n, W n a1 a2 a3 a4 a5 a6 a7 a8 a9 a10 a11 a12 :=
  loop_m (σ := A1 × A2 × A3 × A4 × A5 × A6 × A7 × A8 × A9 × A10 × A11 × A12) (fun n s => W n s.1 s.2.1 s.2.2.1 s.2.2.2.1 s.2.2.2.2.1 s.2.2.2.2.2.1 s.2.2.2.2.2.2.1 s.2.2.2.2.2.2.2.1 s.2.2.2.2.2.2.2.2.1 s.2.2.2.2.2.2.2.2.2.1 s.2.2.2.2.2.2.2.2.2.2.1 s.2.2.2.2.2.2.2.2.2.2.2) (fun s => I s.1 s.2.1 s.2.2.1 s.2.2.2.1 s.2.2.2.2.1 s.2.2.2.2.2.1 s.2.2.2.2.2.2.1 s.2.2.2.2.2.2.2.1 s.2.2.2.2.2.2.2.2.1 s.2.2.2.2.2.2.2.2.2.1 s.2.2.2.2.2.2.2.2.2.2.1 s.2.2.2.2.2.2.2.2.2.2.2) (fun s => μ s.1 s.2.1 s.2.2.1 s.2.2.2.1 s.2.2.2.2.1 s.2.2.2.2.2.1 s.2.2.2.2.2.2.1 s.2.2.2.2.2.2.2.1 s.2.2.2.2.2.2.2.2.1 s.2.2.2.2.2.2.2.2.2.1 s.2.2.2.2.2.2.2.2.2.2.1 s.2.2.2.2.2.2.2.2.2.2.2) (fun n s hI hk => hs n s.1 s.2.1 s.2.2.1 s.2.2.2.1 s.2.2.2.2.1 s.2.2.2.2.2.1 s.2.2.2.2.2.2.1 s.2.2.2.2.2.2.2.1 s.2.2.2.2.2.2.2.2.1 s.2.2.2.2.2.2.2.2.2.1 s.2.2.2.2.2.2.2.2.2.2.1 s.2.2.2.2.2.2.2.2.2.2.2 hI (fun b1 b2 b3 b4 b5 b6 b7 b8 b9 b10 b11 b12 h9 hm => hk (b1, b2, b3, b4, b5, b6, b7, b8, b9, b10, b11, b12) h9 hm)) (a1, a2, a3, a4, a5, a6, a7, a8, a9, a10, a11, a12) h
theorem lp13 {A1 A2 A3 A4 A5 A6 A7 A8 A9 A10 A11 A12 A13 : Type} (W : Nat → A1 → A2 → A3 → A4 → A5 → A6 → A7 → A8 → A9 → A10 → A11 → A12 → A13 → Prop) (I : A1 → A2 → A3 → A4 → A5 → A6 → A7 → A8 → A9 → A10 → A11 → A12 → A13 → Prop) (μ : A1 → A2 → A3 → A4 → A5 → A6 → A7 → A8 → A9 → A10 → A11 → A12 → A13 → Nat) (hs : ∀ (n : Nat) (a1 : A1) (a2 : A2) (a3 : A3) (a4 : A4) (a5 : A5) (a6 : A6) (a7 : A7) (a8 : A8) (a9 : A9) (a10 : A10) (a11 : A11) (a12 : A12) (a13 : A13), I a1 a2 a3 a4 a5 a6 a7 a8 a9 a10 a11 a12 a13 → (∀ (b1 : A1) (b2 : A2) (b3 : A3) (b4 : A4) (b5 : A5) (b6 : A6) (b7 : A7) (b8 : A8) (b9 : A9) (b10 : A10) (b11 : A11) (b12 : A12) (b13 : A13), I b1 b2 b3 b4 b5 b6 b7 b8 b9 b10 b11 b12 b13 → μ b1 b2 b3 b4 b5 b6 b7 b8 b9 b10 b11 b12 b13 < μ a1 a2 a3 a4 a5 a6 a7 a8 a9 a10 a11 a12 a13 → W n b1 b2 b3 b4 b5 b6 b7 b8 b9 b10 b11 b12 b13) → W (n + 1) a1 a2 a3 a4 a5 a6 a7 a8 a9 a10 a11 a12 a13) (a1 : A1) (a2 : A2) (a3 : A3) (a4 : A4) (a5 : A5) (a6 : A6) (a7 : A7) (a8 : A8) (a9 : A9) (a10 : A10) (a11 : A11) (a12 : A12) (a13 : A13) (h : I a1 a2 a3 a4 a5 a6 a7 a8 a9 a10 a11 a12 a13) : ∃ n, W n a1 a2 a3 a4 a5 a6 a7 a8 a9 a10 a11 a12 a13 :=
  loop_m (σ := A1 × A2 × A3 × A4 × A5 × A6 × A7 × A8 × A9 × A10 × A11 × A12 × A13) (fun n s => W n s.1 s.2.1 s.2.2.1 s.2.2.2.1 s.2.2.2.2.1 s.2.2.2.2.2.1 s.2.2.2.2.2.2.1 s.2.2.2.2.2.2.2.1 s.2.2.2.2.2.2.2.2.1 s.2.2.2.2.2.2.2.2.2.1 s.2.2.2.2.2.2.2.2.2.2.1 s.2.2.2.2.2.2.2.2.2.2.2.1 s.2.2.2.2.2.2.2.2.2.2.2.2) (fun s => I s.1 s.2.1 s.2.2.1 s.2.2.2.1 s.2.2.2.2.1 s.2.2.2.2.2.1 s.2.2.2.2.2.2.1 s.2.2.2.2.2.2.2.1 s.2.2.2.2.2.2.2.2.1 s.2.2.2.2.2.2.2.2.2.1 s.2.2.2.2.2.2.2.2.2.2.1 s.2.2.2.2.2.2.2.2.2.2.2.1 s.2.2.2.2.2.2.2.2.2.2.2.2) (fun s => μ s.1 s.2.1 s.2.2.1 s.2.2.2.1 s.2.2.2.2.1 s.2.2.2.2.2.1 s.2.2.2.2.2.2.1 s.2.2.2.2.2.2.2.1 s.2.2.2.2.2.2.2.2.1 s.2.2.2.2.2.2.2.2.2.1 s.2.2.2.2.2.2.2.2.2.2.1 s.2.2.2.2.2.2.2.2.2.2.2.1 s.2.2.2.2.2.2.2.2.2.2.2.2) (fun n s hI hk => hs n s.1 s.2.1 s.2.2.1 s.2.2.2.1 s.2.2.2.2.1 s.2.2.2.2.2.1 s.2.2.2.2.2.2.1 s.2.2.2.2.2.2.2.1 s.2.2.2.2.2.2.2.2.1 s.2.2.2.2.2.2.2.2.2.1 s.2.2.2.2.2.2.2.2.2.2.1 s.2.2.2.2.2.2.2.2.2.2.2.1 s.2.2.2.2.2.2.2.2.2.2.2.2 hI (fun b1 b2 b3 b4 b5 b6 b7 b8 b9 b10 b11 b12 b13 h9 hm => hk (b1, b2, b3, b4, b5, b6, b7, b8, b9, b10, b11, b12, b13) h9 hm)) (a1, a2, a3, a4, a5, a6, a7, a8, a9, a10, a11, a12, a13) h
theorem lp14 {A1 A2 A3 A4 A5 A6 A7 A8 A9 A10 A11 A12 A13 A14 : Type} (W : Nat → A1 → A2 → A3 → A4 → A5 → A6 → A7 → A8 → A9 → A10 → A11 → A12 → A13 → A14 → Prop) (I : A1 → A2 → A3 → A4 → A5 → A6 → A7 → A8 → A9 → A10 → A11 → A12 → A13 → A14 → Prop) (μ : A1 → A2 → A3 → A4 → A5 → A6 → A7 → A8 → A9 → A10 → A11 → A12 → A13 → A14 → Nat) (hs : ∀ (n : Nat) (a1 : A1) (a2 : A2) (a3 : A3) (a4 : A4) (a5 : A5) (a6 : A6) (a7 : A7) (a8 : A8) (a9 : A9) (a10 : A10) (a11 : A11) (a12 : A12) (a13 : A13) (a14 : A14), I a1 a2 a3 a4 a5 a6 a7 a8 a9 a10 a11 a12 a13 a14 → (∀ (b1 : A1) (b2 : A2) (b3 : A3) (b4 : A4) (b5 : A5) (b6 : A6) (b7 : A7) (b8 : A8) (b9 : A9) (b10 : A10) (b11 : A11) (b12 : A12) (b13 : A13) (b14 : A14), I b1 b2 b3 b4 b5 b6 b7 b8 b9 b10 b11 b12 b13 b14 → μ b1 b2 b3 b4 b5 b6 b7 b8 b9 b10 b11 b12 b13 b14 < μ a1 a2 a3 a4 a5 a6 a7 a8 a9 a10 a11 a12 a13 a14 → W n b1 b2 b3 b4 b5 b6 b7 b8 b9 b10 b11 b12 b13 b14) → W (n + 1) a1 a2 a3 a4 a5 a6 a7 a8 a9 a10 a11 a12 a13 a14) (a1 : A1) (a2 : A2) (a3 : A3) (a4 : A4) (a5 : A5) (a6 : A6) (a7 : A7) (a8 : A8) (a9 : A9) (a10 : A10) (a11 : A11) (a12 : A12) (a13 : A13) (a14 : A14) (h : I a1 a2 a3 a4 a5 a6 a7 a8 a9 a10 a11 a12 a13 a14) : ∃ n, W n a1 a2 a3 a4 a5 a6 a7 a8 a9 a10 a11 a12 a13 a14 :=
  loop_m (σ := A1 × A2 × A3 × A4 × A5 × A6 × A7 × A8 × A9 × A10 × A11 × A12 × A13 × A14) (fun n s => W n s.1 s.2.1 s.2.2.1 s.2.2.2.1 s.2.2.2.2.1 s.2.2.2.2.2.1 s.2.2.2.2.2.2.1 s.2.2.2.2.2.2.2.1 s.2.2.2.2.2.2.2.2.1 s.2.2.2.2.2.2.2.2.2.1 s.2.2.2.2.2.2.2.2.2.2.1 s.2.2.2.2.2.2.2.2.2.2.2.1 s.2.2.2.2.2.2.2.2.2.2.2.2.1 s.2.2.2.2.2.2.2.2.2.2.2.2.2) (fun s => I s.1 s.2.1 s.2.2.1 s.2.2.2.1 s.2.2.2.2.1 s.2.2.2.2.2.1 s.2.2.2.2.2.2.1 s.2.2.2.2.2.2.2.1 s.2.2.2.2.2.2.2.2.1 s.2.2.2.2.2.2.2.2.2.1 s.2.2.2.2.2.2.2.2.2.2.1 s.2.2.2.2.2.2.2.2.2.2.2.1 s.2.2.2.2.2.2.2.2.2.2.2.2.1 s.2.2.2.2.2.2.2.2.2.2.2.2.2) (fun s => μ s.1 s.2.1 s.2.2.1 s.2.2.2.1 s.2.2.2.2.1 s.2.2.2.2.2.1 s.2.2.2.2.2.2.1 s.2.2.2.2.2.2.2.1 s.2.2.2.2.2.2.2.2.1 s.2.2.2.2.2.2.2.2.2.1 s.2.2.2.2.2.2.2.2.2.2.1 s.2.2.2.2.2.2.2.2.2.2.2.1 s.2.2.2.2.2.2.2.2.2.2.2.2.1 s.2.2.2.2.2.2.2.2.2.2.2.2.2) (fun n s hI hk => hs n s.1 s.2.1 s.2.2.1 s.2.2.2.1 s.2.2.2.2.1 s.2.2.2.2.2.1 s.2.2.2.2.2.2.1 s.2.2.2.2.2.2.2.1 s.2.2.2.2.2.2.2.2.1 s.2.2.2.2.2.2.2.2.2.1 s.2.2.2.2.2.2.2.2.2.2.1 s.2.2.2.2.2.2.2.2.2.2.2.1 s.2.2.2.2.2.2.2.2.2.2.2.2.1 s.2.2.2.2.2.2.2.2.2.2.2.2.2 hI (fun b1 b2 b3 b4 b5 b6 b7 b8 b9 b10 b11 b12 b13 b14 h9 hm => hk (b1, b2, b3, b4, b5, b6, b7, b8, b9, b10, b11, b12, b13, b14) h9 hm)) (a1, a2, a3, a4, a5, a6, a7, a8, a9, a10, a11, a12, a13, a14) h
theorem lp15 {A1 A2 A3 A4 A5 A6 A7 A8 A9 A10 A11 A12 A13 A14 A15 : Type} (W : Nat → A1 → A2 → A3 → A4 → A5 → A6 → A7 → A8 → A9 → A10 → A11 → A12 → A13 → A14 → A15 → Prop) (I : A1 → A2 → A3 → A4 → A5 → A6 → A7 → A8 → A9 → A10 → A11 → A12 → A13 → A14 → A15 → Prop) (μ : A1 → A2 → A3 → A4 → A5 → A6 → A7 → A8 → A9 → A10 → A11 → A12 → A13 → A14 → A15 → Nat) (hs : ∀ (n : Nat) (a1 : A1) (a2 : A2) (a3 : A3) (a4 : A4) (a5 : A5) (a6 : A6) (a7 : A7) (a8 : A8) (a9 : A9) (a10 : A10) (a11 : A11) (a12 : A12) (a13 : A13) (a14 : A14) (a15 : A15), I a1 a2 a3 a4 a5 a6 a7 a8 a9 a10 a11 a12 a13 a14 a15 → (∀ (b1 : A1) (b2 : A2) (b3 : A3) (b4 : A4) (b5 : A5) (b6 : A6) (b7 : A7) (b8 : A8) (b9 : A9) (b10 : A10) (b11 : A11) (b12 : A12) (b13 : A13) (b14 : A14) (b15 : A15), I b1 b2 b3 b4 b5 b6 b7 b8 b9 b10 b11 b12 b13 b14 b15 → μ b1 b2 b3 b4 b5 b6 b7 b8 b9 b10 b11 b12 b13 b14 b15 < μ a1 a2 a3 a4 a5 a6 a7 a8 a9 a10 a11 a12 a13 a14 a15 → W n b1 b2 b3 b4 b5 b6 b7 b8 b9 b10 b11 b12 b13 b14 b15) → W (n + 1) a1 a2 a3 a4 a5 a6 a7 a8 a9 a10 a11 a12 a13 a14 a15) (a1 : A1) (a2 : A2) (a3 : A3) (a4 : A4) (a5 : A5) (a6 : A6) (a7 : A7) (a8 : A8) (a9 : A9) (a10 : A10) (a11 : A11) (a12 : A12) (a13 : A13) (a14 : A14) (a15 : A15) (h : I a1 a2 a3 a4 a5 a6 a7 a8 a9 a10 a11 a12 a13 a14 a15) : ∃ n, W n a1 a2 a3 a4 a5 a6 a7 a8 a9 a10 a11 a12 a13 a14 a15 :=
  loop_m (σ := A1 × A2 × A3 × A4 × A5 × A6 × A7 × A8 × A9 × A10 × A11 × A12 × A13 × A14 × A15) (fun n s => W n s.1 s.2.1 s.2.2.1 s.2.2.2.1 s.2.2.2.2.1 s.2.2.2.2.2.1 s.2.2.2.2.2.2.1 s.2.2.2.2.2.2.2.1 s.2.2.2.2.2.2.2.2.1 s.2.2.2.2.2.2.2.2.2.1 s.2.2.2.2.2.2.2.2.2.2.1 s.2.2.2.2.2.2.2.2.2.2.2.1 s.2.2.2.2.2.2.2.2.2.2.2.2.1 s.2.2.2.2.2.2.2.2.2.2.2.2.2.1 s.2.2.2.2.2.2.2.2.2.2.2.2.2.2) (fun s => I s.1 s.2.1 s.2.2.1 s.2.2.2.1 s.2.2.2.2.1 s.2.2.2.2.2.1 s.2.2.2.2.2.2.1 s.2.2.2.2.2.2.2.1 s.2.2.2.2.2.2.2.2.1 s.2.2.2.2.2.2.2.2.2.1 s.2.2.2.2.2.2.2.2.2.2.1 s.2.2.2.2.2.2.2.2.2.2.2.1 s.2.2.2.2.2.2.2.2.2.2.2.2.1 s.2.2.2.2.2.2.2.2.2.2.2.2.2.1 s.2.2.2.2.2.2.2.2.2.2.2.2.2.2) (fun s => μ s.1 s.2.1 s.2.2.1 s.2.2.2.1 s.2.2.2.2.1 s.2.2.2.2.2.1 s.2.2.2.2.2.2.1 s.2.2.2.2.2.2.2.1 s.2.2.2.2.2.2.2.2.1 s.2.2.2.2.2.2.2.2.2.1 s.2.2.2.2.2.2.2.2.2.2.1 s.2.2.2.2.2.2.2.2.2.2.2.1 s.2.2.2.2.2.2.2.2.2.2.2.2.1 s.2.2.2.2.2.2.2.2.2.2.2.2.2.1 s.2.2.2.2.2.2.2.2.2.2.2.2.2.2) (fun n s hI hk => hs n s.1 s.2.1 s.2.2.1 s.2.2.2.1 s.2.2.2.2.1 s.2.2.2.2.2.1 s.2.2.2.2.2.2.1 s.2.2.2.2.2.2.2.1 s.2.2.2.2.2.2.2.2.1 s.2.2.2.2.2.2.2.2.2.1 s.2.2.2.2.2.2.2.2.2.2.1 s.2.2.2.2.2.2.2.2.2.2.2.1 s.2.2.2.2.2.2.2.2.2.2.2.2.1 s.2.2.2.2.2.2.2.2.2.2.2.2.2.1 s.2.2.2.2.2.2.2.2.2.2.2.2.2.2 hI (fun b1 b2 b3 b4 b5 b6 b7 b8 b9 b10 b11 b12 b13 b14 b15 h9 hm => hk (b1, b2, b3, b4, b5, b6, b7, b8, b9, b10, b11, b12, b13, b14, b15) h9 hm)) (a1, a2, a3, a4, a5, a6, a7, a8, a9, a10, a11, a12, a13, a14, a15) h
theorem lp16 {A1 A2 A3 A4 A5 A6 A7 A8 A9 A10 A11 A12 A13 A14 A15 A16 : Type} (W : Nat → A1 → A2 → A3 → A4 → A5 → A6 → A7 → A8 → A9 → A10 → A11 → A12 → A13 → A14 → A15 → A16 → Prop) (I : A1 → A2 → A3 → A4 → A5 → A6 → A7 → A8 → A9 → A10 → A11 → A12 → A13 → A14 → A15 → A16 → Prop) (μ : A1 → A2 → A3 → A4 → A5 → A6 → A7 → A8 → A9 → A10 → A11 → A12 → A13 → A14 → A15 → A16 → Nat) (hs : ∀ (n : Nat) (a1 : A1) (a2 : A2) (a3 : A3) (a4 : A4) (a5 : A5) (a6 : A6) (a7 : A7) (a8 : A8) (a9 : A9) (a10 : A10) (a11 : A11) (a12 : A12) (a13 : A13) (a14 : A14) (a15 : A15) (a16 : A16), I a1 a2 a3 a4 a5 a6 a7 a8 a9 a10 a11 a12 a13 a14 a15 a16 → (∀ (b1 : A1) (b2 : A2) (b3 : A3) (b4 : A4) (b5 : A5) (b6 : A6) (b7 : A7) (b8 : A8) (b9 : A9) (b10 : A10) (b11 : A11) (b12 : A12) (b13 : A13) (b14 : A14) (b15 : A15) (b16 : A16), I b1 b2 b3 b4 b5 b6 b7 b8 b9 b10 b11 b12 b13 b14 b15 b16 → μ b1 b2 b3 b4 b5 b6 b7 b8 b9 b10 b11 b12 b13 b14 b15 b16 < μ a1 a2 a3 a4 a5 a6 a7 a8 a9 a10 a11 a12 a13 a14 a15 a16 → W n b1 b2 b3 b4 b5 b6 b7 b8 b9 b10 b11 b12 b13 b14 b15 b16) → W (n + 1) a1 a2 a3 a4 a5 a6 a7 a8 a9 a10 a11 a12 a13 a14 a15 a16) (a1 : A1) (a2 : A2) (a3 : A3) (a4 : A4) (a5 : A5) (a6 : A6) (a7 : A7) (a8 : A8) (a9 : A9) (a10 : A10) (a11 : A11) (a12 : A12) (a13 : A13) (a14 : A14) (a15 : A15) (a16 : A16) (h : I a1 a2 a3 a4 a5 a6 a7 a8 a9 a10 a11 a12 a13 a14 a15 a16) : ∃ n, W n a1 a2 a3 a4 a5 a6 a7 a8 a9 a10 a11 a12 a13 a14 a15 a16 :=
  loop_m (σ := A1 × A2 × A3 × A4 × A5 × A6 × A7 × A8 × A9 × A10 × A11 × A12 × A13 × A14 × A15 × A16) (fun n s => W n s.1 s.2.1 s.2.2.1 s.2.2.2.1 s.2.2.2.2.1 s.2.2.2.2.2.1 s.2.2.2.2.2.2.1 s.2.2.2.2.2.2.2.1 s.2.2.2.2.2.2.2.2.1 s.2.2.2.2.2.2.2.2.2.1 s.2.2.2.2.2.2.2.2.2.2.1 s.2.2.2.2.2.2.2.2.2.2.2.1 s.2.2.2.2.2.2.2.2.2.2.2.2.1 s.2.2.2.2.2.2.2.2.2.2.2.2.2.1 s.2.2.2.2.2.2.2.2.2.2.2.2.2.2.1 s.2.2.2.2.2.2.2.2.2.2.2.2.2.2.2) (fun s => I s.1 s.2.1 s.2.2.1 s.2.2.2.1 s.2.2.2.2.1 s.2.2.2.2.2.1 s.2.2.2.2.2.2.1 s.2.2.2.2.2.2.2.1 s.2.2.2.2.2.2.2.2.1 s.2.2.2.2.2.2.2.2.2.1 s.2.2.2.2.2.2.2.2.2.2.1 s.2.2.2.2.2.2.2.2.2.2.2.1 s.2.2.2.2.2.2.2.2.2.2.2.2.1 s.2.2.2.2.2.2.2.2.2.2.2.2.2.1 s.2.2.2.2.2.2.2.2.2.2.2.2.2.2.1 s.2.2.2.2.2.2.2.2.2.2.2.2.2.2.2) (fun s => μ s.1 s.2.1 s.2.2.1 s.2.2.2.1 s.2.2.2.2.1 s.2.2.2.2.2.1 s.2.2.2.2.2.2.1 s.2.2.2.2.2.2.2.1 s.2.2.2.2.2.2.2.2.1 s.2.2.2.2.2.2.2.2.2.1 s.2.2.2.2.2.2.2.2.2.2.1 s.2.2.2.2.2.2.2.2.2.2.2.1 s.2.2.2.2.2.2.2.2.2.2.2.2.1 s.2.2.2.2.2.2.2.2.2.2.2.2.2.1 s.2.2.2.2.2.2.2.2.2.2.2.2.2.2.1 s.2.2.2.2.2.2.2.2.2.2.2.2.2.2.2) (fun n s hI hk => hs n s.1 s.2.1 s.2.2.1 s.2.2.2.1 s.2.2.2.2.1 s.2.2.2.2.2.1 s.2.2.2.2.2.2.1 s.2.2.2.2.2.2.2.1 s.2.2.2.2.2.2.2.2.1 s.2.2.2.2.2.2.2.2.2.1 s.2.2.2.2.2.2.2.2.2.2.1 s.2.2.2.2.2.2.2.2.2.2.2.1 s.2.2.2.2.2.2.2.2.2.2.2.2.1 s.2.2.2.2.2.2.2.2.2.2.2.2.2.1 s.2.2.2.2.2.2.2.2.2.2.2.2.2.2.1 s.2.2.2.2.2.2.2.2.2.2.2.2.2.2.2 hI (fun b1 b2 b3 b4 b5 b6 b7 b8 b9 b10 b11 b12 b13 b14 b15 b16 h9 hm => hk (b1, b2, b3, b4, b5, b6, b7, b8, b9, b10, b11, b12, b13, b14, b15, b16) h9 hm)) (a1, a2, a3, a4, a5, a6, a7, a8, a9, a10, a11, a12, a13, a14, a15, a16) h
theorem pk_least (P : Nat → Prop) (h : ∃ k, P k) : ∃ k, P k ∧ ∀ j, j < k → ¬ P j := by
  obtain ⟨k, hk⟩ := h
  induction k using Nat.strongRecOn with
  | ind k ih =>
    by_cases e : ∃ j, j < k ∧ P j
    · obtain ⟨j, hj, pj⟩ := e
      exact ih j hj pj
    · exact ⟨k, hk, fun j hj pj => e ⟨j, hj, pj⟩⟩
theorem rp1 {ρ A1 : Type} (W : Nat → (ρ → Prop) → A1 → Prop) (ok : A1 → Prop) (μ : A1 → Nat) (val : A1 → ρ)
    (hs : ∀ (d : Nat) (post : ρ → Prop) (a1 : A1), ok a1 → post (val a1) → (∀ (post' : ρ → Prop) (b1 : A1), ok b1 → μ b1 < μ a1 → post' (val b1) → W d post' b1) → W (d + 1) post a1) :
    ∀ (d : Nat) (post : ρ → Prop) (a1 : A1), ok a1 → μ a1 < d → post (val a1) → W d post a1 := by
  intro d
  induction d with
  | zero => intro post a1 _ h; omega
  | succ d ih =>
    intro post a1 ho hm hp
    exact hs d post a1 ho hp (fun post' b1 ho' hm' hp' => ih post' b1 ho' (by omega) hp')
theorem rp2 {ρ A1 A2 : Type} (W : Nat → (ρ → Prop) → A1 → A2 → Prop) (ok : A1 → A2 → Prop) (μ : A1 → A2 → Nat) (val : A1 → A2 → ρ)
    (hs : ∀ (d : Nat) (post : ρ → Prop) (a1 : A1) (a2 : A2), ok a1 a2 → post (val a1 a2) → (∀ (post' : ρ → Prop) (b1 : A1) (b2 : A2), ok b1 b2 → μ b1 b2 < μ a1 a2 → post' (val b1 b2) → W d post' b1 b2) → W (d + 1) post a1 a2) :
    ∀ (d : Nat) (post : ρ → Prop) (a1 : A1) (a2 : A2), ok a1 a2 → μ a1 a2 < d → post (val a1 a2) → W d post a1 a2 := by
  intro d
  induction d with
  | zero => intro post a1 a2 _ h; omega
  | succ d ih =>
    intro post a1 a2 ho hm hp
    exact hs d post a1 a2 ho hp (fun post' b1 b2 ho' hm' hp' => ih post' b1 b2 ho' (by omega) hp')
theorem rp3 {ρ A1 A2 A3 : Type} (W : Nat → (ρ → Prop) → A1 → A2 → A3 → Prop) (ok : A1 → A2 → A3 → Prop) (μ : A1 → A2 → A3 → Nat) (val : A1 → A2 → A3 → ρ)
    (hs : ∀ (d : Nat) (post : ρ → Prop) (a1 : A1) (a2 : A2) (a3 : A3), ok a1 a2 a3 → post (val a1 a2 a3) → (∀ (post' : ρ → Prop) (b1 : A1) (b2 : A2) (b3 : A3), ok b1 b2 b3 → μ b1 b2 b3 < μ a1 a2 a3 → post' (val b1 b2 b3) → W d post' b1 b2 b3) → W (d + 1) post a1 a2 a3) :
    ∀ (d : Nat) (post : ρ → Prop) (a1 : A1) (a2 : A2) (a3 : A3), ok a1 a2 a3 → μ a1 a2 a3 < d → post (val a1 a2 a3) → W d post a1 a2 a3 := by
  intro d
  induction d with
  | zero => intro post a1 a2 a3 _ h; omega
  | succ d ih =>
    intro post a1 a2 a3 ho hm hp
    exact hs d post a1 a2 a3 ho hp (fun post' b1 b2 b3 ho' hm' hp' => ih post' b1 b2 b3 ho' (by omega) hp')
theorem rp4 {ρ A1 A2 A3 A4 : Type} (W : Nat → (ρ → Prop) → A1 → A2 → A3 → A4 → Prop) (ok : A1 → A2 → A3 → A4 → Prop) (μ : A1 → A2 → A3 → A4 → Nat) (val : A1 → A2 → A3 → A4 → ρ)
    (hs : ∀ (d : Nat) (post : ρ → Prop) (a1 : A1) (a2 : A2) (a3 : A3) (a4 : A4), ok a1 a2 a3 a4 → post (val a1 a2 a3 a4) → (∀ (post' : ρ → Prop) (b1 : A1) (b2 : A2) (b3 : A3) (b4 : A4), ok b1 b2 b3 b4 → μ b1 b2 b3 b4 < μ a1 a2 a3 a4 → post' (val b1 b2 b3 b4) → W d post' b1 b2 b3 b4) → W (d + 1) post a1 a2 a3 a4) :
    ∀ (d : Nat) (post : ρ → Prop) (a1 : A1) (a2 : A2) (a3 : A3) (a4 : A4), ok a1 a2 a3 a4 → μ a1 a2 a3 a4 < d → post (val a1 a2 a3 a4) → W d post a1 a2 a3 a4 := by
  intro d
  induction d with
  | zero => intro post a1 a2 a3 a4 _ h; omega
  | succ d ih =>
    intro post a1 a2 a3 a4 ho hm hp
    exact hs d post a1 a2 a3 a4 ho hp (fun post' b1 b2 b3 b4 ho' hm' hp' => ih post' b1 b2 b3 b4 ho' (by omega) hp')
theorem rp5 {ρ A1 A2 A3 A4 A5 : Type} (W : Nat → (ρ → Prop) → A1 → A2 → A3 → A4 → A5 → Prop) (ok : A1 → A2 → A3 → A4 → A5 → Prop) (μ : A1 → A2 → A3 → A4 → A5 → Nat) (val : A1 → A2 → A3 → A4 → A5 → ρ)
    (hs : ∀ (d : Nat) (post : ρ → Prop) (a1 : A1) (a2 : A2) (a3 : A3) (a4 : A4) (a5 : A5), ok a1 a2 a3 a4 a5 → post (val a1 a2 a3 a4 a5) → (∀ (post' : ρ → Prop) (b1 : A1) (b2 : A2) (b3 : A3) (b4 : A4) (b5 : A5), ok b1 b2 b3 b4 b5 → μ b1 b2 b3 b4 b5 < μ a1 a2 a3 a4 a5 → post' (val b1 b2 b3 b4 b5) → W d post' b1 b2 b3 b4 b5) → W (d + 1) post a1 a2 a3 a4 a5) :
    ∀ (d : Nat) (post : ρ → Prop) (a1 : A1) (a2 : A2) (a3 : A3) (a4 : A4) (a5 : A5), ok a1 a2 a3 a4 a5 → μ a1 a2 a3 a4 a5 < d → post (val a1 a2 a3 a4 a5) → W d post a1 a2 a3 a4 a5 := by
  intro d
  induction d with
  | zero => intro post a1 a2 a3 a4 a5 _ h; omega
  | succ d ih =>
    intro post a1 a2 a3 a4 a5 ho hm hp
    exact hs d post a1 a2 a3 a4 a5 ho hp (fun post' b1 b2 b3 b4 b5 ho' hm' hp' => ih post' b1 b2 b3 b4 b5 ho' (by omega) hp')
theorem rp6 {ρ A1 A2 A3 A4 A5 A6 : Type} (W : Nat → (ρ → Prop) → A1 → A2 → A3 → A4 → A5 → A6 → Prop) (ok : A1 → A2 → A3 → A4 → A5 → A6 → Prop) (μ : A1 → A2 → A3 → A4 → A5 → A6 → Nat) (val : A1 → A2 → A3 → A4 → A5 → A6 → ρ)
    (hs : ∀ (d : Nat) (post : ρ → Prop) (a1 : A1) (a2 : A2) (a3 : A3) (a4 : A4) (a5 : A5) (a6 : A6), ok a1 a2 a3 a4 a5 a6 → post (val a1 a2 a3 a4 a5 a6) → (∀ (post' : ρ → Prop) (b1 : A1) (b2 : A2) (b3 : A3) (b4 : A4) (b5 : A5) (b6 : A6), ok b1 b2 b3 b4 b5 b6 → μ b1 b2 b3 b4 b5 b6 < μ a1 a2 a3 a4 a5 a6 → post' (val b1 b2 b3 b4 b5 b6) → W d post' b1 b2 b3 b4 b5 b6) → W (d + 1) post a1 a2 a3 a4 a5 a6) :
    ∀ (d : Nat) (post : ρ → Prop) (a1 : A1) (a2 : A2) (a3 : A3) (a4 : A4) (a5 : A5) (a6 : A6), ok a1 a2 a3 a4 a5 a6 → μ a1 a2 a3 a4 a5 a6 < d → post (val a1 a2 a3 a4 a5 a6) → W d post a1 a2 a3 a4 a5 a6 := by
  intro d
  induction d with
  | zero => intro post a1 a2 a3 a4 a5 a6 _ h; omega
  | succ d ih =>
    intro post a1 a2 a3 a4 a5 a6 ho hm hp
    exact hs d post a1 a2 a3 a4 a5 a6 ho hp (fun post' b1 b2 b3 b4 b5 b6 ho' hm' hp' => ih post' b1 b2 b3 b4 b5 b6 ho' (by omega) hp')
theorem rec_p {σ ρ : Type} (W : Nat → (ρ → Prop) → σ → Prop) (ok : σ → Prop) (μ : σ → Nat) (val : σ → ρ)
    (hs : ∀ d s post, ok s → post (val s) → (∀ s' post', ok s' → μ s' < μ s → post' (val s') → W d post' s') → W (d + 1) post s) :
    ∀ d s post, ok s → μ s < d → post (val s) → W d post s := by
  intro d
  induction d with
  | zero => intro s post _ h; omega
  | succ d ih =>
    intro s post ho hm hp
    exact hs d s post ho hp (fun s' post' ho' hm' hp' => ih s' post' ho' (by omega) hp')
theorem rec_q {σ ρ : Type} (W : Nat → (ρ → Prop) → σ → Prop) (ok : σ → Prop) (μ : σ → Nat) (Q : σ → ρ → Prop)
    (hs : ∀ d s post, ok s → (∀ r, Q s r → post r) → (∀ s' post', ok s' → μ s' < μ s → (∀ r, Q s' r → post' r) → W d post' s') → W (d + 1) post s) :
    ∀ d s post, ok s → μ s < d → (∀ r, Q s r → post r) → W d post s := by
  intro d
  induction d with
  | zero => intro s post _ h; omega
  | succ d ih =>
    intro s post ho hm hp
    exact hs d s post ho hp (fun s' post' ho' hm' hp' => ih s' post' ho' (by omega) hp')
def bx_sum (f : Nat → Int32) : Nat → Int32
  | 0 => 0
  | n + 1 => bx_sum f n + f n
theorem ek_u {A : Prop} {B : Nat → Prop} {k N : Nat} (hk : k < N) (h : B k) : (some k = none → A) ∧ (∀ y : Nat, some k = some y → (y < N ∧ B y)) :=
  ⟨fun z => absurd z (Option.some_ne_none k), fun _ e => (by cases e; exact ⟨hk, h⟩)⟩
theorem ek_nu {A : Prop} {B : Nat → Prop} (h : A) : ((none : Option Nat) = none → A) ∧ (∀ y : Nat, (none : Option Nat) = some y → B y) :=
  ⟨fun _ => h, fun _ e => (by cases e)⟩
theorem ek_if {c d A B : Prop} (e : c ↔ d) (f : d → A) (g : ¬ d → B) : (c → A) ∧ (¬ c → B) :=
  ⟨fun z => f (e.mp z), fun z => g (fun y => z (e.mpr y))⟩
theorem ek_v {α : Sort _} {P : α → Prop} {a b : α} (e : a = b) (h : P b) : P a := e ▸ h
theorem co_some {x : Option Nat} {A : Prop} {B : Nat → Prop} (i : Nat) (h : B i) (hx : x = some i := by rfl) : (x = none → A) ∧ (∀ y : Nat, x = some y → B y) := by
  subst hx
  exact ⟨fun e => (nomatch e), fun y e => Option.some.inj e ▸ h⟩
theorem co_none {x : Option Nat} {A : Prop} {B : Nat → Prop} (h : A) (hx : x = none := by rfl) : (x = none → A) ∧ (∀ y : Nat, x = some y → B y) := by
  subst hx
  exact ⟨fun _ => h, fun y e => (nomatch e)⟩
theorem co_any {x : Option Nat} {A : Prop} {B : Nat → Prop} (hn : x = none → A) (hs : ∀ i : Nat, x = some i → B i) : (x = none → A) ∧ (∀ y : Nat, x = some y → B y) := ⟨hn, hs⟩
theorem co_2 {P : Nat → Prop} (h0 : P 0) (h1 : P 1) {i : Nat} (hi : i < 2) : P i :=
  match i, hi with
  | 0, _ => h0
  | 1, _ => h1
theorem co_3 {P : Nat → Prop} (h0 : P 0) (h1 : P 1) (h2 : P 2) {i : Nat} (hi : i < 3) : P i :=
  match i, hi with
  | 0, _ => h0
  | 1, _ => h1
  | 2, _ => h2
theorem co_4 {P : Nat → Prop} (h0 : P 0) (h1 : P 1) (h2 : P 2) (h3 : P 3) {i : Nat} (hi : i < 4) : P i :=
  match i, hi with
  | 0, _ => h0
  | 1, _ => h1
  | 2, _ => h2
  | 3, _ => h3
theorem co_dec {N : Nat} {P : Nat → Prop} [DecidablePred P] (h : (List.range N).all (fun i => decide (P i)) = true) {i : Nat} (hi : i < N) : P i := by
  have := List.all_eq_true.mp h i (List.mem_range.mpr hi)
  exact of_decide_eq_true this
theorem co_tab {α : Type} {l : List α} {d : α} {P : α → Prop} (h : ∀ a, a ∈ l → P a) {i : Nat} (hi : i < l.length) : P (l.getD i d) := by
  rw [List.getD_eq_getElem?_getD, List.getElem?_eq_getElem hi]
  exact h _ (List.getElem_mem hi)
theorem pk_mu {x : Int32} {L : Nat} (h0 : ¬ x < 0) (h : ¬ nI L ≤ x) (hL : L < 2 ^ 31) : ∃ j : Nat, j < L ∧ x = nI j ∧ x + 1 = nI (j + 1) ∧ x.toNatClampNeg = j ∧ L - (x + 1).toNatClampNeg < L - x.toNatClampNeg := by
  obtain ⟨j, hj, rfl⟩ := nI_of h0
  have hl : j < L := Nat.not_le.mp fun q => h (nI_le q hj)
  refine ⟨j, hl, rfl, nI_1 j, nI_clamp hj, ?_⟩
  rw [nI_1, nI_clamp (by omega), nI_clamp hj]
  omega
theorem op_s {α : Type} {r : Option α} {A : Prop} {B : α → Prop} {y : α} (h : r = some y) (b : B y) : (r = none → A) ∧ ∀ z, r = some z → B z :=
  ⟨fun e => (by rw [h] at e; cases e), fun z e => (by rw [h] at e; cases e; exact b)⟩
def l_holds {α : Type} (a : Nat → Option Nat) (LP : List Nat) (p : Nat → α) (c : Nat) (b : Nat → α) : Prop :=
  ∀ j, j < c → ∃ y, a j = some y ∧ y ∈ LP ∧ p y = b j
theorem l_holds_0 {α : Type} {a : Nat → Option Nat} {LP : List Nat} {p b : Nat → α} : l_holds a LP p 0 b := fun j h => absurd h (Nat.not_lt_zero j)
theorem l_in_new (LP : List Nat) (q : Nat) : q ∈ LP ++ [q] := List.mem_append.mpr (Or.inr (List.mem_singleton.mpr rfl))
def l_sum (b : Nat → Int32) : Nat → Int32
  | 0 => 0
  | k + 1 => l_sum b k + b k
theorem sb_shr0 (x : Int32) : x >>> ((0 : Int32) &&& 31) = x := by
  rw [show ((0 : Int32) &&& 31) = 0 by decide]
  simp
theorem sb_shl0 (x : Int32) : x <<< ((0 : Int32) &&& 31) = x := by
  rw [show ((0 : Int32) &&& 31) = 0 by decide]
  simp
theorem sb_cl0 : (0 : Int32).toNatClampNeg = 0 := by decide
theorem sb_m1 {p : Nat} (h : 0 < p) : nI p + (-1) = nI (p - 1) := by
  obtain ⟨q, rfl⟩ : ∃ q, p = q + 1 := ⟨p - 1, by omega⟩
  exact pk_m1 q
def sb_b (c : Nat) : Int32 := (nI c).toInt8.toInt32
theorem sb_byte : ∀ c, c < 256 → sb_b c &&& 255 = nI c ∧ ((nI c).toUInt32 % 65536).toInt32 = nI c ∧ nI c ≤ 255 := by decide +kernel
def sb_Fit (a : Nat → Int32) : Prop := ∀ j, fits .byte (.int (a j)) = true
def sb_Lat (t : Nat → Nat) (n : Nat) (a : Nat → Int32) : Prop := ∀ j, j < n → t j < 256 ∧ a j = sb_b (t j)
theorem sb_fitB (c : Nat) : fits .byte (.int (sb_b c)) = true := pk_fb _
theorem sb_fit0 : sb_Fit (fun _ => 0) := fun _ => by
  show fits .byte (.int 0) = true
  decide
theorem sb_fitU {a : Nat → Int32} {k : Nat} {x : Int32} (h : sb_Fit a) (hx : fits .byte (.int x) = true) : sb_Fit (upd a k x) := by
  intro j
  by_cases e : j = k
  · subst e
    rw [pk_us]
    exact hx
  · rw [pk_un e]
    exact h j
def sb_cat (t : Nat → Nat) (n : Nat) (s : Nat → Nat) : Nat → Nat := fun j => if j < n then t j else s (j - n)
theorem sb_cat_lo {t s : Nat → Nat} {n j : Nat} (h : j < n) : sb_cat t n s j = t j := if_pos h
theorem sb_cat_hi {t s : Nat → Nat} {n j : Nat} : sb_cat t n s (n + j) = s j := by
  show (if n + j < n then t (n + j) else s (n + j - n)) = s j
  rw [if_neg (by omega), Nat.add_sub_cancel_left]
theorem sb_latPut {t s : Nat → Nat} {n w : Nat} {a a' : Nat → Int32} (h : sb_Lat t n a) (hk : ∀ j, j < n → a' j = a j) (hs : ∀ i, i < w → s i < 256 ∧ a' (n + i) = sb_b (s i)) : sb_Lat (sb_cat t n s) (n + w) a' := by
  intro j hj
  by_cases e : j < n
  · rw [sb_cat_lo e, hk j e]
    exact h j e
  · obtain ⟨i, rfl⟩ : ∃ i, j = n + i := ⟨j - n, by omega⟩
    rw [sb_cat_hi]
    exact hs i (by omega)
theorem sb_latKeep {t : Nat → Nat} {n : Nat} {a a' : Nat → Int32} (h : sb_Lat t n a) (hk : ∀ j, j < n → a' j = a j) : sb_Lat t n a' := fun j hj => by
  rw [hk j hj]
  exact h j hj
def sb_cap (q m : Nat) : Nat := if q ≤ m then m else if 2 * m + 2 < q then q else 2 * m + 2
def sb_Room (q m mc ms : Nat) : Prop := q ≤ m ∨ (1 ≤ mc ∧ sb_cap q m ≤ ms ∧ sb_cap q m ≤ 65536)
theorem sb_cap_ge (q m : Nat) : q ≤ sb_cap q m := by
  unfold sb_cap
  split
  · omega
  · split <;> omega
theorem sb_cap_gem (q m : Nat) : m ≤ sb_cap q m := by
  unfold sb_cap
  split
  · omega
  · split <;> omega
theorem sb_cap_le {q m mc ms : Nat} (hm : m ≤ 65536) (hr : sb_Room q m mc ms) : sb_cap q m ≤ 65536 := by
  rcases hr with h | h
  · rw [sb_cap, if_pos h]
    exact hm
  · exact h.2.2
theorem sb_at {P : Int32 → Prop} {x y : Int32} (e : x = y) (h : P y) : P x := e ▸ h
def sb_dg (w : Nat) : Nat := if w < 10 then 1 else if w < 100 then 2 else if w < 1000 then 3 else if w < 10000 then 4 else if w < 100000 then 5 else if w < 1000000 then 6 else if w < 10000000 then 7 else if w < 100000000 then 8 else if w < 1000000000 then 9 else 10
def sb_dec (v : Nat) : Nat → Nat := fun i => 48 + v / 10 ^ (sb_dg v - 1 - i) % 10
theorem sb_dg_in (w : Nat) : 1 ≤ sb_dg w ∧ sb_dg w ≤ 10 := by
  unfold sb_dg
  constructor <;> (repeat' split) <;> omega
theorem sb_dg100 {w : Nat} (h : 100 ≤ w) (hw : w < 2 ^ 31) : sb_dg w = sb_dg (w / 100) + 2 := by
  rw [sb_dg, sb_dg, if_neg (show ¬ w < 10 by omega), if_neg (show ¬ w < 100 by omega)]
  by_cases h3 : w < 1000
  · rw [if_pos h3, if_pos (show w / 100 < 10 by omega)]
  rw [if_neg h3, if_neg (show ¬ w / 100 < 10 by omega)]
  by_cases h4 : w < 10000
  · rw [if_pos h4, if_pos (show w / 100 < 100 by omega)]
  rw [if_neg h4, if_neg (show ¬ w / 100 < 100 by omega)]
  by_cases h5 : w < 100000
  · rw [if_pos h5, if_pos (show w / 100 < 1000 by omega)]
  rw [if_neg h5, if_neg (show ¬ w / 100 < 1000 by omega)]
  by_cases h6 : w < 1000000
  · rw [if_pos h6, if_pos (show w / 100 < 10000 by omega)]
  rw [if_neg h6, if_neg (show ¬ w / 100 < 10000 by omega)]
  by_cases h7 : w < 10000000
  · rw [if_pos h7, if_pos (show w / 100 < 100000 by omega)]
  rw [if_neg h7, if_neg (show ¬ w / 100 < 100000 by omega)]
  by_cases h8 : w < 100000000
  · rw [if_pos h8, if_pos (show w / 100 < 1000000 by omega)]
  rw [if_neg h8, if_neg (show ¬ w / 100 < 1000000 by omega)]
  by_cases h9 : w < 1000000000
  · rw [if_pos h9, if_pos (show w / 100 < 10000000 by omega)]
  rw [if_neg h9, if_neg (show ¬ w / 100 < 10000000 by omega)]
  rw [if_pos (show w / 100 < 100000000 by omega)]
theorem sb_negT {w : Nat} (h : w < 2 ^ 31) : (-nI w).toInt = -(w : Int) := by
  rw [Int32.toInt_neg, nI_toInt h]
  exact Int.bmod_eq_of_le (by omega) (by omega)
theorem sb_nle {a b : Nat} (ha : a < 2 ^ 31) (hb : b < 2 ^ 31) : -nI a ≤ -nI b ↔ b ≤ a := by
  rw [Int32.le_iff_toInt_le, sb_negT ha, sb_negT hb]
  omega
theorem sb_nlt {a b : Nat} (ha : a < 2 ^ 31) (hb : b < 2 ^ 31) : -nI a < -nI b ↔ b < a := by
  rw [Int32.lt_iff_toInt_lt, sb_negT ha, sb_negT hb]
  omega
theorem sb_cmp {A B : Prop} {x : Int32} (v c : Nat) (f : c ≤ v → A) (g : v < c → B) (hv : v < 2 ^ 31) (hx : x = -nI c := by rfl) (hc : c < 2 ^ 31 := by omega) : (-nI v ≤ x → A) ∧ (¬ -nI v ≤ x → B) := by
  subst hx
  rw [sb_nle hv hc]
  exact ⟨f, fun z => g (by omega)⟩
theorem sb_ndiv {w : Nat} (hw : w < 2 ^ 31) : (-nI w) / 100 = -nI (w / 100) := by
  apply Int32.toInt_inj.mp
  have h100 : (100 : Int32).toInt = 100 := by decide
  rw [Int32.toInt_div, sb_negT hw, h100, sb_negT (by omega), Int.neg_tdiv, Int.tdiv_eq_ediv_of_nonneg (by omega), Int.bmod_eq_of_le (by omega) (by omega)]
  omega
theorem sb_nrem {w : Nat} (hw : w < 2 ^ 31) : (-nI (w / 100)) * 100 - (-nI w) = nI (w % 100) := by
  have h := pk_rem (a := w) (d := 100) hw (by decide) (by decide)
  rw [pk_div hw (by decide) (by decide)] at h
  rw [← h]
  show (-nI (w / 100)) * nI 100 - (-nI w) = nI w - nI (w / 100) * nI 100
  rw [Int32.neg_mul, Int32.sub_neg, Int32.add_comm, ← Int32.sub_eq_add_neg]
end
section
/-! rows on bits, shifts and unsigned numbers, to paste: each family out of a closed proof of our own, whole with what it rests on; each by itself clean at Lean in its own claim (generation 39, form 5). Take a family whole -/
/-! ===== Int32 by its bits: bt x i ===== -/
def bt (x : Int32) (i : Nat) : Bool := x.toBitVec.getLsbD i
theorem b_ext {x y : Int32} (h : ∀ i, i < 32 → bt x i = bt y i) : x = y := Int32.toBitVec_inj.mp (BitVec.eq_of_getLsbD_eq (fun i hi => h i hi))
theorem b_or (x y : Int32) (i : Nat) : bt (x ||| y) i = (bt x i || bt y i) := by unfold bt; rw [Int32.toBitVec_or, BitVec.getLsbD_or]
theorem b_and (x y : Int32) (i : Nat) : bt (x &&& y) i = (bt x i && bt y i) := by unfold bt; rw [Int32.toBitVec_and, BitVec.getLsbD_and]
theorem b_xor (x y : Int32) (i : Nat) : bt (x ^^^ y) i = (bt x i ^^ bt y i) := by unfold bt; rw [Int32.toBitVec_xor, BitVec.getLsbD_xor]
theorem b_big {x : Int32} {i : Nat} (h : 32 ≤ i) : bt x i = false := BitVec.getLsbD_of_ge _ _ h
theorem b_255 (i : Nat) : bt 255 i = decide (i < 8) := by
  rcases Nat.lt_or_ge i 32 with h | h
  · exact (by decide +kernel : ∀ i, i < 32 → bt 255 i = decide (i < 8)) i h
  · rw [b_big h, decide_eq_false (by omega)]
theorem b_65535 (i : Nat) : bt 65535 i = decide (i < 16) := by
  rcases Nat.lt_or_ge i 32 with h | h
  · exact (by decide +kernel : ∀ i, i < 32 → bt 65535 i = decide (i < 16)) i h
  · rw [b_big h, decide_eq_false (by omega)]
theorem b_m1 : ∀ i, i < 32 → bt (-1) i = true := by decide +kernel
theorem b_0 (i : Nat) : bt 0 i = false := BitVec.getLsbD_zero
theorem s_l : ∀ n, n < 32 → ((nI n &&& 31).toBitVec.smod 32).toNat = n := by decide +kernel
theorem s_u : ∀ n, n < 32 → (((nI n).toUInt32 &&& Int32.toUInt32 31).toBitVec % 32).toNat = n := by decide +kernel
theorem b_shl (n : Nat) (hn : n < 32) (x : Int32) {i : Nat} (hi : i < 32) : bt (x <<< (nI n &&& 31)) i = (decide (n ≤ i) && bt x (i - n)) := by
  unfold bt
  rw [Int32.toBitVec_shiftLeft]
  show (x.toBitVec <<< ((nI n &&& 31).toBitVec.smod 32).toNat).getLsbD i = _
  rw [s_l n hn, BitVec.getLsbD_shiftLeft]
  rcases Nat.lt_or_ge i n with h | h
  · simp [h, Nat.not_le.mpr h]
  · simp [hi, h, Nat.not_lt.mpr h]
theorem b_ushr (n : Nat) (hn : n < 32) (x : Int32) (i : Nat) : bt ((x.toUInt32 >>> ((nI n).toUInt32 &&& Int32.toUInt32 31)).toInt32) i = bt x (n + i) := by
  show (x.toUInt32 >>> ((nI n).toUInt32 &&& Int32.toUInt32 31)).toBitVec.getLsbD i = x.toUInt32.toBitVec.getLsbD (n + i)
  rw [UInt32.toBitVec_shiftRight]
  show (x.toUInt32.toBitVec >>> (((nI n).toUInt32 &&& Int32.toUInt32 31).toBitVec % 32).toNat).getLsbD i = _
  rw [s_u n hn, BitVec.getLsbD_ushiftRight]
theorem b_sshr (n : Nat) (hn : n < 32) (x : Int32) {i : Nat} (hi : i < 32) : bt (x >>> (nI n &&& 31)) i = if n + i < 32 then bt x (n + i) else bt x 31 := by
  unfold bt
  rw [Int32.toBitVec_shiftRight]
  show (x.toBitVec.sshiftRight ((nI n &&& 31).toBitVec.smod 32).toNat).getLsbD i = _
  rw [s_l n hn, BitVec.getLsbD_sshiftRight, BitVec.msb_eq_getLsbD_last]
  simp [hi]
theorem b_shl8 (x : Int32) {i : Nat} (hi : i < 32) : bt (x <<< ((8 : Int32) &&& 31)) i = (decide (8 ≤ i) && bt x (i - 8)) := b_shl 8 (by omega) x hi
theorem b_shl16 (x : Int32) {i : Nat} (hi : i < 32) : bt (x <<< ((16 : Int32) &&& 31)) i = (decide (16 ≤ i) && bt x (i - 16)) := b_shl 16 (by omega) x hi
theorem b_shl24 (x : Int32) {i : Nat} (hi : i < 32) : bt (x <<< ((24 : Int32) &&& 31)) i = (decide (24 ≤ i) && bt x (i - 24)) := b_shl 24 (by omega) x hi
theorem b_sshr8 (x : Int32) {i : Nat} (hi : i < 32) : bt (x >>> ((8 : Int32) &&& 31)) i = if 8 + i < 32 then bt x (8 + i) else bt x 31 := b_sshr 8 (by omega) x hi
/-! ===== nI under and, xor, >>>, one bit, 65535 ===== -/
theorem nx_and (a b : Nat) : nI a &&& nI b = nI (a &&& b) := by
  apply Int32.toBitVec_inj.1
  show BitVec.ofNat 32 a &&& BitVec.ofNat 32 b = BitVec.ofNat 32 (a &&& b)
  apply BitVec.eq_of_getLsbD_eq
  intro i hi
  simp [hi]
theorem nx_xor (a b : Nat) : nI a ^^^ nI b = nI (a ^^^ b) := by
  apply Int32.toBitVec_inj.1
  show BitVec.ofNat 32 a ^^^ BitVec.ofNat 32 b = BitVec.ofNat 32 (a ^^^ b)
  apply BitVec.eq_of_getLsbD_eq
  intro i hi
  simp [hi]
theorem nx_cnt : ∀ j : Fin 32, (UInt32.ofNat j.val &&& Int32.toUInt32 31).toNat % 32 = j.val := by decide +kernel
theorem nx_ush {k j : Nat} (hk : k < 65536) (hj : j < 32) : ((nI k).toUInt32 >>> ((nI j).toUInt32 &&& Int32.toUInt32 31)).toInt32 = nI (k >>> j) := by
  have hs : k >>> j ≤ k := by
    rw [Nat.shiftRight_eq_div_pow]
    exact Nat.div_le_self _ _
  have e2 : UInt32.ofNat k >>> (UInt32.ofNat j &&& Int32.toUInt32 31) = UInt32.ofNat (k >>> j) := by
    apply UInt32.toNat_inj.1
    have h1 : (UInt32.ofNat k).toNat = k := Nat.mod_eq_of_lt (by omega)
    have h2 : (UInt32.ofNat (k >>> j)).toNat = k >>> j := Nat.mod_eq_of_lt (by omega)
    rw [UInt32.toNat_shiftRight, nx_cnt ⟨j, hj⟩, h1, h2]
  show (UInt32.ofNat k >>> (UInt32.ofNat j &&& Int32.toUInt32 31)).toInt32 = _
  rw [e2]
  rfl
theorem nx_bit {k j : Nat} (hk : k < 65536) (hj : j < 16) : (((nI k).toUInt32 >>> ((nI j).toUInt32 &&& Int32.toUInt32 31)).toInt32 &&& 1) = 0 ↔ k.testBit j = false := by
  rw [nx_ush hk (by omega)]
  show nI (k >>> j) &&& nI 1 = 0 ↔ _
  rw [nx_and, Nat.and_one_is_mod, ← nI_0, nI_eq (by omega) (by omega), Nat.testBit_eq_decide_div_mod_eq, Nat.shiftRight_eq_div_pow, decide_eq_false_iff_not]
  generalize k / 2 ^ j = z
  omega
theorem nx_mod (k : Nat) : nI k &&& 65535 = nI (k % 65536) := by
  show nI k &&& nI 65535 = _
  rw [nx_and, show (65535 : Nat) = 2 ^ 16 - 1 from rfl, Nat.and_two_pow_sub_one_eq_mod]
theorem nx_m16 {k : Nat} (h : k < 65536) : nI k &&& 65535 = nI k := by rw [nx_mod, Nat.mod_eq_of_lt h]
theorem nx_mask (x : Int32) : ∃ k, k < 65536 ∧ x &&& 65535 = nI k := by
  have e : x = nI x.toBitVec.toNat := by
    apply Int32.toBitVec_inj.1
    show x.toBitVec = BitVec.ofNat 32 x.toBitVec.toNat
    simp
  refine ⟨x.toBitVec.toNat % 65536, Nat.mod_lt _ (by omega), ?_⟩
  rw [← nx_mod, ← e]
/-! ===== Int32 as a set of bits: test, set ===== -/
def nf_M (m : Int32) : Nat := 4294967296 - m.toBitVec.toNat
theorem nf_sh : ∀ l, l < 32 → ((1 : Int32) <<< (nI l &&& 31)).toBitVec = BitVec.twoPow 32 l := by decide +kernel
theorem nf_sl : ∀ l, l < 32 → (((nI l).toUInt32 &&& Int32.toUInt32 31).toBitVec % 32).toNat = l := by decide +kernel
theorem nf_tp : ∀ l, l < 32 → BitVec.twoPow 32 l ≠ 0#32 := by decide +kernel
theorem nf_bit (m : Int32) (l : Nat) (hl : l < 32) : ((m.toUInt32 >>> ((nI l).toUInt32 &&& Int32.toUInt32 31)).toInt32 &&& 1) = 0 ↔ (m &&& ((1 : Int32) <<< (nI l &&& 31))) = 0 := by
  have e : ((m.toUInt32 >>> ((nI l).toUInt32 &&& Int32.toUInt32 31)).toInt32).toBitVec = m.toBitVec >>> l := by
    show m.toBitVec >>> (((nI l).toUInt32 &&& Int32.toUInt32 31).toBitVec % 32) = m.toBitVec >>> l
    rw [BitVec.ushiftRight_eq', nf_sl l hl]
  rw [← Int32.toBitVec_inj, ← Int32.toBitVec_inj, Int32.toBitVec_and, Int32.toBitVec_and, nf_sh l hl, e, BitVec.and_twoPow]
  show (m.toBitVec >>> l &&& 1#32) = 0#32 ↔ _ = 0#32
  rw [BitVec.and_one_eq_setWidth_ofBool_getLsbD, BitVec.getLsbD_ushiftRight, Nat.add_zero]
  cases hb : m.toBitVec.getLsbD l
  · exact ⟨fun _ => by simp, fun _ => by decide⟩
  · exact ⟨fun z => absurd z (by decide), fun z => absurd ((if_pos rfl).symm.trans z) (nf_tp l hl)⟩
theorem nf_gr (m k : Int32) (h : m &&& k = 0) (hk : k ≠ 0) : nf_M (m ||| k) < nf_M m := by
  have hm := m.toBitVec.isLt
  have hm' := (m ||| k).toBitVec.isLt
  have h1 : m.toBitVec.toNat ≤ (m ||| k).toBitVec.toNat := by
    rw [Int32.toBitVec_or, BitVec.toNat_or]
    exact Nat.left_le_or
  have h2 : m.toBitVec.toNat ≠ (m ||| k).toBitVec.toNat := by
    intro e
    have e2 : m = m ||| k := Int32.toBitVec_inj.mp (BitVec.eq_of_toNat_eq e)
    apply hk
    apply Int32.toBitVec_inj.mp
    show k.toBitVec = 0#32
    apply BitVec.eq_of_getLsbD_eq
    intro i hi
    have a : m.toBitVec.getLsbD i = (m.toBitVec.getLsbD i || k.toBitVec.getLsbD i) := by rw [← BitVec.getLsbD_or, ← Int32.toBitVec_or, ← e2]
    have b : (m.toBitVec.getLsbD i && k.toBitVec.getLsbD i) = false := by
      rw [← BitVec.getLsbD_and, ← Int32.toBitVec_and, h]
      exact BitVec.getLsbD_zero
    rw [BitVec.getLsbD_zero]
    revert a b
    cases m.toBitVec.getLsbD i <;> cases k.toBitVec.getLsbD i <;> simp
  unfold nf_M
  omega
/-! ===== a byte read unsigned ===== -/
theorem bp_b (x : Int32) : x.toInt8.toInt32 &&& 255 = x &&& 255 := by
  apply Int32.toBitVec_inj.mp
  rw [Int32.toBitVec_and, Int32.toBitVec_and, Int8.toBitVec_toInt32, Int32.toBitVec_toInt8]
  apply BitVec.eq_of_getLsbD_eq
  intro i hi
  rw [BitVec.getLsbD_and, BitVec.getLsbD_and]
  have hm : ∀ i < 32, 8 ≤ i → (255 : Int32).toBitVec.getLsbD i = false := by decide
  rcases Nat.lt_or_ge i 8 with z | z
  · rw [BitVec.getLsbD_signExtend, BitVec.getLsbD_signExtend, if_pos z, if_pos hi]
    simp only [z, hi, decide_true, Bool.true_and]
  · rw [hm i hi z]; simp
/-! ===== the char cast and 65535 ===== -/
theorem em_w (v : Int32) : ∃ w : Nat, w < 65536 ∧ (v.toUInt32 % 65536).toInt32 = nI w ∧ v &&& 65535 = nI w := by
  have hr := lw_u16_r v
  have h0 : (0 : Int32).toInt = 0 := by decide
  obtain ⟨w, h1, h2⟩ := nI_of (x := lw_u16 v) (by rw [Int32.lt_iff_toInt_lt]; omega)
  have h3 : (v.toUInt32 % 65536).toInt32 = nI w := h2
  rw [h2, nI_toInt h1] at hr
  exact ⟨w, by omega, h3, by rw [← lg_i2c_mask, ← lg_i2c_nf, h3]⟩
/-! ===== Int64 as a set of bits: test, set, clear ===== -/
theorem ts_nf {x : Bool} (h : ¬ x = false) : x = true := by cases x <;> first | rfl | exact absurd rfl h
theorem ts_nt {x : Bool} (h : ¬ x = true) : x = false := by cases x <;> first | rfl | exact absurd rfl h
theorem ts_bit {w : Int64} {s : UInt64} {j : Nat} (hj : j < 64) (hs : s.toNat = j) : ((w.toUInt64 >>> s).toInt64 &&& 1) = 0 ↔ w.toBitVec.getLsbD j = false := by
  have e : (w.toUInt64 >>> s).toInt64.toBitVec = w.toBitVec >>> j := by
    apply BitVec.eq_of_toNat_eq
    show (w.toUInt64 >>> s).toNat = _
    rw [UInt64.toNat_shiftRight, hs, Nat.mod_eq_of_lt hj, BitVec.toNat_ushiftRight]
    rfl
  rw [← Int64.toBitVec_inj, Int64.toBitVec_and, e]
  show w.toBitVec >>> j &&& 1#64 = 0#64 ↔ _
  constructor
  · intro h
    have t := congrArg (fun x => x.getLsbD 0) h
    simpa using t
  · intro h
    apply BitVec.eq_of_getLsbD_eq
    intro i hi
    cases i with
    | zero => simp [h]
    | succ i => simp
theorem ts_or {w m : Int64} {j : Nat} (hj : j < 64) (hm : m.toBitVec = BitVec.twoPow 64 j) : (w ||| m) = w ↔ w.toBitVec.getLsbD j = true := by
  rw [← Int64.toBitVec_inj, Int64.toBitVec_or, hm]
  constructor
  · intro h
    have t := congrArg (fun x => x.getLsbD j) h
    simp only [BitVec.getLsbD_or, BitVec.getLsbD_twoPow] at t
    simpa [hj] using t.symm
  · intro h
    apply BitVec.eq_of_getLsbD_eq
    intro i hi
    rw [BitVec.getLsbD_or, BitVec.getLsbD_twoPow]
    by_cases e : j = i
    · subst e; rw [h, Bool.true_or]
    · simp [e]
theorem ts_and {w m : Int64} {j : Nat} (hj : j < 64) (hm : m.toBitVec = BitVec.twoPow 64 j) : (w &&& (m ^^^ (-1))) = w ↔ w.toBitVec.getLsbD j = false := by
  have ha : (-1 : Int64).toBitVec = BitVec.allOnes 64 := by decide
  rw [← Int64.toBitVec_inj, Int64.toBitVec_and, Int64.toBitVec_xor, hm, ha]
  constructor
  · intro h
    have t := congrArg (fun x => x.getLsbD j) h
    simp only [BitVec.getLsbD_and, BitVec.getLsbD_xor, BitVec.getLsbD_twoPow, BitVec.getLsbD_allOnes] at t
    simpa [hj] using t.symm
  · intro h
    apply BitVec.eq_of_getLsbD_eq
    intro i hi
    rw [BitVec.getLsbD_and, BitVec.getLsbD_xor, BitVec.getLsbD_twoPow, BitVec.getLsbD_allOnes]
    by_cases e : j = i
    · subst e; rw [h, Bool.false_and]
    · simp [e, hi]
/-! ===== lN n to 2^64: shifts, and, or, masks, one bit ===== -/
theorem wb_tb (n : Nat) : (lN n).toBitVec = BitVec.ofNat 64 n := rfl
theorem wb_inj {a b : Int64} (h : a.toBitVec = b.toBitVec) : a = b := Int64.toBitVec_inj.mp h
theorem wb_tn {n : Nat} (h : n < 2 ^ 64) : (lN n).toBitVec.toNat = n := by rw [wb_tb, BitVec.toNat_ofNat, Nat.mod_eq_of_lt h]
theorem wb_of (x : Int64) : ∃ n, n < 2 ^ 64 ∧ x = lN n := ⟨x.toBitVec.toNat, x.toBitVec.isLt, wb_inj (by rw [wb_tb]; simp)⟩
theorem wb_of32 (x : Int32) : ∃ n, n < 2 ^ 32 ∧ x = nI n := ⟨x.toBitVec.toNat, x.toBitVec.isLt, Int32.toBitVec_inj.mp (by show _ = BitVec.ofNat 32 _; simp)⟩
theorem wb_c : ∀ k, k < 64 → ((nI k).toInt64 &&& 63) = lN k := by decide +kernel
theorem wb_cu : ∀ k, k < 64 → ((nI k).toInt64.toUInt64 &&& Int64.toUInt64 63) = UInt64.ofNat k := by decide +kernel
theorem wb_sm : ∀ k, k < 64 → (BitVec.ofNat 64 k).smod 64 = BitVec.ofNat 64 k := by decide +kernel
theorem wb_pw {a b : Nat} (h : a ≤ b) : 2 ^ b = 2 ^ a * 2 ^ (b - a) := by rw [← Nat.pow_add]; congr 1; omega
theorem wb_lt2 {a b : Nat} (h : a < b) : 2 ^ a < 2 ^ b := Nat.pow_lt_pow_right (by decide) h
theorem wb_mod (n : Nat) : lN n = lN (n % 2 ^ 64) := wb_inj (by rw [wb_tb, wb_tb]; apply BitVec.eq_of_toNat_eq; rw [BitVec.toNat_ofNat, BitVec.toNat_ofNat, Nat.mod_mod])
theorem wb_shr {n k : Nat} (hn : n < 2 ^ 64) (hk : k < 64) : ((lN n).toUInt64 >>> ((nI k).toInt64.toUInt64 &&& Int64.toUInt64 63)).toInt64 = lN (n / 2 ^ k) := by
  rw [wb_cu k hk]
  apply wb_inj
  apply BitVec.eq_of_toNat_eq
  show ((lN n).toUInt64 >>> UInt64.ofNat k).toNat = (BitVec.ofNat 64 _).toNat
  have h1 : (UInt64.ofNat k).toNat = k := by
    show (BitVec.ofNat 64 k).toNat = k
    rw [BitVec.toNat_ofNat, Nat.mod_eq_of_lt (by omega)]
  have h2 : (lN n).toUInt64.toNat = n := wb_tn hn
  rw [UInt64.toNat_shiftRight, h1, h2, Nat.mod_eq_of_lt hk, Nat.shiftRight_eq_div_pow, BitVec.toNat_ofNat, Nat.mod_eq_of_lt (Nat.lt_of_le_of_lt (Nat.div_le_self _ _) hn)]
theorem wb_shl (n : Nat) {k : Nat} (hk : k < 64) : lN n <<< ((nI k).toInt64 &&& 63) = lN (n * 2 ^ k) := by
  rw [wb_c k hk]
  apply wb_inj
  rw [Int64.toBitVec_shiftLeft, wb_tb, wb_tb, wb_tb, wb_sm k hk]
  apply BitVec.eq_of_toNat_eq
  rw [BitVec.shiftLeft_eq', BitVec.toNat_shiftLeft, BitVec.toNat_ofNat, BitVec.toNat_ofNat, BitVec.toNat_ofNat, Nat.mod_eq_of_lt (show k < 2 ^ 64 by omega), Nat.shiftLeft_eq, Nat.mul_mod, Nat.mod_mod, ← Nat.mul_mod]
theorem wb_and {a b : Nat} (ha : a < 2 ^ 64) (hb : b < 2 ^ 64) : lN a &&& lN b = lN (a &&& b) := by
  apply wb_inj
  rw [Int64.toBitVec_and, wb_tb, wb_tb, wb_tb]
  apply BitVec.eq_of_toNat_eq
  rw [BitVec.toNat_and, BitVec.toNat_ofNat, BitVec.toNat_ofNat, BitVec.toNat_ofNat, Nat.mod_eq_of_lt ha, Nat.mod_eq_of_lt hb, Nat.mod_eq_of_lt (Nat.and_lt_two_pow _ hb)]
theorem wb_or {a b : Nat} (ha : a < 2 ^ 64) (hb : b < 2 ^ 64) : lN a ||| lN b = lN (a ||| b) := by
  apply wb_inj
  rw [Int64.toBitVec_or, wb_tb, wb_tb, wb_tb]
  apply BitVec.eq_of_toNat_eq
  rw [BitVec.toNat_or, BitVec.toNat_ofNat, BitVec.toNat_ofNat, BitVec.toNat_ofNat, Nat.mod_eq_of_lt ha, Nat.mod_eq_of_lt hb, Nat.mod_eq_of_lt (Nat.or_lt_two_pow ha hb)]
theorem wb_mask {n k : Nat} (hn : n < 2 ^ 64) (hk : k < 64) : lN n &&& lN (2 ^ k - 1) = lN (n % 2 ^ k) := by
  rw [wb_and hn (by have := wb_lt2 hk; omega), Nat.and_two_pow_sub_one_eq_mod]
theorem wb_a1 {n : Nat} (hn : n < 2 ^ 64) : lN n &&& 1 = lN (n % 2) := wb_mask (k := 1) hn (by decide)
theorem wb_bit {n k : Nat} (hn : n < 2 ^ 64) (hk : k < 64) : ((lN n).toUInt64 >>> ((nI k).toInt64.toUInt64 &&& Int64.toUInt64 63)).toInt64 &&& 1 = lN (n / 2 ^ k % 2) := by
  rw [wb_shr hn hk, wb_a1 (Nat.lt_of_le_of_lt (Nat.div_le_self _ _) hn)]
theorem wb_xor {q k : Nat} (hk : k < 63) (h : 2 ^ k ≤ q) (h2 : q < 2 ^ (k + 1)) : lN q ^^^ lN (2 ^ k) = lN (q - 2 ^ k) := by
  obtain ⟨r, rfl⟩ : ∃ r, q = 2 ^ k + r := ⟨q - 2 ^ k, by omega⟩
  have hr : r < 2 ^ k := by rw [Nat.pow_succ] at h2; omega
  have hx : (2 ^ k + r) ^^^ 2 ^ k = r := by
    apply Nat.eq_of_testBit_eq
    intro i
    rw [Nat.testBit_xor, Nat.testBit_two_pow]
    rcases Nat.lt_trichotomy i k with h | h | h
    · rw [Nat.testBit_two_pow_add_gt h]
      simp [show ¬ k = i by omega]
    · subst h
      rw [Nat.testBit_two_pow_add_eq]
      simp
    · have a1 : 2 ^ (k + 1) ≤ 2 ^ i := Nat.pow_le_pow_right (by decide) h
      rw [Nat.testBit_lt_two_pow (show 2 ^ k + r < 2 ^ i by omega), Nat.testBit_lt_two_pow (show r < 2 ^ i by omega)]
      simp [show ¬ k = i by omega]
  have b1 := wb_lt2 (show k + 1 < 64 by omega)
  have b2 := wb_lt2 (show k < 64 by omega)
  apply wb_inj
  rw [Int64.toBitVec_xor, wb_tb, wb_tb, wb_tb]
  apply BitVec.eq_of_toNat_eq
  rw [BitVec.toNat_xor, BitVec.toNat_ofNat, BitVec.toNat_ofNat, BitVec.toNat_ofNat, Nat.mod_eq_of_lt (by omega : 2 ^ k + r < 2 ^ 64), Nat.mod_eq_of_lt b2, hx, Nat.add_sub_cancel_left, Nat.mod_eq_of_lt (by omega)]
/-! ===== lN: masks, 'or' of parts that don't overlap is a sum ===== -/
theorem u_tn {n : Nat} (h : n < 2 ^ 64) : (UInt64.ofNat n).toNat = n := Nat.mod_eq_of_lt h
theorem g_and {a b c : Nat} (ha : a < 2 ^ 64) (hb : b < 2 ^ 64) (hc : a &&& b = c) : lN a &&& lN b = lN c := by
  subst hc
  have h : UInt64.ofNat a &&& UInt64.ofNat b = UInt64.ofNat (a &&& b) := UInt64.toNat_inj.mp (by rw [UInt64.toNat_and, u_tn ha, u_tn hb, u_tn (Nat.and_lt_two_pow a hb)])
  have h2 := congrArg UInt64.toInt64 h
  exact h2
theorem g_and1 {a : Nat} (ha : a < 2 ^ 64) : lN a &&& 1 = lN (a % 2) := g_and (b := 1) ha (by decide) (Nat.and_two_pow_sub_one_eq_mod a 1)
theorem g_mask {a s p : Nat} (hp : 2 ^ s = p) (hs : s < 64) (ha : a < 2 ^ 64) : lN a &&& lN (p - 1) = lN (a % p) := by
  subst hp
  have := Nat.pow_lt_pow_right (show 1 < 2 by decide) hs
  exact g_and ha (by omega) (Nat.and_two_pow_sub_one_eq_mod a s)
theorem g_or {k p a b : Nat} (hp : 2 ^ k = p) (ha : a < p) (h : b * p + a < 2 ^ 64) : lN (b * p) ||| lN a = lN (b * p + a) := by
  subst hp
  have h1 : b * 2 ^ k ||| a = b * 2 ^ k + a := by rw [← Nat.shiftLeft_eq, Nat.shiftLeft_add_eq_or_of_lt ha]
  have h3 : UInt64.ofNat (b * 2 ^ k) ||| UInt64.ofNat a = UInt64.ofNat (b * 2 ^ k + a) := UInt64.toNat_inj.mp (by rw [UInt64.toNat_or, u_tn (by omega), u_tn (by omega), u_tn h, h1])
  have h2 := congrArg UInt64.toInt64 h3
  exact h2
theorem g_or' {k p a b : Nat} (hp : 2 ^ k = p) (ha : a < p) (h : a + b * p < 2 ^ 64) : lN a ||| lN (b * p) = lN (a + b * p) := by
  rw [Int64.or_comm, g_or hp ha (by omega), Nat.add_comm]
theorem g_ushr {a k p : Nat} {y : UInt64} (hy : y = UInt64.ofNat k) (hk : k < 64) (hp : 2 ^ k = p) (ha : a < 2 ^ 64) : ((lN a).toUInt64 >>> y).toInt64 = lN (a / p) := by
  subst hy hp
  have h : UInt64.ofNat a >>> UInt64.ofNat k = UInt64.ofNat (a / 2 ^ k) := UInt64.toNat_inj.mp (by rw [UInt64.toNat_shiftRight, u_tn ha, u_tn (by omega), u_tn (Nat.lt_of_le_of_lt (Nat.div_le_self _ _) ha), Nat.mod_eq_of_lt hk, Nat.shiftRight_eq_div_pow])
  have h2 := congrArg UInt64.toInt64 h
  exact h2
theorem g_shl {a k p : Nat} {y : Int64} (hy : y.toBitVec.smod 64 = BitVec.ofNat 64 k) (hk : k < 64) (hp : 2 ^ k = p) (ha : a < 2 ^ 64) : lN a <<< y = lN (a * p) := by
  subst hp
  apply Int64.toBitVec_inj.mp
  rw [Int64.toBitVec_shiftLeft, hy]
  apply BitVec.eq_of_toNat_eq
  have hb : (lN a).toBitVec.toNat = a := Nat.mod_eq_of_lt ha
  have hk' : (BitVec.ofNat 64 k).toNat = k := Nat.mod_eq_of_lt (by omega)
  have h : ((lN a).toBitVec <<< BitVec.ofNat 64 k).toNat = (a * 2 ^ k) % 2 ^ 64 := by simp only [BitVec.shiftLeft_eq', BitVec.toNat_shiftLeft, hb, hk', Nat.shiftLeft_eq]
  exact h
/-! ===== lN to 2^62 under >> and >>> ===== -/
theorem pf_lI {a : Nat} (h : a < 2 ^ 63) : (lN a).toInt = (a : Int) := lg_ofNat_toInt h
theorem pf_shr {a d : Nat} {D : Int64} (hD : (D.toBitVec.smod 64).toNat = d) (h : a < 2 ^ 62) : lN a >>> D = lN (a / 2 ^ d) := by
  have hd : a / 2 ^ d ≤ a := Nat.div_le_self _ _
  apply Int64.toInt_inj.mp
  have e : (lN a >>> D).toInt = (lN a).toInt >>> d := by
    rw [← hD]
    exact BitVec.toInt_sshiftRight ..
  rw [e, Int.shiftRight_eq_div_pow, pf_lI (by omega), pf_lI (by omega)]
  rfl
theorem pf_ushr {a d : Nat} {D : UInt64} (hD : D.toNat % 64 = d) (h : a < 2 ^ 62) : ((lN a).toUInt64 >>> D).toInt64 = lN (a / 2 ^ d) := by
  have hd : a / 2 ^ d ≤ a := Nat.div_le_self _ _
  have e : (lN a).toUInt64 >>> D = UInt64.ofNat (a / 2 ^ d) := UInt64.toNat_inj.mp (by
    rw [UInt64.toNat_shiftRight, hD, Nat.shiftRight_eq_div_pow, UInt64.toNat_ofNat']
    show (UInt64.ofNat a).toNat / 2 ^ d = _
    rw [UInt64.toNat_ofNat', Nat.mod_eq_of_lt (by omega), Nat.mod_eq_of_lt (by omega)])
  rw [e]
  rfl
theorem pf_andw (x : Int64) : ∃ m, m < 2 ^ 32 ∧ x &&& 4294967295 = lN m := ⟨x.toBitVec.toNat % 2 ^ 32, Nat.mod_lt _ (by decide), Int64.toBitVec_inj.mp (BitVec.eq_of_toNat_eq (by
  show (x.toBitVec &&& 4294967295#64).toNat = (BitVec.ofNat 64 (x.toBitVec.toNat % 2 ^ 32)).toNat
  rw [BitVec.toNat_and, show (4294967295#64).toNat = 2 ^ 32 - 1 from by decide, Nat.and_two_pow_sub_one_eq_mod, BitVec.toNat_ofNat]
  omega))⟩
/-! ===== Int64 as an unsigned number: uN x ===== -/
def uN (x : Int64) : Nat := x.toUInt64.toNat
theorem uN_lt (x : Int64) : uN x < 18446744073709551616 := x.toUInt64.toNat_lt
theorem uN_inj {x y : Int64} (h : uN x = uN y) : x = y := congrArg UInt64.toInt64 (UInt64.toNat_inj.mp h)
theorem uN_add (x y : Int64) : uN (x + y) = (uN x + uN y) % 18446744073709551616 := by
  show (x.toUInt64 + y.toUInt64).toNat = _
  exact UInt64.toNat_add _ _
theorem uN_mul (x y : Int64) : uN (x * y) = (uN x * uN y) % 18446744073709551616 := by
  show (x.toUInt64 * y.toUInt64).toNat = _
  exact UInt64.toNat_mul _ _
theorem uN_shl (x : Int64) : uN (x <<< ((1 : Int32).toInt64 &&& 63)) = (2 * uN x) % 18446744073709551616 := by
  have h : (((1 : Int32).toInt64 &&& 63).toBitVec.smod 64).toNat = 1 := by decide
  show (x.toBitVec <<< (((1 : Int32).toInt64 &&& 63).toBitVec.smod 64).toNat).toNat = _
  rw [h, BitVec.toNat_shiftLeft, Nat.shiftLeft_eq, Nat.mul_comm]
  rfl
theorem uN_shr (x : Int64) (s : UInt64) : uN (x.toUInt64 >>> s).toInt64 = uN x / 2 ^ (s.toNat % 64) := by
  show (x.toUInt64 >>> s).toNat = _
  rw [UInt64.toNat_shiftRight, Nat.shiftRight_eq_div_pow]
  rfl
theorem uN_s32 (x : Int64) : uN (x.toUInt64 >>> ((32 : Int32).toInt64.toUInt64 &&& Int64.toUInt64 63)).toInt64 = uN x / 4294967296 := by
  have h : ((32 : Int32).toInt64.toUInt64 &&& Int64.toUInt64 63).toNat % 64 = 32 := by decide
  rw [uN_shr, h]
theorem uN_s63 (x : Int64) : uN (x.toUInt64 >>> ((63 : Int32).toInt64.toUInt64 &&& Int64.toUInt64 63)).toInt64 = uN x / 9223372036854775808 := by
  have h : ((63 : Int32).toInt64.toUInt64 &&& Int64.toUInt64 63).toNat % 64 = 63 := by decide
  rw [uN_shr, h]
theorem uN_lo (x : Int64) : uN (x &&& 4294967295) = uN x % 4294967296 := by
  show (x.toUInt64 &&& Int64.toUInt64 4294967295).toNat = _
  rw [UInt64.toNat_and]
  exact Nat.and_two_pow_sub_one_eq_mod _ 32
theorem uN_bit (x : Int64) : (x &&& 1) = 0 ↔ uN x % 2 = 0 := by
  have h : uN (x &&& 1) = uN x % 2 := by
    show (x.toUInt64 &&& Int64.toUInt64 1).toNat = _
    rw [UInt64.toNat_and]
    exact Nat.and_two_pow_sub_one_eq_mod _ 1
  rw [← h]
  exact ⟨fun z => by rw [z]; rfl, fun z => uN_inj (z.trans rfl)⟩
theorem uN_or {x y : Int64} (hy : uN y < 2) : uN ((x <<< ((1 : Int32).toInt64 &&& 63)) ||| y) = (2 * uN x) % 18446744073709551616 + uN y := by
  have h1 : uN ((x <<< ((1 : Int32).toInt64 &&& 63)) ||| y) = uN (x <<< ((1 : Int32).toInt64 &&& 63)) ||| uN y := UInt64.toNat_or _ _
  have h2 : (2 * uN x) % 18446744073709551616 = 2 ^ 1 * (uN x % 9223372036854775808) := by omega
  rw [h1, uN_shl, h2]
  exact (Nat.two_pow_add_eq_or_of_lt (i := 1) hy _).symm
theorem nat_xor {a : Nat} (h : a < 18446744073709551616) : a ^^^ 2 ^ 63 = (a + 9223372036854775808) % 18446744073709551616 := by
  have h1 : (a ^^^ 2 ^ 63) % 2 ^ 63 = a % 2 ^ 63 := by rw [Nat.xor_mod_two_pow, Nat.mod_self, Nat.xor_zero]
  have h2 : (a ^^^ 2 ^ 63) / 2 ^ 63 = (a / 2 ^ 63) ^^^ 1 := by rw [Nat.xor_div_two_pow, Nat.div_self (Nat.two_pow_pos 63)]
  have h3 : a / 2 ^ 63 = 0 ∨ a / 2 ^ 63 = 1 := by omega
  generalize a ^^^ 2 ^ 63 = t at h1 h2
  rcases h3 with h3 | h3
  · rw [h3] at h2
    have h2 : t / 2 ^ 63 = 1 := h2
    omega
  · rw [h3] at h2
    have h2 : t / 2 ^ 63 = 0 := h2
    omega
theorem uN_xor (x : Int64) : uN (x ^^^ (-9223372036854775808)) = (uN x + 9223372036854775808) % 18446744073709551616 := by
  rw [← nat_xor (uN_lt x)]
  exact UInt64.toNat_xor _ _
theorem uN_int (x : Int64) : x.toInt = if 2 * uN x < 18446744073709551616 then (uN x : Int) else (uN x : Int) - 18446744073709551616 := BitVec.toInt_eq_toNat_cond _
theorem uN_le (x y : Int64) : (x ^^^ (-9223372036854775808)) ≤ (y ^^^ (-9223372036854775808)) ↔ uN x ≤ uN y := by
  have hx := uN_lt x
  have hy := uN_lt y
  rw [Int64.le_iff_toInt_le, uN_int, uN_int, uN_xor, uN_xor]
  omega
theorem uN_sk (x : Int64) {k : Nat} (hk : k < 64) : uN (x.toUInt64 >>> ((nI k).toInt64.toUInt64 &&& Int64.toUInt64 63)).toInt64 = uN x / 2 ^ k := by
  have h : ((nI k).toInt64.toUInt64 &&& Int64.toUInt64 63).toNat % 64 = k := by
    rw [nI_l (by omega), UInt64.toNat_and]
    have e : (lN k).toUInt64.toNat = k % 2 ^ 64 := rfl
    have e2 : (Int64.toUInt64 63).toNat = 2 ^ 6 - 1 := by decide
    rw [e, e2, Nat.and_two_pow_sub_one_eq_mod]
    omega
  rw [uN_shr, h]
/-! ===== unsigned comparison by xor with the least ===== -/
theorem lN_bv (n : Nat) : (lN n).toBitVec = BitVec.ofNat 64 n := rfl
theorem lN_nat {n : Nat} (h : n < 2 ^ 64) : (lN n).toBitVec.toNat = n := by rw [lN_bv, BitVec.toNat_ofNat]; exact Nat.mod_eq_of_lt h
theorem lN_xor (a b : Nat) : lN a ^^^ lN b = lN (a ^^^ b) := by
  apply Int64.toBitVec_inj.mp; rw [Int64.toBitVec_xor, lN_bv, lN_bv, lN_bv]; apply BitVec.eq_of_getLsbD_eq; intro i hi; simp [BitVec.getLsbD_ofNat, Nat.testBit_xor, hi]
theorem lN_ti {m : Nat} (h : m < 2 ^ 64) : (lN m).toInt = if m < 2 ^ 63 then (m : Int) else (m : Int) - 2 ^ 64 := by
  have c := BitVec.toInt_eq_toNat_cond (lN m).toBitVec
  rw [lN_nat h] at c
  show (lN m).toBitVec.toInt = _
  rw [c]
  split <;> split <;> omega
theorem xor63 {x : Nat} (h : x < 2 ^ 63) : x ^^^ 2 ^ 63 = 2 ^ 63 + x := by
  apply Nat.eq_of_testBit_eq
  intro i
  rw [Nat.testBit_xor, Nat.testBit_two_pow]
  rcases Nat.lt_trichotomy i 63 with z | z | z
  · rw [Nat.testBit_two_pow_add_gt z, decide_eq_false (by omega)]; simp
  · subst z; rw [Nat.testBit_two_pow_add_eq]; simp
  · have hp : 2 ^ 64 ≤ 2 ^ i := Nat.pow_le_pow_right (by decide) z
    rw [Nat.testBit_lt_two_pow (show x < 2 ^ i by omega), Nat.testBit_lt_two_pow (show 2 ^ 63 + x < 2 ^ i by omega), decide_eq_false (by omega)]; rfl
theorem xorS {a : Nat} (h : a < 2 ^ 64) : (lN a ^^^ (-9223372036854775808)).toInt = (a : Int) - 2 ^ 63 := by
  rw [show (-9223372036854775808 : Int64) = lN (2 ^ 63) from by decide +kernel, lN_xor]
  rcases Nat.lt_or_ge a (2 ^ 63) with z | z
  · rw [xor63 z, lN_ti (by omega), if_neg (by omega)]; omega
  · obtain ⟨x, rfl⟩ : ∃ x, a = 2 ^ 63 + x := ⟨a - 2 ^ 63, by omega⟩
    rw [← xor63 (by omega), Nat.xor_assoc, Nat.xor_self, Nat.xor_zero, lN_ti (by omega), if_pos (by omega), xor63 (by omega)]; omega
theorem ultL {a b : Nat} (ha : a < 2 ^ 64) (hb : b < 2 ^ 64) : ((lN b ^^^ (-9223372036854775808)) ≤ (lN a ^^^ (-9223372036854775808))) ↔ b ≤ a := by
  rw [Int64.le_iff_toInt_le, xorS ha, xorS hb]; omega
/-! ===== Int64 masks of n low bits ===== -/
theorem cr_bits (W U M : BitVec 64) : ((W &&& U) &&& (U &&& (M ^^^ BitVec.allOnes 64))) = 0#64 ↔ (W &&& U) &&& M = W &&& U := by
  constructor
  · intro h
    apply BitVec.eq_of_getLsbD_eq
    intro i hi
    have e := congrArg (fun x => BitVec.getLsbD x i) h
    simp only [BitVec.getLsbD_and, BitVec.getLsbD_xor, BitVec.getLsbD_allOnes, BitVec.getLsbD_zero, hi, decide_true] at e ⊢
    revert e
    cases W.getLsbD i <;> cases U.getLsbD i <;> cases M.getLsbD i <;> decide
  · intro h
    apply BitVec.eq_of_getLsbD_eq
    intro i hi
    have e := congrArg (fun x => BitVec.getLsbD x i) h
    simp only [BitVec.getLsbD_and, BitVec.getLsbD_xor, BitVec.getLsbD_allOnes, BitVec.getLsbD_zero, hi, decide_true] at e ⊢
    revert e
    cases W.getLsbD i <;> cases U.getLsbD i <;> cases M.getLsbD i <;> decide
theorem cr_mask (w U m : Int64) (n : Nat) (hm : m.toBitVec.toNat = 2 ^ n - 1) : ((w &&& U) &&& (U &&& (m ^^^ (-1)))) = 0 ↔ (w &&& U).toBitVec.toNat < 2 ^ n := by
  have e0 : (-1 : Int64).toBitVec = BitVec.allOnes 64 := by decide
  have z0 : (0 : Int64).toBitVec = 0#64 := by decide
  rw [← Int64.toBitVec_inj, z0, Int64.toBitVec_and, Int64.toBitVec_and, Int64.toBitVec_and, Int64.toBitVec_xor, e0, cr_bits]
  generalize w.toBitVec &&& U.toBitVec = T
  rw [← BitVec.toNat_inj, BitVec.toNat_and, hm, Nat.and_two_pow_sub_one_eq_mod]
  constructor
  · intro h
    have t := Nat.mod_lt T.toNat (Nat.two_pow_pos n)
    rw [h] at t
    exact t
  · exact Nat.mod_eq_of_lt
theorem cr_shr (t : Int64) (x : UInt64) (n : Nat) (hx : x.toNat % 64 = n) : (t.toUInt64 >>> x).toInt64 = 0 ↔ t.toBitVec.toNat < 2 ^ n := by
  rw [← Int64.toBitVec_inj, ← BitVec.toNat_inj]
  show (t.toUInt64 >>> x).toNat = 0 ↔ t.toUInt64.toNat < 2 ^ n
  rw [UInt64.toNat_shiftRight, hx, Nat.shiftRight_eq_div_pow]
  constructor
  · intro h
    have d : t.toUInt64.toNat / 2 ^ n < 1 := by
      rw [h]
      decide
    have e := (Nat.div_lt_iff_lt_mul (Nat.two_pow_pos n)).mp d
    rw [Nat.one_mul] at e
    exact e
  · exact Nat.div_eq_of_lt
theorem cr_amt (s : Int64) : ∃ n, n < 64 ∧ s &&& 63 = lN n ∧ (s.toUInt64 &&& Int64.toUInt64 63).toNat % 64 = n := by
  have e : (s.toUInt64 &&& Int64.toUInt64 63).toNat = s.toUInt64.toNat % 2 ^ 6 := by
    rw [UInt64.toNat_and, show (Int64.toUInt64 63).toNat = 2 ^ 6 - 1 from by decide, Nat.and_two_pow_sub_one_eq_mod]
  refine ⟨s.toUInt64.toNat % 2 ^ 6, by omega, ?_, by omega⟩
  rw [← Int64.toBitVec_inj, ← BitVec.toNat_inj]
  show (s.toUInt64 &&& Int64.toUInt64 63).toNat = (BitVec.ofNat 64 (s.toUInt64.toNat % 2 ^ 6)).toNat
  rw [e, BitVec.toNat_ofNat]
  omega
end
section
/-! pure part 1: sums, counts, the grammar, trees and least heights -/
theorem fx_ex {α V : Type} (dv : V) (μ : α → Nat) (F : (α → V) → α → V) : ∃ f : α → V, ∀ a, f a = F (fun b => if μ b < μ a then f b else dv) a := by
  refine ⟨(measure μ).wf.fix (fun a r => F (fun b => if h : μ b < μ a then r b h else dv) a), fun a => ?_⟩
  rw [WellFounded.fix_eq]
  apply congrArg (fun z => F z a)
  funext b
  by_cases h : μ b < μ a <;> simp [h]
def sm_S (f : Nat → Nat) : Nat → Nat
  | 0 => 0
  | n + 1 => sm_S f n + f n
theorem sm_le {f h : Nat → Nat} : ∀ {N : Nat}, (∀ k, k < N → f k ≤ h k) → sm_S f N ≤ sm_S h N
  | 0, _ => Nat.le_refl _
  | N + 1, H => by
    have a := sm_le (f := f) (h := h) (N := N) (fun k hk => H k (by omega))
    have b := H N (by omega)
    simp only [sm_S]; omega
theorem sm_lt {f h : Nat → Nat} {a : Nat} (ha : f a < h a) : ∀ {N : Nat}, (∀ k, k < N → f k ≤ h k) → a < N → sm_S f N < sm_S h N
  | 0, _, z => by omega
  | N + 1, H, z => by
    simp only [sm_S]
    have b := H N (by omega)
    rcases Nat.lt_or_ge a N with y | y
    · have x := sm_lt ha (N := N) (fun k hk => H k (by omega)) y
      omega
    · have e : a = N := by omega
      subst e
      have x := sm_le (f := f) (h := h) (N := a) (fun k hk => H k (by omega))
      omega
theorem sm_eq {f h : Nat → Nat} : ∀ {N : Nat}, (∀ k, k < N → f k = h k) → sm_S f N = sm_S h N
  | 0, _ => rfl
  | N + 1, H => by
    have a := sm_eq (f := f) (h := h) (N := N) (fun k hk => H k (by omega))
    have b := H N (by omega)
    simp only [sm_S]; omega
theorem sm_one : ∀ N : Nat, sm_S (fun _ => 1) N = N
  | 0 => rfl
  | N + 1 => by simp only [sm_S]; rw [sm_one N]
theorem sm_zero {f : Nat → Nat} : ∀ {N : Nat}, (∀ k, k < N → f k = 0) → sm_S f N = 0
  | 0, _ => rfl
  | N + 1, H => by
    have a := sm_zero (f := f) (N := N) (fun k hk => H k (by omega))
    have b := H N (by omega)
    simp only [sm_S]; omega
theorem sm_get {f : Nat → Nat} {a : Nat} : ∀ {N : Nat}, a < N → f a ≤ sm_S f N
  | 0, z => by omega
  | N + 1, z => by
    simp only [sm_S]
    rcases Nat.lt_or_ge a N with y | y
    · have x := sm_get (f := f) (N := N) y
      omega
    · have e : a = N := by omega
      subst e
      omega
theorem sm_mono {f : Nat → Nat} {a b : Nat} (h : a ≤ b) : sm_S f a ≤ sm_S f b := by
  induction b with
  | zero => have : a = 0 := by omega
            subst this; exact Nat.le_refl _
  | succ b ih =>
    rcases Nat.lt_or_ge a (b + 1) with y | y
    · have := ih (by omega)
      simp only [sm_S]; omega
    · have : a = b + 1 := by omega
      subst this; exact Nat.le_refl _
/-- zeros up to a, and the same beyond: the sum is the sum from a on -/
theorem sm_from {f : Nat → Nat} {a : Nat} (h : ∀ k, k < a → f k = 0) : sm_S f a = 0 := sm_zero h
noncomputable def cp_b (P : Prop) : Nat := @ite Nat P (Classical.propDecidable P) 1 0
theorem cp_b_t {P : Prop} (h : P) : cp_b P = 1 := by unfold cp_b; rw [if_pos h]
theorem cp_b_f {P : Prop} (h : ¬ P) : cp_b P = 0 := by unfold cp_b; rw [if_neg h]
theorem cp_b_le (P : Prop) : cp_b P ≤ 1 := by
  rcases Classical.em P with h | h
  · rw [cp_b_t h]; omega
  · rw [cp_b_f h]; omega
theorem cp_b_mono {P Q : Prop} (h : P → Q) : cp_b P ≤ cp_b Q := by
  rcases Classical.em P with hp | hp
  · rw [cp_b_t hp, cp_b_t (h hp)]; omega
  · rw [cp_b_f hp]; omega
theorem cp_b_iff {P Q : Prop} (h : P ↔ Q) : cp_b P = cp_b Q := by rw [propext h]
/-- a growing chain of subsets of five stands still within five steps -/
theorem cp_chain (A : Nat → Nat → Prop) (hm : ∀ k m, A k m → A (k + 1) m) : ∃ k, k ≤ 5 ∧ ∀ m, m < 5 → A (k + 1) m → A k m := by
  refine Classical.byContradiction fun hn => ?_
  have H : ∀ k, k ≤ 5 → ∃ m, m < 5 ∧ A (k + 1) m ∧ ¬ A k m := by
    intro k hk
    refine Classical.byContradiction fun hx => hn ⟨k, hk, fun m hm5 ha => ?_⟩
    exact Classical.byContradiction fun hb => hx ⟨m, hm5, ha, hb⟩
  have G : ∀ k, k ≤ 6 → k ≤ sm_S (fun m => cp_b (A k m)) 5 := by
    intro k
    induction k with
    | zero => intro _; omega
    | succ k ih =>
      intro hk
      have a := ih (by omega)
      obtain ⟨m, h5, h1, h2⟩ := H k (by omega)
      have b : sm_S (fun m => cp_b (A k m)) 5 < sm_S (fun m => cp_b (A (k + 1) m)) 5 :=
        sm_lt (a := m) (by show cp_b (A k m) < cp_b (A (k + 1) m); rw [cp_b_t h1, cp_b_f h2]; omega) (fun x _ => cp_b_mono (hm k x)) h5
      omega
  have a := G 6 (by omega)
  have b : sm_S (fun m => cp_b (A 6 m)) 5 ≤ sm_S (fun _ => 1) 5 := sm_le (fun x _ => cp_b_le _)
  rw [sm_one] at b
  omega
theorem cp_least (A : Nat → Prop) (h0 : ¬ A 0) (hm : ∀ r, A r → A (r + 1)) : ∃ h, ∀ r, A r ↔ 0 < h ∧ h ≤ r := by
  have hM : ∀ a d, A a → A (a + d) := by
    intro a d ha
    induction d with
    | zero => exact ha
    | succ d ih => exact hm _ ih
  rcases Classical.em (∃ r, A r) with he | he
  · obtain ⟨k, hk, hl⟩ := pk_least A he
    refine ⟨k, fun r => ⟨fun hr => ⟨?_, ?_⟩, fun hr => ?_⟩⟩
    · rcases Nat.eq_zero_or_pos k with z | z
      · subst z; exact absurd hk h0
      · exact z
    · rcases Nat.lt_or_ge r k with z | z
      · exact absurd hr (hl r z)
      · exact z
    · have := hM k (r - k) hk
      rwa [show k + (r - k) = r by omega] at this
  · exact ⟨0, fun r => ⟨fun hr => absurd ⟨r, hr⟩ he, fun hr => absurd hr.1 (by omega)⟩⟩
/-- a bound for finitely many -/
theorem cp_bound (A : Nat → Nat → Prop) (hm : ∀ k r, A k r → A k (r + 1)) : ∀ N, (∀ k, k < N → ∃ r, A k r) → ∃ r, ∀ k, k < N → A k r
  | 0, _ => ⟨0, fun k hk => absurd hk (by omega)⟩
  | N + 1, h => by
    have hM : ∀ k a d, A k a → A k (a + d) := by
      intro k a d ha
      induction d with
      | zero => exact ha
      | succ d ih => exact hm _ _ ih
    obtain ⟨r, hr⟩ := cp_bound A hm N (fun k hk => h k (by omega))
    obtain ⟨q, hq⟩ := h N (by omega)
    refine ⟨r + q, fun k hk => ?_⟩
    rcases Nat.lt_or_ge k N with y | y
    · exact hM _ _ _ (hr k y)
    · have e : k = N := by omega
      subst e
      have := hM k q r hq
      rwa [Nat.add_comm] at this
/-- the greatest of a bounded set -/
theorem cp_max (A : Nat → Prop) (N : Nat) (hb : ∀ k, A k → k ≤ N) (h : ∃ k, A k) : ∃ k, A k ∧ ∀ j, A j → j ≤ k := by
  obtain ⟨k0, h0⟩ := h
  obtain ⟨d, hd, hl⟩ := pk_least (fun d => A (N - d) ∧ d ≤ N) ⟨N - k0, by have := hb k0 h0; rw [show N - (N - k0) = k0 by omega]; exact ⟨h0, by omega⟩⟩
  refine ⟨N - d, hd.1, fun j hj => ?_⟩
  have hjN := hb j hj
  rcases Nat.lt_or_ge (N - j) d with y | y
  · exact absurd ⟨by rw [show N - (N - j) = j by omega]; exact hj, by omega⟩ (hl (N - j) y)
  · omega
abbrev gm_G : Type := Nat × (Nat → Nat) × (Nat → Nat) × (Nat → Nat)
def gm_P (g : gm_G) : Nat := g.1
def gm_l (g : gm_G) : Nat → Nat := g.2.1
def gm_s (g : gm_G) : Nat → Nat := g.2.2.1
def gm_t (g : gm_G) : Nat → Nat := g.2.2.2
def gm_ok (g : gm_G) : Prop := gm_P g ≤ 12 ∧ ∀ p, p < gm_P g → gm_l g p < 5 ∧
  (∀ k, k < 3 → gm_s g (3 * p + k) < 6 ∨ gm_s g (3 * p + k) = 9 ∨ (10 ≤ gm_s g (3 * p + k) ∧ gm_s g (3 * p + k) < 15)) ∧
  (gm_s g (3 * p) = 9 → gm_s g (3 * p + 1) = 9) ∧ (gm_s g (3 * p + 1) = 9 → gm_s g (3 * p + 2) = 9)
theorem gm_ok_l {g : gm_G} (h : gm_ok g) {p : Nat} (hp : p < gm_P g) : gm_l g p < 5 := (h.2 p hp).1
theorem gm_ok_P {g : gm_G} (h : gm_ok g) : gm_P g ≤ 12 := h.1
theorem gm_ok_s {g : gm_G} (h : gm_ok g) {p k : Nat} (hp : p < gm_P g) (hk : k < 3) : gm_s g (3 * p + k) < 6 ∨ gm_s g (3 * p + k) = 9 ∨ (10 ≤ gm_s g (3 * p + k) ∧ gm_s g (3 * p + k) < 15) := (h.2 p hp).2.1 k hk
theorem gm_ok_15 {g : gm_G} (h : gm_ok g) {p k : Nat} (hp : p < gm_P g) (hk : k < 3) : gm_s g (3 * p + k) < 15 := by
  have := gm_ok_s h hp hk; omega
/-- symbol c stands over i to j, nonterminals by D -/
def gm_Sp (g : gm_G) (D : Nat → Nat → Nat → Prop) (c i j : Nat) : Prop :=
  (10 ≤ c ∧ D (c - 10) i j) ∨ (c = 9 ∧ i = j) ∨ (c < 9 ∧ j = i + 1 ∧ gm_t g i = c)
section
variable {g : gm_G} {D E : Nat → Nat → Nat → Prop} {c i j p u v n r : Nat}
theorem gm_Sp_n (h : 10 ≤ c) : gm_Sp g D c i j ↔ D (c - 10) i j := by
  unfold gm_Sp
  constructor
  · rintro (⟨_, d⟩ | ⟨e, _⟩ | ⟨e, _⟩)
    · exact d
    · omega
    · omega
  · exact fun d => Or.inl ⟨h, d⟩
theorem gm_Sp_9 (h : c = 9) : gm_Sp g D c i j ↔ i = j := by
  unfold gm_Sp
  constructor
  · rintro (⟨_, d⟩ | ⟨_, d⟩ | ⟨e, _⟩)
    · omega
    · exact d
    · omega
  · exact fun d => Or.inr (Or.inl ⟨h, d⟩)
theorem gm_Sp_t (h : c < 9) : gm_Sp g D c i j ↔ j = i + 1 ∧ gm_t g i = c := by
  unfold gm_Sp
  constructor
  · rintro (⟨_, d⟩ | ⟨_, d⟩ | ⟨_, d⟩)
    · omega
    · omega
    · exact d
  · exact fun d => Or.inr (Or.inr ⟨h, d⟩)
theorem gm_Sp_mono (h : 10 ≤ c → D (c - 10) i j → E (c - 10) i j) : gm_Sp g D c i j → gm_Sp g E c i j := by
  rintro (⟨a, d⟩ | d | d)
  · exact Or.inl ⟨a, h a d⟩
  · exact Or.inr (Or.inl d)
  · exact Or.inr (Or.inr d)
theorem gm_Sp_le (h : ∀ n i j, D n i j → i ≤ j) (hs : gm_Sp g D c i j) : i ≤ j := by
  rcases hs with ⟨a, d⟩ | ⟨_, d⟩ | ⟨_, d, _⟩
  · exact h _ _ _ d
  · omega
  · omega
def gm_Dv (g : gm_G) (D : Nat → Nat → Nat → Prop) (p i u v j : Nat) : Prop :=
  i ≤ u ∧ u ≤ v ∧ v ≤ j ∧ gm_Sp g D (gm_s g (3 * p)) i u ∧ gm_Sp g D (gm_s g (3 * p + 1)) u v ∧ gm_Sp g D (gm_s g (3 * p + 2)) v j
theorem gm_Dv_mono (h : ∀ n a b, i ≤ a → b ≤ j → D n a b → E n a b) : gm_Dv g D p i u v j → gm_Dv g E p i u v j := by
  rintro ⟨h1, h2, h3, a, b, d⟩
  exact ⟨h1, h2, h3, gm_Sp_mono (fun _ => h _ _ _ (by omega) (by omega)) a, gm_Sp_mono (fun _ => h _ _ _ (by omega) (by omega)) b, gm_Sp_mono (fun _ => h _ _ _ (by omega) (by omega)) d⟩
def gm_T (g : gm_G) : Nat → Nat → Nat → Nat → Prop
  | 0 => fun _ _ _ => False
  | r + 1 => fun n i j => ∃ p, p < gm_P g ∧ gm_l g p = n ∧ ∃ u v, gm_Dv g (gm_T g r) p i u v j
theorem gm_T_succ : ∀ {r n i j : Nat}, gm_T g r n i j → gm_T g (r + 1) n i j
  | 0, _, _, _, h => h.elim
  | r + 1, n, i, j, ⟨p, hp, hl, u, v, h⟩ => ⟨p, hp, hl, u, v, gm_Dv_mono (fun _ _ _ _ _ => gm_T_succ) h⟩
theorem gm_T_le : gm_T g r n i j → i ≤ j := by
  cases r with
  | zero => exact fun h => h.elim
  | succ r => rintro ⟨p, hp, hl, u, v, h1, h2, h3, _⟩; omega
theorem gm_T_mono {r' : Nat} (h : gm_T g r n i j) (hr : r ≤ r') : gm_T g r' n i j := by
  have : ∀ d, gm_T g (r + d) n i j := by
    intro d
    induction d with
    | zero => exact h
    | succ d ih => exact gm_T_succ ih
  have e := this (r' - r)
  rwa [show r + (r' - r) = r' by omega] at e
def gm_D (g : gm_G) (n i j : Nat) : Prop := ∃ r, gm_T g r n i j
theorem gm_D_le (h : gm_D g n i j) : i ≤ j := h.elim fun _ h => gm_T_le h
theorem gm_ht_ex (g : gm_G) (n i j : Nat) : ∃ h, ∀ r, gm_T g r n i j ↔ 0 < h ∧ h ≤ r :=
  cp_least (fun r => gm_T g r n i j) (fun h => h) (fun _ h => gm_T_succ h)
noncomputable def gm_Ht (g : gm_G) (n i j : Nat) : Nat := Classical.choose (gm_ht_ex g n i j)
theorem gm_T_iff : gm_T g r n i j ↔ 0 < gm_Ht g n i j ∧ gm_Ht g n i j ≤ r := Classical.choose_spec (gm_ht_ex g n i j) r
theorem gm_D_iff : gm_D g n i j ↔ 0 < gm_Ht g n i j :=
  ⟨fun ⟨_, h⟩ => (gm_T_iff.mp h).1, fun h => ⟨gm_Ht g n i j, gm_T_iff.mpr ⟨h, Nat.le_refl _⟩⟩⟩
theorem gm_TD (h : gm_T g r n i j) : gm_D g n i j := ⟨r, h⟩
theorem gm_Sp_r (h : gm_Sp g (gm_D g) c i j) : ∃ r, ∀ r', r ≤ r' → gm_Sp g (gm_T g r') c i j := by
  rcases h with ⟨a, r, d⟩ | d | d
  · exact ⟨r, fun r' hr => Or.inl ⟨a, gm_T_mono d hr⟩⟩
  · exact ⟨0, fun r' hr => Or.inr (Or.inl d)⟩
  · exact ⟨0, fun r' hr => Or.inr (Or.inr d)⟩
theorem gm_D_mk (hp : p < gm_P g) (h : gm_Dv g (gm_D g) p i u v j) : gm_D g (gm_l g p) i j := by
  obtain ⟨h1, h2, h3, a, b, d⟩ := h
  obtain ⟨r1, a⟩ := gm_Sp_r a
  obtain ⟨r2, b⟩ := gm_Sp_r b
  obtain ⟨r3, d⟩ := gm_Sp_r d
  exact ⟨r1 + r2 + r3 + 1, p, hp, rfl, u, v, h1, h2, h3, a _ (by omega), b _ (by omega), d _ (by omega)⟩
theorem gm_Dv_TD (h : gm_Dv g (gm_T g r) p i u v j) : gm_Dv g (gm_D g) p i u v j := gm_Dv_mono (fun _ _ _ _ _ h => gm_TD h) h
/-- the tree of least height -/
theorem gm_Ht_inv (h : 0 < gm_Ht g n i j) : ∃ p, p < gm_P g ∧ gm_l g p = n ∧ ∃ u v, gm_Dv g (gm_T g (gm_Ht g n i j - 1)) p i u v j := by
  have t : gm_T g (gm_Ht g n i j) n i j := gm_T_iff.mpr ⟨h, Nat.le_refl _⟩
  obtain ⟨q, hq⟩ : ∃ q, gm_Ht g n i j = q + 1 := ⟨gm_Ht g n i j - 1, by omega⟩
  rw [hq] at t
  rw [hq]
  exact t
theorem gm_D_inv (h : gm_D g n i j) : ∃ p, p < gm_P g ∧ gm_l g p = n ∧ ∃ u v, gm_Dv g (gm_D g) p i u v j := by
  obtain ⟨p, hp, hl, u, v, d⟩ := gm_Ht_inv (gm_D_iff.mp h)
  exact ⟨p, hp, hl, u, v, gm_Dv_TD d⟩
theorem gm_D_ind {Q : Nat → Nat → Nat → Prop} (h : ∀ p i u v j, p < gm_P g → gm_Dv g (fun n a b => gm_D g n a b ∧ Q n a b) p i u v j → Q (gm_l g p) i j) : ∀ {n i j}, gm_D g n i j → Q n i j := by
  have key : ∀ r n i j, gm_T g r n i j → Q n i j := by
    intro r
    induction r with
    | zero => intro n i j h; exact h.elim
    | succ r ih =>
      rintro n i j ⟨p, hp, hl, u, v, d⟩
      subst hl
      exact h p i u v j hp (gm_Dv_mono (fun n a b _ _ t => ⟨gm_TD t, ih n a b t⟩) d)
  rintro n i j ⟨r, t⟩
  exact key r n i j t
theorem gm_Ht_5 (ok : gm_ok g) (h : 0 < gm_Ht g n i j) : n < 5 := by
  obtain ⟨p, hp, hl, _⟩ := gm_Ht_inv h
  rw [← hl]; exact gm_ok_l ok hp
theorem gm_Ht_ij (h : 0 < gm_Ht g n i j) : i ≤ j := gm_D_le (gm_D_iff.mpr h)
/-- a division by trees of height at most r gives a tree of height at most r + 1 -/
theorem gm_Ht_mk (hp : p < gm_P g) (h : gm_Dv g (gm_T g r) p i u v j) : 0 < gm_Ht g (gm_l g p) i j ∧ gm_Ht g (gm_l g p) i j ≤ r + 1 :=
  gm_T_iff.mp (⟨p, hp, rfl, u, v, h⟩ : gm_T g (r + 1) (gm_l g p) i j)
/-- heights are without gaps -/
theorem gm_Ht_gap (ok : gm_ok g) (h : gm_Ht g n i j = r + 1) (hr : 0 < r) : ∃ m a b, m < 5 ∧ i ≤ a ∧ a ≤ b ∧ b ≤ j ∧ gm_Ht g m a b = r := by
  obtain ⟨p, hp, hl, u, v, d⟩ := gm_Ht_inv (g := g) (n := n) (i := i) (j := j) (by omega)
  rw [h, Nat.add_sub_cancel] at d
  refine Classical.byContradiction fun hn => ?_
  have H : ∀ m a b, i ≤ a → b ≤ j → gm_T g r m a b → gm_T g (r - 1) m a b := by
    intro m a b ha hb t
    obtain ⟨t1, t2⟩ := gm_T_iff.mp t
    refine gm_T_iff.mpr ⟨t1, ?_⟩
    rcases Nat.lt_or_ge (gm_Ht g m a b) r with y | y
    · omega
    · exact absurd ⟨m, a, b, gm_Ht_5 ok t1, ha, gm_Ht_ij t1, hb, by omega⟩ hn
  have e := gm_Ht_mk hp (gm_Dv_mono H d)
  rw [hl] at e
  omega
/-- how many of five have a lesser one -/
def gm_rk (f : Nat → Nat) (x : Nat) : Nat := sm_S (fun m => if 0 < f m ∧ f m < x then 1 else 0) 5
theorem gm_rk_lt {f : Nat → Nat} {m x : Nat} (hm : m < 5) (h0 : 0 < f m) (h : f m < x) : gm_rk f (f m) < gm_rk f x := by
  refine sm_lt (a := m) ?_ (fun k _ => ?_) hm
  · show (if 0 < f m ∧ f m < f m then 1 else 0) < (if 0 < f m ∧ f m < x then 1 else 0)
    rw [if_neg (by omega), if_pos ⟨h0, h⟩]; omega
  · show (if 0 < f k ∧ f k < f m then 1 else 0) ≤ (if 0 < f k ∧ f k < x then 1 else 0)
    by_cases z : 0 < f k ∧ f k < f m
    · rw [if_pos z, if_pos (by omega)]; omega
    · rw [if_neg z]; omega
theorem gm_rk_4 {f : Nat → Nat} {n : Nat} (hn : n < 5) : gm_rk f (f n) ≤ 4 := by
  have : gm_rk f (f n) < sm_S (fun _ => 1) 5 := by
    refine sm_lt (a := n) ?_ (fun k _ => ?_) hn
    · show (if 0 < f n ∧ f n < f n then 1 else 0) < 1
      rw [if_neg (by omega)]; omega
    · show (if 0 < f k ∧ f k < f n then 1 else 0) ≤ 1
      by_cases z : 0 < f k ∧ f k < f n
      · rw [if_pos z]; omega
      · rw [if_neg z]; omega
  rw [sm_one] at this
  omega
theorem gm_Ht_bd (ok : gm_ok g) : ∀ len i j, i ≤ j → j - i < len → ∀ n, gm_Ht g n i j ≤ 5 * (j - i + 1) := by
  intro len
  induction len with
  | zero => intro i j _ h; omega
  | succ len ih =>
    intro i j hij hlen n
    have hB : ∀ m a b, i ≤ a → a ≤ b → b ≤ j → (i < a ∨ b < j) → gm_Ht g m a b ≤ 5 * (j - i) := by
      intro m a b h1 h2 h3 h4
      have := ih a b h2 (by omega) m
      omega
    have key : ∀ h n, gm_Ht g n i j = h → h ≤ 5 * (j - i) + 1 + gm_rk (fun m => gm_Ht g m i j) h := by
      intro h
      induction h with
      | zero => intro n _; omega
      | succ h ihh =>
        intro n hn
        rcases Nat.eq_zero_or_pos h with z | z
        · omega
        · obtain ⟨m, a, b, h5, h1, h2, h3, e⟩ := gm_Ht_gap ok hn z
          by_cases w : i < a ∨ b < j
          · have := hB m a b h1 h2 h3 w
            omega
          · have ea : a = i := by omega
            have eb : b = j := by omega
            subst ea; subst eb
            have q := ihh m e
            have k : gm_rk (fun m => gm_Ht g m a b) ((fun m => gm_Ht g m a b) m) < gm_rk (fun m => gm_Ht g m a b) (h + 1) :=
              gm_rk_lt h5 (by show 0 < gm_Ht g m a b; omega) (by show gm_Ht g m a b < h + 1; omega)
            have k' : gm_rk (fun m => gm_Ht g m a b) h < gm_rk (fun m => gm_Ht g m a b) (h + 1) := by rw [← e]; rw [← e] at k; exact k
            omega
    rcases Nat.eq_zero_or_pos (gm_Ht g n i j) with z | z
    · omega
    · have a := key _ n rfl
      have b : gm_rk (fun m => gm_Ht g m i j) (gm_Ht g n i j) ≤ 4 := gm_rk_4 (f := fun m => gm_Ht g m i j) (gm_Ht_5 ok z)
      omega
theorem gm_Ht_B (ok : gm_ok g) (hj : j ≤ 10) : gm_Ht g n i j ≤ 55 := by
  rcases Nat.eq_zero_or_pos (gm_Ht g n i j) with z | z
  · omega
  · have := gm_Ht_bd ok (j - i + 1) i j (gm_Ht_ij z) (by omega) n
    omega
end
end
section
/-! pure part 2: finitely many trees, their number, the chosen tree, its nodes -/
section
variable {g : gm_G} {D E : Nat → Nat → Nat → Prop} {c i j p u v n r : Nat}
def gm_Sf (F : Nat → Nat → Nat → Prop) (c i j : Nat) : Prop := 10 ≤ c → F (c - 10) i j
def gm_Fn (g : gm_G) : Nat → Nat → Nat → Nat → Prop
  | 0 => fun _ _ _ => False
  | r + 1 => fun n i j => ∀ p u v, p < gm_P g → gm_l g p = n → gm_Dv g (gm_D g) p i u v j →
      gm_Sf (gm_Fn g r) (gm_s g (3 * p)) i u ∧ gm_Sf (gm_Fn g r) (gm_s g (3 * p + 1)) u v ∧ gm_Sf (gm_Fn g r) (gm_s g (3 * p + 2)) v j
theorem gm_Fn_succ : ∀ {r n i j : Nat}, gm_Fn g r n i j → gm_Fn g (r + 1) n i j
  | 0, _, _, _, h => h.elim
  | r + 1, n, i, j, h => fun p u v hp hl hd =>
    ⟨fun z => gm_Fn_succ ((h p u v hp hl hd).1 z), fun z => gm_Fn_succ ((h p u v hp hl hd).2.1 z), fun z => gm_Fn_succ ((h p u v hp hl hd).2.2 z)⟩
theorem gm_fl_ex (g : gm_G) (n i j : Nat) : ∃ h, ∀ r, gm_Fn g r n i j ↔ 0 < h ∧ h ≤ r :=
  cp_least (fun r => gm_Fn g r n i j) (fun h => h) (fun _ h => gm_Fn_succ h)
noncomputable def gm_fl (g : gm_G) (n i j : Nat) : Nat := Classical.choose (gm_fl_ex g n i j)
theorem gm_Fn_iff : gm_Fn g r n i j ↔ 0 < gm_fl g n i j ∧ gm_fl g n i j ≤ r := Classical.choose_spec (gm_fl_ex g n i j) r
/-- finitely many trees -/
def gm_F (g : gm_G) (n i j : Nat) : Prop := 0 < gm_fl g n i j
theorem gm_F_inv (h : gm_F g n i j) (hp : p < gm_P g) (hl : gm_l g p = n) (hd : gm_Dv g (gm_D g) p i u v j) :
    gm_Sf (fun m a b => gm_F g m a b ∧ gm_fl g m a b < gm_fl g n i j) (gm_s g (3 * p)) i u ∧
    gm_Sf (fun m a b => gm_F g m a b ∧ gm_fl g m a b < gm_fl g n i j) (gm_s g (3 * p + 1)) u v ∧
    gm_Sf (fun m a b => gm_F g m a b ∧ gm_fl g m a b < gm_fl g n i j) (gm_s g (3 * p + 2)) v j := by
  have t : gm_Fn g (gm_fl g n i j) n i j := gm_Fn_iff.mpr ⟨h, Nat.le_refl _⟩
  have h' : 0 < gm_fl g n i j := h
  obtain ⟨q, hq⟩ : ∃ q, gm_fl g n i j = q + 1 := ⟨gm_fl g n i j - 1, by omega⟩
  rw [hq] at t ⊢
  obtain ⟨x, y, z⟩ := t p u v hp hl hd
  refine ⟨fun k => ?_, fun k => ?_, fun k => ?_⟩
  · have := gm_Fn_iff.mp (x k); exact ⟨this.1, by omega⟩
  · have := gm_Fn_iff.mp (y k); exact ⟨this.1, by omega⟩
  · have := gm_Fn_iff.mp (z k); exact ⟨this.1, by omega⟩
theorem gm_Sf_Fn {r' : Nat} (h : gm_Sf (gm_Fn g r) c i j) (hr : r ≤ r') : gm_Sf (gm_Fn g r') c i j := fun z => by
  have := gm_Fn_iff.mp (h z)
  exact gm_Fn_iff.mpr ⟨this.1, by omega⟩
theorem gm_F_mk (h : ∀ p u v, p < gm_P g → gm_l g p = n → gm_Dv g (gm_D g) p i u v j →
      gm_Sf (gm_F g) (gm_s g (3 * p)) i u ∧ gm_Sf (gm_F g) (gm_s g (3 * p + 1)) u v ∧ gm_Sf (gm_F g) (gm_s g (3 * p + 2)) v j) : gm_F g n i j := by
  let A : Nat → Nat → Nat → Nat → Prop := fun p u v r => gm_l g p = n → gm_Dv g (gm_D g) p i u v j →
      gm_Sf (gm_Fn g r) (gm_s g (3 * p)) i u ∧ gm_Sf (gm_Fn g r) (gm_s g (3 * p + 1)) u v ∧ gm_Sf (gm_Fn g r) (gm_s g (3 * p + 2)) v j
  have hA : ∀ p u v r, A p u v r → A p u v (r + 1) := fun p u v r ha hl hd =>
    ⟨gm_Sf_Fn (ha hl hd).1 (by omega), gm_Sf_Fn (ha hl hd).2.1 (by omega), gm_Sf_Fn (ha hl hd).2.2 (by omega)⟩
  have S : ∀ c a b, gm_Sf (gm_F g) c a b → gm_Sf (gm_Fn g (gm_fl g (c - 10) a b)) c a b := fun c a b k z => gm_Fn_iff.mpr ⟨k z, Nat.le_refl _⟩
  have h3 : ∀ p u v, p < gm_P g → ∃ r, A p u v r := by
    intro p u v hp
    rcases Classical.em (gm_l g p = n ∧ gm_Dv g (gm_D g) p i u v j) with w | w
    · obtain ⟨x, y, z⟩ := h p u v hp w.1 w.2
      exact ⟨gm_fl g (gm_s g (3 * p) - 10) i u + gm_fl g (gm_s g (3 * p + 1) - 10) u v + gm_fl g (gm_s g (3 * p + 2) - 10) v j, fun _ _ =>
        ⟨gm_Sf_Fn (S _ _ _ x) (by omega), gm_Sf_Fn (S _ _ _ y) (by omega), gm_Sf_Fn (S _ _ _ z) (by omega)⟩⟩
    · exact ⟨0, fun a b => absurd ⟨a, b⟩ w⟩
  have h2 : ∀ p u, p < gm_P g → ∃ r, ∀ v, v < j + 1 → A p u v r := fun p u hp =>
    cp_bound (fun v r => A p u v r) (fun v r => hA p u v r) (j + 1) (fun v _ => h3 p u v hp)
  have h1 : ∀ p, p < gm_P g → ∃ r, ∀ u, u < j + 1 → ∀ v, v < j + 1 → A p u v r := fun p hp =>
    cp_bound (fun u r => ∀ v, v < j + 1 → A p u v r) (fun u r k v hv => hA p u v r (k v hv)) (j + 1) (fun u _ => h2 p u hp)
  obtain ⟨r, hr⟩ := cp_bound (fun p r => ∀ u, u < j + 1 → ∀ v, v < j + 1 → A p u v r) (fun p r k u hu v hv => hA p u v r (k u hu v hv)) (gm_P g) h1
  have t : gm_Fn g (r + 1) n i j := fun p u v hp hl hd => by
    have a1 := hd.1
    have a2 := hd.2.1
    have a3 := hd.2.2.1
    exact hr p hp u (by omega) v (by omega) hl hd
  exact (gm_Fn_iff.mp t).1
/-- induction over the level of finiteness -/
theorem gm_F_ind {Q : Nat → Nat → Nat → Prop} (h : ∀ n i j, gm_F g n i j → (∀ m a b, gm_F g m a b → gm_fl g m a b < gm_fl g n i j → Q m a b) → Q n i j) : ∀ {n i j}, gm_F g n i j → Q n i j := by
  have key : ∀ r n i j, gm_fl g n i j < r → gm_F g n i j → Q n i j := by
    intro r
    induction r with
    | zero => intro n i j h; omega
    | succ r ih => exact fun n i j hr hf => h n i j hf (fun m a b hm hlt => ih m a b (by omega) hm)
  exact fun {n i j} hf => key _ n i j (Nat.lt_succ_self _) hf
/-- the number of trees, at most 10^9 -/
def gm_Mp (f : Nat → Nat → Nat → Nat) (c i j : Nat) : Nat := if 10 ≤ c then f (c - 10) i j else 1
noncomputable def gm_tm (g : gm_G) (f : Nat → Nat → Nat → Nat) (p i u v j : Nat) : Nat :=
  cp_b (gm_Dv g (gm_D g) p i u v j) * (gm_Mp f (gm_s g (3 * p)) i u * gm_Mp f (gm_s g (3 * p + 1)) u v * gm_Mp f (gm_s g (3 * p + 2)) v j)
noncomputable def gm_tp (g : gm_G) (f : Nat → Nat → Nat → Nat) (n p i j : Nat) : Nat :=
  if gm_l g p = n then sm_S (fun u => sm_S (fun v => gm_tm g f p i u v j) (j + 1)) (j + 1) else 0
noncomputable def gm_Ms (g : gm_G) (f : Nat → Nat → Nat → Nat) (n i j : Nat) : Nat :=
  min 1000000000 (sm_S (fun p => gm_tp g f n p i j) (gm_P g))
theorem gm_M_ex (g : gm_G) : ∃ f : Nat × Nat × Nat → Nat, ∀ a, f a = gm_Ms g (fun x y z => if gm_fl g x y z < gm_fl g a.1 a.2.1 a.2.2 then f (x, y, z) else 0) a.1 a.2.1 a.2.2 :=
  fx_ex 0 (fun a : Nat × Nat × Nat => gm_fl g a.1 a.2.1 a.2.2) (fun f a => gm_Ms g (fun x y z => f (x, y, z)) a.1 a.2.1 a.2.2)
noncomputable def gm_M (g : gm_G) (n i j : Nat) : Nat := Classical.choose (gm_M_ex g) (n, i, j)
theorem gm_tm_0 {f : Nat → Nat → Nat → Nat} (h : ¬ gm_Dv g (gm_D g) p i u v j) : gm_tm g f p i u v j = 0 := by
  unfold gm_tm; rw [cp_b_f h, Nat.zero_mul]
theorem gm_tm_1 {f : Nat → Nat → Nat → Nat} (h : gm_Dv g (gm_D g) p i u v j) : gm_tm g f p i u v j = gm_Mp f (gm_s g (3 * p)) i u * gm_Mp f (gm_s g (3 * p + 1)) u v * gm_Mp f (gm_s g (3 * p + 2)) v j := by
  unfold gm_tm; rw [cp_b_t h, Nat.one_mul]
theorem gm_Mp_eq {f k : Nat → Nat → Nat → Nat} (h : 10 ≤ c → f (c - 10) i j = k (c - 10) i j) : gm_Mp f c i j = gm_Mp k c i j := by
  unfold gm_Mp
  by_cases z : 10 ≤ c
  · rw [if_pos z, if_pos z, h z]
  · rw [if_neg z, if_neg z]
/-- two tables that agree on the parts give the same sum -/
theorem gm_tm_eq {f k : Nat → Nat → Nat → Nat} (h : gm_Dv g (gm_D g) p i u v j →
      gm_Sf (fun m a b => f m a b = k m a b) (gm_s g (3 * p)) i u ∧ gm_Sf (fun m a b => f m a b = k m a b) (gm_s g (3 * p + 1)) u v ∧ gm_Sf (fun m a b => f m a b = k m a b) (gm_s g (3 * p + 2)) v j) : gm_tm g f p i u v j = gm_tm g k p i u v j := by
  rcases Classical.em (gm_Dv g (gm_D g) p i u v j) with w | w
  · obtain ⟨x, y, z⟩ := h w
    rw [gm_tm_1 w, gm_tm_1 w, gm_Mp_eq x, gm_Mp_eq y, gm_Mp_eq z]
  · rw [gm_tm_0 w, gm_tm_0 w]
theorem gm_Ms_eq {f k : Nat → Nat → Nat → Nat} (h : ∀ p u v, p < gm_P g → gm_l g p = n → gm_Dv g (gm_D g) p i u v j →
      gm_Sf (fun m a b => f m a b = k m a b) (gm_s g (3 * p)) i u ∧ gm_Sf (fun m a b => f m a b = k m a b) (gm_s g (3 * p + 1)) u v ∧ gm_Sf (fun m a b => f m a b = k m a b) (gm_s g (3 * p + 2)) v j) : gm_Ms g f n i j = gm_Ms g k n i j := by
  unfold gm_Ms
  apply congrArg (min 1000000000)
  refine sm_eq fun p hp => ?_
  unfold gm_tp
  by_cases hl : gm_l g p = n
  · rw [if_pos hl, if_pos hl]
    exact sm_eq fun u _ => sm_eq fun v _ => gm_tm_eq (h p u v hp hl)
  · rw [if_neg hl, if_neg hl]
theorem gm_M_eq (hf : gm_F g n i j) : gm_M g n i j = gm_Ms g (gm_M g) n i j := by
  have e := Classical.choose_spec (gm_M_ex g) (n, i, j)
  refine e.trans (gm_Ms_eq fun p u v hp hl hd => ?_)
  obtain ⟨x, y, z⟩ := gm_F_inv hf hp hl hd
  exact ⟨fun q => if_pos (x q).2, fun q => if_pos (y q).2, fun q => if_pos (z q).2⟩
theorem gm_M_pos (hf : gm_F g n i j) : gm_D g n i j → 0 < gm_M g n i j := by
  refine gm_F_ind (Q := fun n i j => gm_D g n i j → 0 < gm_M g n i j) (fun n i j hf ih hD => ?_) hf
  rw [gm_M_eq hf]
  obtain ⟨p, hp, hl, u, v, hd⟩ := gm_D_inv hD
  obtain ⟨x, y, z⟩ := gm_F_inv hf hp hl hd
  have K : ∀ c a b, gm_Sp g (gm_D g) c a b → gm_Sf (fun m a b => gm_F g m a b ∧ gm_fl g m a b < gm_fl g n i j) c a b → 0 < gm_Mp (gm_M g) c a b := by
    intro c a b hs hq
    unfold gm_Mp
    by_cases w : 10 ≤ c
    · rw [if_pos w]
      exact ih _ _ _ (hq w).1 (hq w).2 ((gm_Sp_n w).mp hs)
    · rw [if_neg w]; omega
  have t : 0 < gm_tm g (gm_M g) p i u v j := by
    rw [gm_tm_1 hd]
    exact Nat.mul_pos (Nat.mul_pos (K _ _ _ hd.2.2.2.1 x) (K _ _ _ hd.2.2.2.2.1 y)) (K _ _ _ hd.2.2.2.2.2 z)
  have h2 := hd.2.1
  have h3 := hd.2.2.1
  have a : gm_tm g (gm_M g) p i u v j ≤ sm_S (fun v => gm_tm g (gm_M g) p i u v j) (j + 1) := sm_get (f := fun v => gm_tm g (gm_M g) p i u v j) (by omega)
  have b : sm_S (fun v => gm_tm g (gm_M g) p i u v j) (j + 1) ≤ sm_S (fun u => sm_S (fun v => gm_tm g (gm_M g) p i u v j) (j + 1)) (j + 1) := sm_get (f := fun u => sm_S (fun v => gm_tm g (gm_M g) p i u v j) (j + 1)) (by omega)
  have d : gm_tp g (gm_M g) n p i j ≤ sm_S (fun p => gm_tp g (gm_M g) n p i j) (gm_P g) := sm_get (f := fun p => gm_tp g (gm_M g) n p i j) hp
  have e : gm_tp g (gm_M g) n p i j = sm_S (fun u => sm_S (fun v => gm_tm g (gm_M g) p i u v j) (j + 1)) (j + 1) := by unfold gm_tp; rw [if_pos hl]
  unfold gm_Ms
  omega
theorem gm_M_0 (hD : ¬ gm_D g n i j) : gm_F g n i j ∧ gm_M g n i j = 0 := by
  have hf : gm_F g n i j := gm_F_mk fun p u v hp hl hd => absurd (hl ▸ gm_D_mk hp hd) hD
  refine ⟨hf, ?_⟩
  rw [gm_M_eq hf]
  unfold gm_Ms
  have : sm_S (fun p => gm_tp g (gm_M g) n p i j) (gm_P g) = 0 := sm_zero fun p hp => by
    unfold gm_tp
    by_cases hl : gm_l g p = n
    · rw [if_pos hl]
      exact sm_zero fun u _ => sm_zero fun v _ => gm_tm_0 fun hd => hD (hl ▸ gm_D_mk hp hd)
    · rw [if_neg hl]
  rw [this]; rfl
theorem gm_Ms_le (f : Nat → Nat → Nat → Nat) : gm_Ms g f n i j ≤ 1000000000 := Nat.min_le_left _ _
theorem gm_M_le : gm_M g n i j ≤ 1000000000 := by
  have e := Classical.choose_spec (gm_M_ex g) (n, i, j)
  have : gm_M g n i j = _ := e
  rw [this]
  exact gm_Ms_le _
/-- the chosen tree: first production, last cuts -/
def gm_IsC (g : gm_G) (n i j p u v : Nat) : Prop := p < gm_P g ∧ gm_l g p = n ∧ gm_Dv g (gm_T g (gm_Ht g n i j - 1)) p i u v j ∧
  (∀ p' u' v', p' < p → gm_l g p' = n → ¬ gm_Dv g (gm_T g (gm_Ht g n i j - 1)) p' i u' v' j) ∧
  (∀ u' v', gm_Dv g (gm_T g (gm_Ht g n i j - 1)) p i u' v' j → u' < u ∨ (u' = u ∧ v' ≤ v))
theorem gm_IsC_ex (h : 0 < gm_Ht g n i j) : ∃ a : Nat × Nat × Nat, gm_IsC g n i j a.1 a.2.1 a.2.2 := by
  obtain ⟨p0, hp0, hl0, u0, v0, d0⟩ := gm_Ht_inv h
  obtain ⟨p, ⟨hp, hl, u1, v1, d1⟩, hm⟩ := pk_least (fun p => p < gm_P g ∧ gm_l g p = n ∧ ∃ u v, gm_Dv g (gm_T g (gm_Ht g n i j - 1)) p i u v j) ⟨p0, hp0, hl0, u0, v0, d0⟩
  obtain ⟨u, ⟨v2, d2⟩, hu⟩ := cp_max (fun u => ∃ v, gm_Dv g (gm_T g (gm_Ht g n i j - 1)) p i u v j) j (fun u ⟨v, d⟩ => by have := d.2.1; have := d.2.2.1; omega) ⟨u1, v1, d1⟩
  obtain ⟨v, d, hv⟩ := cp_max (fun v => gm_Dv g (gm_T g (gm_Ht g n i j - 1)) p i u v j) j (fun v d => d.2.2.1) ⟨v2, d2⟩
  refine ⟨(p, u, v), hp, hl, d, fun p' u' v' hlt hl' hd' => hm p' hlt ⟨by omega, hl', u', v', hd'⟩, fun u' v' hd' => ?_⟩
  have a := hu u' ⟨v', hd'⟩
  show u' < u ∨ (u' = u ∧ v' ≤ v)
  rcases Nat.lt_or_ge u' u with y | y
  · exact Or.inl y
  · have e : u' = u := by omega
    subst e
    exact Or.inr ⟨rfl, hv v' hd'⟩
theorem gm_IsC_un {p' u' v' : Nat} (h : gm_IsC g n i j p u v) (h' : gm_IsC g n i j p' u' v') : p' = p ∧ u' = u ∧ v' = v := by
  obtain ⟨a1, a2, a3, a4, a5⟩ := h
  obtain ⟨b1, b2, b3, b4, b5⟩ := h'
  have e : p' = p := by
    rcases Nat.lt_or_ge p' p with y | y
    · exact absurd b3 (a4 p' u' v' y b2)
    · rcases Nat.lt_or_ge p p' with z | z
      · exact absurd a3 (b4 p u v z a2)
      · omega
  subst e
  have x := a5 u' v' b3
  have y := b5 u v a3
  omega
noncomputable def gm_C (g : gm_G) (n i j : Nat) : Nat × Nat × Nat := @dite _ (0 < gm_Ht g n i j) (Classical.propDecidable _) (fun h => Classical.choose (gm_IsC_ex h)) (fun _ => (0, 0, 0))
theorem gm_C_is (h : 0 < gm_Ht g n i j) : gm_IsC g n i j (gm_C g n i j).1 (gm_C g n i j).2.1 (gm_C g n i j).2.2 := by
  unfold gm_C
  rw [dif_pos h]
  exact Classical.choose_spec (gm_IsC_ex h)
theorem gm_C_eq (h : gm_IsC g n i j p u v) (h0 : 0 < gm_Ht g n i j) : gm_C g n i j = (p, u, v) := by
  obtain ⟨e1, e2, e3⟩ := gm_IsC_un h (gm_C_is h0)
  exact Prod.ext e1 (Prod.ext e2 e3)
theorem gm_TH (h : gm_T g (r - 1) n i j) (hr : 0 < r) : 0 < gm_Ht g n i j ∧ gm_Ht g n i j < r := by
  have := gm_T_iff.mp h; omega
/-- a table by recursion over heights: parts of the chosen tree are lower -/
theorem gm_rec_ex {V : Type} (dv : V) (g : gm_G) (F : (Nat → Nat → Nat → V) → Nat → Nat → Nat → Nat → Nat → V) : ∃ f : Nat × Nat × Nat → V, ∀ a, f a = F (fun x y z => if gm_Ht g x y z < gm_Ht g a.1 a.2.1 a.2.2 then f (x, y, z) else dv) (gm_C g a.1 a.2.1 a.2.2).1 a.2.1 (gm_C g a.1 a.2.1 a.2.2).2.1 (gm_C g a.1 a.2.1 a.2.2).2.2 a.2.2 :=
  fx_ex dv (fun a : Nat × Nat × Nat => gm_Ht g a.1 a.2.1 a.2.2) (fun f a => F (fun x y z => f (x, y, z)) (gm_C g a.1 a.2.1 a.2.2).1 a.2.1 (gm_C g a.1 a.2.1 a.2.2).2.1 (gm_C g a.1 a.2.1 a.2.2).2.2 a.2.2)
def gm_Np (f : Nat → Nat → Nat → Nat) (c i j : Nat) : Nat := if 10 ≤ c then f (c - 10) i j else 0
def gm_Ns (g : gm_G) (f : Nat → Nat → Nat → Nat) (p i u v j : Nat) : Nat :=
  1 + gm_Np f (gm_s g (3 * p)) i u + gm_Np f (gm_s g (3 * p + 1)) u v + gm_Np f (gm_s g (3 * p + 2)) v j
/-- the number of nodes of the chosen tree -/
noncomputable def gm_N (g : gm_G) (n i j : Nat) : Nat := Classical.choose (gm_rec_ex 0 g (gm_Ns g)) (n, i, j)
theorem gm_Np_eq {f k : Nat → Nat → Nat → Nat} (h : 10 ≤ c → f (c - 10) i j = k (c - 10) i j) : gm_Np f c i j = gm_Np k c i j := by
  unfold gm_Np
  by_cases z : 10 ≤ c
  · rw [if_pos z, if_pos z, h z]
  · rw [if_neg z, if_neg z]
theorem gm_Ns_eq {f k : Nat → Nat → Nat → Nat} (x : 10 ≤ gm_s g (3 * p) → f (gm_s g (3 * p) - 10) i u = k (gm_s g (3 * p) - 10) i u) (y : 10 ≤ gm_s g (3 * p + 1) → f (gm_s g (3 * p + 1) - 10) u v = k (gm_s g (3 * p + 1) - 10) u v) (z : 10 ≤ gm_s g (3 * p + 2) → f (gm_s g (3 * p + 2) - 10) v j = k (gm_s g (3 * p + 2) - 10) v j) : gm_Ns g f p i u v j = gm_Ns g k p i u v j := by
  unfold gm_Ns
  rw [gm_Np_eq x, gm_Np_eq y, gm_Np_eq z]
theorem gm_N_eq (h : gm_IsC g n i j p u v) (h0 : 0 < gm_Ht g n i j) : gm_N g n i j = gm_Ns g (gm_N g) p i u v j := by
  have e := Classical.choose_spec (gm_rec_ex 0 g (gm_Ns g)) (n, i, j)
  refine Eq.trans e ?_
  show gm_Ns g _ (gm_C g n i j).1 i (gm_C g n i j).2.1 (gm_C g n i j).2.2 j = _
  rw [gm_C_eq h h0]
  obtain ⟨-, -, ⟨-, -, -, a, b, d⟩, -⟩ := h
  have K : ∀ c a b, gm_Sp g (gm_T g (gm_Ht g n i j - 1)) c a b → 10 ≤ c → (if gm_Ht g (c - 10) a b < gm_Ht g n i j then Classical.choose (gm_rec_ex 0 g (gm_Ns g)) (c - 10, a, b) else 0) = gm_N g (c - 10) a b :=
    fun c a b hs hc => if_pos (gm_TH ((gm_Sp_n hc).mp hs) h0).2
  exact gm_Ns_eq (K _ _ _ a) (K _ _ _ b) (K _ _ _ d)
theorem gm_N_pos (h0 : 0 < gm_Ht g n i j) : 0 < gm_N g n i j := by
  rw [gm_N_eq (gm_C_is h0) h0]; unfold gm_Ns; omega
/-- what a production makes of its parts' values; NONE is the least long -/
def cp_NONE : Int64 := -9223372036854775808
def cp_act (op sz : Nat) (c x y z : Int64) : Int64 :=
  if op = 0 then c
  else if op = 1 then c + x + y + z
  else if op = 2 then c * (if 0 < sz then x else 1) * (if 1 < sz then y else 1) * (if 2 < sz then z else 1)
  else if op = 3 then x - c - y - z
  else if op = 4 then (if sz = 0 then c else if sz = 1 then 10 * c + x else if sz = 2 then 10 * (10 * c + x) + y else 10 * (10 * (10 * c + x) + y) + z)
  else if op = 5 then
    (let c1 := if 0 < sz ∧ ¬ x ≤ c then x else c
     let c2 := if 1 < sz ∧ ¬ y ≤ c1 then y else c1
     if 2 < sz ∧ ¬ z ≤ c2 then z else c2)
  else if op = 6 then (if sz = 0 then c else if c + (y + z) = 0 then cp_NONE else x / (c + (y + z)))
  else (if sz = 0 then c else if x ≤ c ∨ sz = 1 then x else if sz = 2 then y else z)
def gm_sz (g : gm_G) (p : Nat) : Nat := if gm_s g (3 * p) = 9 then 0 else if gm_s g (3 * p + 1) = 9 then 1 else if gm_s g (3 * p + 2) = 9 then 2 else 3
def gm_Wp (f : Nat → Nat → Nat → Int64) (c i j : Nat) : Int64 := if 10 ≤ c then f (c - 10) i j else if c = 9 then 0 else lN c
def gm_Vs (g : gm_G) (op : Nat → Nat) (cn : Nat → Int32) (f : Nat → Nat → Nat → Int64) (p i u v j : Nat) : Int64 :=
  if gm_Wp f (gm_s g (3 * p)) i u = cp_NONE ∨ gm_Wp f (gm_s g (3 * p + 1)) u v = cp_NONE ∨ gm_Wp f (gm_s g (3 * p + 2)) v j = cp_NONE then cp_NONE
  else cp_act (op p) (gm_sz g p) (cn p).toInt64 (gm_Wp f (gm_s g (3 * p)) i u) (gm_Wp f (gm_s g (3 * p + 1)) u v) (gm_Wp f (gm_s g (3 * p + 2)) v j)
/-- the value of the chosen tree -/
noncomputable def gm_V (g : gm_G) (op : Nat → Nat) (cn : Nat → Int32) (n i j : Nat) : Int64 := Classical.choose (gm_rec_ex 0 g (gm_Vs g op cn)) (n, i, j)
theorem gm_Wp_eq {f k : Nat → Nat → Nat → Int64} (h : 10 ≤ c → f (c - 10) i j = k (c - 10) i j) : gm_Wp f c i j = gm_Wp k c i j := by
  unfold gm_Wp
  by_cases z : 10 ≤ c
  · rw [if_pos z, if_pos z, h z]
  · rw [if_neg z, if_neg z]
theorem gm_Vs_eq {op : Nat → Nat} {cn : Nat → Int32} {f k : Nat → Nat → Nat → Int64} (x : 10 ≤ gm_s g (3 * p) → f (gm_s g (3 * p) - 10) i u = k (gm_s g (3 * p) - 10) i u) (y : 10 ≤ gm_s g (3 * p + 1) → f (gm_s g (3 * p + 1) - 10) u v = k (gm_s g (3 * p + 1) - 10) u v) (z : 10 ≤ gm_s g (3 * p + 2) → f (gm_s g (3 * p + 2) - 10) v j = k (gm_s g (3 * p + 2) - 10) v j) : gm_Vs g op cn f p i u v j = gm_Vs g op cn k p i u v j := by
  unfold gm_Vs
  rw [gm_Wp_eq x, gm_Wp_eq y, gm_Wp_eq z]
theorem gm_V_eq {op : Nat → Nat} {cn : Nat → Int32} (h : gm_IsC g n i j p u v) (h0 : 0 < gm_Ht g n i j) : gm_V g op cn n i j = gm_Vs g op cn (gm_V g op cn) p i u v j := by
  have e := Classical.choose_spec (gm_rec_ex 0 g (gm_Vs g op cn)) (n, i, j)
  refine Eq.trans e ?_
  show gm_Vs g op cn _ (gm_C g n i j).1 i (gm_C g n i j).2.1 (gm_C g n i j).2.2 j = _
  rw [gm_C_eq h h0]
  obtain ⟨-, -, ⟨-, -, -, a, b, d⟩, -⟩ := h
  have K : ∀ c a b, gm_Sp g (gm_T g (gm_Ht g n i j - 1)) c a b → 10 ≤ c → (if gm_Ht g (c - 10) a b < gm_Ht g n i j then Classical.choose (gm_rec_ex 0 g (gm_Vs g op cn)) (c - 10, a, b) else 0) = gm_V g op cn (c - 10) a b :=
    fun c a b hs hc => if_pos (gm_TH ((gm_Sp_n hc).mp hs) h0).2
  exact gm_Vs_eq (K _ _ _ a) (K _ _ _ b) (K _ _ _ d)
end
end
section
/-! pure part 3: texts that agree up to a shift give the same tables -/
section
variable {g g' : gm_G} {D E : Nat → Nat → Nat → Prop} {c i j p u v n r d lo hi : Nat}
def gm_Ag (g g' : gm_G) (d lo hi : Nat) : Prop := gm_P g' = gm_P g ∧ gm_l g' = gm_l g ∧ gm_s g' = gm_s g ∧ ∀ k, lo ≤ k → k < hi → gm_t g' (k + d) = gm_t g k
theorem gm_Sp_tr (A : gm_Ag g g' d lo hi) (hi' : lo ≤ i) (hj : j ≤ hi) (h : 10 ≤ c → (D (c - 10) i j ↔ E (c - 10) (i + d) (j + d))) : gm_Sp g D c i j ↔ gm_Sp g' E c (i + d) (j + d) := by
  rcases Nat.lt_or_ge c 10 with z | z
  · rcases Nat.lt_or_ge c 9 with y | y
    · rw [gm_Sp_t y, gm_Sp_t y]
      constructor
      · rintro ⟨a, b⟩
        exact ⟨by omega, by rw [A.2.2.2 i hi' (by omega)]; exact b⟩
      · rintro ⟨a, b⟩
        refine ⟨by omega, ?_⟩
        rw [A.2.2.2 i hi' (by omega)] at b; exact b
    · rw [gm_Sp_9 (by omega), gm_Sp_9 (by omega)]
      omega
  · rw [gm_Sp_n z, gm_Sp_n z]; exact h z
theorem gm_Dv_tr (A : gm_Ag g g' d lo hi) (hi' : lo ≤ i) (hj : j ≤ hi) (h : ∀ n a b, i ≤ a → b ≤ j → (D n a b ↔ E n (a + d) (b + d))) : gm_Dv g D p i u v j ↔ gm_Dv g' E p (i + d) (u + d) (v + d) (j + d) := by
  unfold gm_Dv
  rw [A.2.2.1]
  constructor
  · rintro ⟨h1, h2, h3, a, b, e⟩
    exact ⟨by omega, by omega, by omega, (gm_Sp_tr A (by omega) (by omega) fun _ => h _ _ _ (by omega) (by omega)).mp a, (gm_Sp_tr A (by omega) (by omega) fun _ => h _ _ _ (by omega) (by omega)).mp b, (gm_Sp_tr A (by omega) (by omega) fun _ => h _ _ _ (by omega) (by omega)).mp e⟩
  · rintro ⟨h1, h2, h3, a, b, e⟩
    exact ⟨by omega, by omega, by omega, (gm_Sp_tr A (by omega) (by omega) fun _ => h _ _ _ (by omega) (by omega)).mpr a, (gm_Sp_tr A (by omega) (by omega) fun _ => h _ _ _ (by omega) (by omega)).mpr b, (gm_Sp_tr A (by omega) (by omega) fun _ => h _ _ _ (by omega) (by omega)).mpr e⟩
theorem gm_Dv_un {D : Nat → Nat → Nat → Prop} (h : gm_Dv g D p (i + d) u v j) : ∃ u0 v0, u = u0 + d ∧ v = v0 + d :=
  ⟨u - d, v - d, by have := h.1; omega, by have := h.1; have := h.2.1; omega⟩
theorem gm_T_tr (A : gm_Ag g g' d lo hi) : ∀ r n i j, lo ≤ i → j ≤ hi → (gm_T g r n i j ↔ gm_T g' r n (i + d) (j + d)) := by
  intro r
  induction r with
  | zero => intro n i j _ _; exact Iff.rfl
  | succ r ih =>
    intro n i j hi' hj
    constructor
    · rintro ⟨p, hp, hl, u, v, h⟩
      exact ⟨p, by rw [A.1]; exact hp, by rw [A.2.1]; exact hl, u + d, v + d, (gm_Dv_tr A hi' hj fun n a b ha hb => ih n a b (by omega) (by omega)).mp h⟩
    · rintro ⟨p, hp, hl, u, v, h⟩
      obtain ⟨u0, v0, rfl, rfl⟩ := gm_Dv_un h
      exact ⟨p, by rw [A.1] at hp; exact hp, by rw [A.2.1] at hl; exact hl, u0, v0, (gm_Dv_tr A hi' hj fun n a b ha hb => ih n a b (by omega) (by omega)).mpr h⟩
theorem cp_un {a b : Nat} (h : ∀ r, (0 < a ∧ a ≤ r) ↔ (0 < b ∧ b ≤ r)) : a = b := by
  have x := h a
  have y := h b
  rcases Nat.eq_zero_or_pos a with z | z
  · rcases Nat.eq_zero_or_pos b with w | w
    · omega
    · have := y.mpr ⟨w, Nat.le_refl _⟩; omega
  · rcases Nat.eq_zero_or_pos b with w | w
    · have := x.mp ⟨z, Nat.le_refl _⟩; omega
    · have := x.mp ⟨z, Nat.le_refl _⟩
      have := y.mpr ⟨w, Nat.le_refl _⟩
      omega
theorem gm_Ht_tr (A : gm_Ag g g' d lo hi) (hi' : lo ≤ i) (hj : j ≤ hi) : gm_Ht g' n (i + d) (j + d) = gm_Ht g n i j :=
  (cp_un fun r => by rw [← gm_T_iff, ← gm_T_iff]; exact gm_T_tr A r n i j hi' hj).symm
theorem gm_D_tr (A : gm_Ag g g' d lo hi) (hi' : lo ≤ i) (hj : j ≤ hi) : gm_D g n i j ↔ gm_D g' n (i + d) (j + d) := by
  rw [gm_D_iff, gm_D_iff, gm_Ht_tr A hi' hj]
theorem gm_DvD_tr (A : gm_Ag g g' d lo hi) (hi' : lo ≤ i) (hj : j ≤ hi) : gm_Dv g (gm_D g) p i u v j ↔ gm_Dv g' (gm_D g') p (i + d) (u + d) (v + d) (j + d) :=
  gm_Dv_tr A hi' hj fun n a b ha hb => gm_D_tr A (by omega) (by omega)
theorem gm_Fn_tr (A : gm_Ag g g' d lo hi) : ∀ r n i j, lo ≤ i → j ≤ hi → (gm_Fn g r n i j ↔ gm_Fn g' r n (i + d) (j + d)) := by
  intro r
  induction r with
  | zero => intro n i j _ _; exact Iff.rfl
  | succ r ih =>
    intro n i j hi' hj
    constructor
    · intro h p u v hp hl hd
      obtain ⟨u0, v0, rfl, rfl⟩ := gm_Dv_un hd
      have hd' := (gm_DvD_tr A hi' hj).mpr hd
      obtain ⟨x, y, z⟩ := h p u0 v0 (by rw [A.1] at hp; exact hp) (by rw [A.2.1] at hl; exact hl) hd'
      obtain ⟨h1, h2, h3, _⟩ := hd'
      rw [A.2.2.1]
      exact ⟨fun w => (ih _ _ _ (by omega) (by omega)).mp (x w), fun w => (ih _ _ _ (by omega) (by omega)).mp (y w), fun w => (ih _ _ _ (by omega) (by omega)).mp (z w)⟩
    · intro h p u v hp hl hd
      have hd' := (gm_DvD_tr A hi' hj).mp hd
      obtain ⟨h1, h2, h3, _⟩ := hd
      obtain ⟨x, y, z⟩ := h p (u + d) (v + d) (by rw [A.1]; exact hp) (by rw [A.2.1]; exact hl) hd'
      rw [A.2.2.1] at x y z
      exact ⟨fun w => (ih _ _ _ (by omega) (by omega)).mpr (x w), fun w => (ih _ _ _ (by omega) (by omega)).mpr (y w), fun w => (ih _ _ _ (by omega) (by omega)).mpr (z w)⟩
theorem gm_fl_tr (A : gm_Ag g g' d lo hi) (hi' : lo ≤ i) (hj : j ≤ hi) : gm_fl g' n (i + d) (j + d) = gm_fl g n i j :=
  (cp_un fun r => by rw [← gm_Fn_iff, ← gm_Fn_iff]; exact gm_Fn_tr A r n i j hi' hj).symm
theorem gm_F_tr (A : gm_Ag g g' d lo hi) (hi' : lo ≤ i) (hj : j ≤ hi) : gm_F g n i j ↔ gm_F g' n (i + d) (j + d) := by
  unfold gm_F; rw [gm_fl_tr A hi' hj]
theorem sm_shift {f k : Nat → Nat} {d : Nat} (h0 : ∀ x, x < d → k x = 0) (h : ∀ x, k (x + d) = f x) : ∀ N, sm_S k (N + d) = sm_S f N
  | 0 => by rw [Nat.zero_add]; exact sm_zero h0
  | N + 1 => by
    rw [show N + 1 + d = (N + d) + 1 by omega]
    simp only [sm_S]
    rw [sm_shift h0 h N, h N]
theorem gm_M_tr (A : gm_Ag g g' d lo hi) (hf : gm_F g n i j) : lo ≤ i → j ≤ hi → gm_M g' n (i + d) (j + d) = gm_M g n i j := by
  refine gm_F_ind (Q := fun n i j => lo ≤ i → j ≤ hi → gm_M g' n (i + d) (j + d) = gm_M g n i j) (fun n i j hf ih hi' hj => ?_) hf
  rw [gm_M_eq hf, gm_M_eq ((gm_F_tr A hi' hj).mp hf)]
  unfold gm_Ms
  apply congrArg (min 1000000000)
  rw [A.1]
  refine sm_eq fun p hp => ?_
  unfold gm_tp
  rw [A.2.1]
  by_cases hl : gm_l g p = n
  · rw [if_pos hl, if_pos hl]
    have S : ∀ u v, gm_tm g' (gm_M g') p (i + d) (u + d) (v + d) (j + d) = gm_tm g (gm_M g) p i u v j := by
      intro u v
      rcases Classical.em (gm_Dv g (gm_D g) p i u v j) with w | w
      · obtain ⟨x, y, z⟩ := gm_F_inv hf hp hl w
        rw [gm_tm_1 w, gm_tm_1 ((gm_DvD_tr A hi' hj).mp w), A.2.2.1]
        obtain ⟨h1, h2, h3, _⟩ := w
        have K : ∀ c a b, i ≤ a → b ≤ j → gm_Sf (fun m a b => gm_F g m a b ∧ gm_fl g m a b < gm_fl g n i j) c a b → gm_Mp (gm_M g') c (a + d) (b + d) = gm_Mp (gm_M g) c a b := by
          intro c a b ha hb hs
          unfold gm_Mp
          by_cases q : 10 ≤ c
          · rw [if_pos q, if_pos q]
            exact ih _ _ _ (hs q).1 (hs q).2 (by omega) (by omega)
          · rw [if_neg q, if_neg q]
        rw [K _ _ _ (by omega) (by omega) x, K _ _ _ (by omega) (by omega) y, K _ _ _ (by omega) (by omega) z]
      · rw [gm_tm_0 w, gm_tm_0 fun q => w ((gm_DvD_tr A hi' hj).mpr q)]
    rw [show j + d + 1 = (j + 1) + d by omega]
    have S2 : ∀ u, sm_S (fun v => gm_tm g' (gm_M g') p (i + d) (u + d) v (j + d)) ((j + 1) + d) = sm_S (fun v => gm_tm g (gm_M g) p i u v j) (j + 1) :=
      fun u => sm_shift (fun x hx => gm_tm_0 fun q => by have := q.1; have := q.2.1; omega) (fun v => S u v) (j + 1)
    exact sm_shift (k := fun u => sm_S (fun v => gm_tm g' (gm_M g') p (i + d) u v (j + d)) ((j + 1) + d)) (fun x hx => sm_zero fun v _ => gm_tm_0 fun q => by have := q.1; omega) S2 (j + 1)
  · rw [if_neg hl, if_neg hl]
theorem gm_IsC_tr (A : gm_Ag g g' d lo hi) (hi' : lo ≤ i) (hj : j ≤ hi) (h : gm_IsC g n i j p u v) : gm_IsC g' n (i + d) (j + d) p (u + d) (v + d) := by
  obtain ⟨a1, a2, a3, a4, a5⟩ := h
  have T : ∀ p u v, gm_Dv g (gm_T g (gm_Ht g n i j - 1)) p i u v j ↔ gm_Dv g' (gm_T g' (gm_Ht g n i j - 1)) p (i + d) (u + d) (v + d) (j + d) :=
    fun p u v => gm_Dv_tr A hi' hj fun n a b ha hb => gm_T_tr A _ n a b (by omega) (by omega)
  unfold gm_IsC
  rw [gm_Ht_tr A hi' hj, A.1, A.2.1]
  refine ⟨a1, a2, (T p u v).mp a3, fun p' u' v' hlt hl' hd' => ?_, fun u' v' hd' => ?_⟩
  · obtain ⟨u0, v0, rfl, rfl⟩ := gm_Dv_un hd'
    exact a4 p' u0 v0 hlt hl' ((T p' u0 v0).mpr hd')
  · obtain ⟨u0, v0, rfl, rfl⟩ := gm_Dv_un hd'
    have := a5 u0 v0 ((T p u0 v0).mpr hd')
    omega
theorem gm_H_ind {Q : Nat → Nat → Nat → Prop} (h : ∀ n i j, 0 < gm_Ht g n i j → (∀ m a b, 0 < gm_Ht g m a b → gm_Ht g m a b < gm_Ht g n i j → Q m a b) → Q n i j) : ∀ {n i j}, 0 < gm_Ht g n i j → Q n i j := by
  have key : ∀ r n i j, gm_Ht g n i j < r → 0 < gm_Ht g n i j → Q n i j := by
    intro r
    induction r with
    | zero => intro n i j h; omega
    | succ r ih => exact fun n i j hr hf => h n i j hf (fun m a b hm hlt => ih m a b (by omega) hm)
  exact fun {n i j} hf => key _ n i j (Nat.lt_succ_self _) hf
theorem gm_N_tr (A : gm_Ag g g' d lo hi) (h0 : 0 < gm_Ht g n i j) : lo ≤ i → j ≤ hi → gm_N g' n (i + d) (j + d) = gm_N g n i j := by
  refine gm_H_ind (g := g) (Q := fun n i j => lo ≤ i → j ≤ hi → gm_N g' n (i + d) (j + d) = gm_N g n i j) (fun n i j h0 ih hi' hj => ?_) h0
  have hc := gm_C_is h0
  rw [gm_N_eq hc h0, gm_N_eq (gm_IsC_tr A hi' hj hc) (by rw [gm_Ht_tr A hi' hj]; exact h0)]
  obtain ⟨-, -, ⟨h1, h2, h3, a, b, e⟩, -⟩ := hc
  have K : ∀ c a b, i ≤ a → b ≤ j → gm_Sp g (gm_T g (gm_Ht g n i j - 1)) c a b → gm_Np (gm_N g') c (a + d) (b + d) = gm_Np (gm_N g) c a b := by
    intro c a b ha hb hs
    unfold gm_Np
    by_cases q : 10 ≤ c
    · rw [if_pos q, if_pos q]
      have t := gm_TH ((gm_Sp_n q).mp hs) h0
      exact ih _ _ _ t.1 t.2 (by omega) (by omega)
    · rw [if_neg q, if_neg q]
  unfold gm_Ns
  rw [A.2.2.1, K _ _ _ (by omega) (by omega) a, K _ _ _ (by omega) (by omega) b, K _ _ _ (by omega) (by omega) e]
theorem gm_V_tr {op : Nat → Nat} {cn : Nat → Int32} (A : gm_Ag g g' d lo hi) (h0 : 0 < gm_Ht g n i j) : lo ≤ i → j ≤ hi → gm_V g' op cn n (i + d) (j + d) = gm_V g op cn n i j := by
  refine gm_H_ind (g := g) (Q := fun n i j => lo ≤ i → j ≤ hi → gm_V g' op cn n (i + d) (j + d) = gm_V g op cn n i j) (fun n i j h0 ih hi' hj => ?_) h0
  have hc := gm_C_is h0
  rw [gm_V_eq hc h0, gm_V_eq (gm_IsC_tr A hi' hj hc) (by rw [gm_Ht_tr A hi' hj]; exact h0)]
  obtain ⟨-, -, ⟨h1, h2, h3, a, b, e⟩, -⟩ := hc
  have K : ∀ c a b, i ≤ a → b ≤ j → gm_Sp g (gm_T g (gm_Ht g n i j - 1)) c a b → gm_Wp (gm_V g' op cn) c (a + d) (b + d) = gm_Wp (gm_V g op cn) c a b := by
    intro c a b ha hb hs
    unfold gm_Wp
    by_cases q : 10 ≤ c
    · rw [if_pos q, if_pos q]
      have t := gm_TH ((gm_Sp_n q).mp hs) h0
      exact ih _ _ _ t.1 t.2 (by omega) (by omega)
    · rw [if_neg q, if_neg q]
  unfold gm_Vs gm_sz
  rw [A.2.2.1, K _ _ _ (by omega) (by omega) a, K _ _ _ (by omega) (by omega) b, K _ _ _ (by omega) (by omega) e]
end
end
section
/-! pure part 4: productive, used, wanted, expected; the reference's coverings -/
section
variable {g : gm_G} {D E : Nat → Nat → Nat → Prop} {c i j k p q u v n m r t x G : Nat}
def gm_Pr (g : gm_G) : Nat → Nat → Prop
  | 0 => fun _ => False
  | r + 1 => fun n => ∃ p, p < gm_P g ∧ gm_l g p = n ∧ ∀ k, k < 3 → 10 ≤ gm_s g (3 * p + k) → gm_Pr g r (gm_s g (3 * p + k) - 10)
theorem gm_Pr_succ : ∀ {r n : Nat}, gm_Pr g r n → gm_Pr g (r + 1) n
  | 0, _, h => h.elim
  | r + 1, n, ⟨p, hp, hl, h⟩ => ⟨p, hp, hl, fun k hk hc => gm_Pr_succ (h k hk hc)⟩
theorem gm_Pr_mono {r' : Nat} (h : gm_Pr g r n) (hr : r ≤ r') : gm_Pr g r' n := by
  have : ∀ d, gm_Pr g (r + d) n := by
    intro d
    induction d with
    | zero => exact h
    | succ d ih => exact gm_Pr_succ ih
  have e := this (r' - r)
  rwa [show r + (r' - r) = r' by omega] at e
def gm_Pd (g : gm_G) (n : Nat) : Prop := ∃ r, gm_Pr g r n
/-- all symbols from number q on derive some text -/
def gm_aQ (g : gm_G) (p q : Nat) : Prop := ∀ k, q ≤ k → k < 3 → 10 ≤ gm_s g (3 * p + k) → gm_Pd g (gm_s g (3 * p + k) - 10)
theorem gm_Pd_mk (hp : p < gm_P g) (h : gm_aQ g p 0) : gm_Pd g (gm_l g p) := by
  obtain ⟨r, hr⟩ := cp_bound (fun k r => 10 ≤ gm_s g (3 * p + k) → gm_Pr g r (gm_s g (3 * p + k) - 10)) (fun k r h w => gm_Pr_succ (h w)) 3 (fun k hk => by
    by_cases w : 10 ≤ gm_s g (3 * p + k)
    · obtain ⟨r, hr⟩ := h k (by omega) hk w
      exact ⟨r, fun _ => hr⟩
    · exact ⟨0, fun z => absurd z w⟩)
  exact ⟨r + 1, p, hp, rfl, hr⟩
theorem gm_Pd_ind {Q : Nat → Prop} (h : ∀ p, p < gm_P g → (∀ k, k < 3 → 10 ≤ gm_s g (3 * p + k) → gm_Pd g (gm_s g (3 * p + k) - 10) ∧ Q (gm_s g (3 * p + k) - 10)) → Q (gm_l g p)) : ∀ {n}, gm_Pd g n → Q n := by
  have key : ∀ r n, gm_Pr g r n → Q n := by
    intro r
    induction r with
    | zero => intro n h; exact h.elim
    | succ r ih =>
      rintro n ⟨p, hp, hl, hk⟩
      subst hl
      exact h p hp fun k h3 hc => ⟨⟨r, hk k h3 hc⟩, ih _ (hk k h3 hc)⟩
  rintro n ⟨r, t⟩
  exact key r n t
theorem gm_Pd_5 (ok : gm_ok g) (h : gm_Pd g n) : gm_Pr g 5 n := by
  obtain ⟨k, hk, hs⟩ := cp_chain (gm_Pr g) (fun _ _ => gm_Pr_succ)
  refine gm_Pr_mono ?_ hk
  refine gm_Pd_ind (Q := fun n => gm_Pr g k n) (fun p hp hh => ?_) h
  exact hs _ (gm_ok_l ok hp) ⟨p, hp, rfl, fun a ha hc => (hh a ha hc).2⟩
theorem gm_Pd_lt (ok : gm_ok g) (h : gm_Pd g n) : n < 5 := by
  refine gm_Pd_ind (Q := fun n => n < 5) (fun p hp _ => gm_ok_l ok hp) h
theorem gm_Sp_Pd (h : gm_Sp g D c i j) (hD : D (c - 10) i j → gm_Pd g (c - 10)) (hc : 10 ≤ c) : gm_Pd g (c - 10) := hD ((gm_Sp_n hc).mp h)
theorem gm_D_Pd (h : gm_D g n i j) : gm_Pd g n := by
  refine gm_D_ind (Q := fun n _ _ => gm_Pd g n) (fun p i u v j hp hd => gm_Pd_mk hp fun k _ hk hc => ?_) h
  obtain ⟨-, -, -, a, b, d⟩ := hd
  rcases (by omega : k = 0 ∨ k = 1 ∨ k = 2) with rfl | rfl | rfl
  · exact gm_Sp_Pd a (fun z => z.2) hc
  · exact gm_Sp_Pd b (fun z => z.2) hc
  · exact gm_Sp_Pd d (fun z => z.2) hc
/-- used -/
def gm_U (g : gm_G) : Nat → Nat → Prop
  | 0 => fun n => n = 0 ∧ gm_Pd g 0
  | r + 1 => fun n => gm_U g r n ∨ ∃ p k, p < gm_P g ∧ gm_U g r (gm_l g p) ∧ gm_aQ g p 0 ∧ k < 3 ∧ gm_s g (3 * p + k) = n + 10
def gm_Us (g : gm_G) (n : Nat) : Prop := ∃ r, gm_U g r n
theorem gm_U_mono {r' : Nat} (h : gm_U g r n) (hr : r ≤ r') : gm_U g r' n := by
  have : ∀ d, gm_U g (r + d) n := by
    intro d
    induction d with
    | zero => exact h
    | succ d ih => exact Or.inl ih
  have e := this (r' - r)
  rwa [show r + (r' - r) = r' by omega] at e
theorem gm_Us_5 (ok : gm_ok g) (h : gm_Us g n) : gm_U g 5 n := by
  obtain ⟨k, hk, hs⟩ := cp_chain (gm_U g) (fun _ _ h => Or.inl h)
  refine gm_U_mono ?_ hk
  obtain ⟨r, h⟩ := h
  have key : ∀ r n, gm_U g r n → gm_U g k n := by
    intro r
    induction r with
    | zero => intro n h; exact gm_U_mono (r := 0) h (by omega)
    | succ r ih =>
      rintro n (h | ⟨p, a, hp, hu, hq, ha, he⟩)
      · exact ih n h
      · have := gm_ok_15 ok hp ha
        exact hs n (by omega) (Or.inr ⟨p, a, hp, ih _ hu, hq, ha, he⟩)
  exact key r n h
/-- the first q symbols stand over i to k -/
def gm_Pf (g : gm_G) (D : Nat → Nat → Nat → Prop) (p : Nat) : Nat → Nat → Nat → Prop
  | 0 => fun i k => i = k
  | q + 1 => fun i k => ∃ u, gm_Pf g D p q i u ∧ i ≤ u ∧ u ≤ k ∧ gm_Sp g D (gm_s g (3 * p + q)) u k
theorem gm_Pf_mono (h : ∀ n a b, D n a b → E n a b) : ∀ {q i k : Nat}, gm_Pf g D p q i k → gm_Pf g E p q i k
  | 0, _, _, h' => h'
  | q + 1, _, _, ⟨u, a, b, d, e⟩ => ⟨u, gm_Pf_mono h a, b, d, gm_Sp_mono (fun _ => h _ _ _) e⟩
theorem gm_Pf_le : ∀ {q i k : Nat}, gm_Pf g D p q i k → i ≤ k
  | 0, _, _, h => Nat.le_of_eq h
  | q + 1, _, _, ⟨u, a, b, d, e⟩ => by omega
theorem gm_Pf_3 (h : gm_Dv g D p i u v j) : gm_Pf g D p 3 i j := by
  obtain ⟨h1, h2, h3, a, b, d⟩ := h
  exact ⟨v, ⟨u, ⟨i, rfl, Nat.le_refl _, h1, a⟩, h1, h2, b⟩, by omega, h3, d⟩
theorem gm_Pf_Dv (h : gm_Pf g D p 3 i j) : ∃ u v, gm_Dv g D p i u v j := by
  obtain ⟨v, ⟨u, ⟨w, e, _, h1, a⟩, h2, h3, b⟩, h4, h5, d⟩ := h
  have e' : i = w := e
  subst e'
  exact ⟨u, v, h1, h3, h5, a, b, d⟩
theorem gm_Pf_Pd : ∀ {q i k : Nat}, gm_Pf g (gm_D g) p q i k → ∀ a, a < q → 10 ≤ gm_s g (3 * p + a) → gm_Pd g (gm_s g (3 * p + a) - 10)
  | 0, _, _, _, a, ha, _ => absurd ha (by omega)
  | q + 1, _, _, ⟨u, h, b, d, e⟩, a, ha, hc => by
    rcases Nat.lt_or_ge a q with z | z
    · exact gm_Pf_Pd h a z hc
    · have : a = q := by omega
      subst this
      exact gm_Sp_Pd e gm_D_Pd hc
/-- wanted: nonterminal m may begin at place k -/
def gm_W (g : gm_G) : Nat → Nat → Nat → Prop
  | 0 => fun _ _ => False
  | r + 1 => fun k m => (k = 0 ∧ m = 0 ∧ gm_Pd g 0) ∨ ∃ i p q, i ≤ k ∧ p < gm_P g ∧ gm_W g r i (gm_l g p) ∧ gm_aQ g p 0 ∧ q < 3 ∧ gm_s g (3 * p + q) = m + 10 ∧ gm_Pf g (gm_D g) p q i k
def gm_Wt (g : gm_G) (k m : Nat) : Prop := ∃ r, gm_W g r k m
theorem gm_Wt_0 (h : gm_Pd g 0) : gm_Wt g 0 0 := ⟨1, Or.inl ⟨rfl, rfl, h⟩⟩
theorem gm_Wt_s (hi : i ≤ k) (hp : p < gm_P g) (hw : gm_Wt g i (gm_l g p)) (ha : gm_aQ g p 0) (hq : q < 3) (hs : gm_s g (3 * p + q) = m + 10) (hf : gm_Pf g (gm_D g) p q i k) : gm_Wt g k m := by
  obtain ⟨r, hr⟩ := hw
  exact ⟨r + 1, Or.inr ⟨i, p, q, hi, hp, hr, ha, hq, hs, hf⟩⟩
/-- terminal t may come at place k -/
def gm_Ex (g : gm_G) (k t : Nat) : Prop := ∃ i p q, i ≤ k ∧ p < gm_P g ∧ gm_Wt g i (gm_l g p) ∧ gm_aQ g p 0 ∧ q < 3 ∧ gm_s g (3 * p + q) = t ∧ gm_Pf g (gm_D g) p q i k
/-- the reference's coverings: to the goal G, the last token being x -/
def gm_Cs (G x : Nat) (C : Nat → Nat → Prop) (c u : Nat) : Prop := (10 ≤ c ∧ C (c - 10) u) ∨ (c < 9 ∧ u + 1 = G ∧ x = c)
def gm_Cg (g : gm_G) (G x : Nat) (C : Nat → Nat → Prop) (p i : Nat) : Prop := ∃ q u, q < 3 ∧ gm_s g (3 * p + q) ≠ 9 ∧ gm_Pf g (gm_D g) p q i u ∧ i ≤ u ∧ u < G ∧ gm_Cs G x C (gm_s g (3 * p + q)) u ∧ gm_aQ g p (q + 1)
def gm_Cv (g : gm_G) (G x : Nat) : Nat → Nat → Nat → Prop
  | 0 => fun _ _ => False
  | r + 1 => fun n i => ∃ p, p < gm_P g ∧ gm_l g p = n ∧ gm_Cg g G x (gm_Cv g G x r) p i
def gm_Ce (g : gm_G) (G x n i : Nat) : Prop := ∃ r, gm_Cv g G x r n i
theorem gm_Ce_mk (hp : p < gm_P g) (h : gm_Cg g G x (gm_Ce g G x) p i) : gm_Ce g G x (gm_l g p) i := by
  obtain ⟨q, u, h1, h2, h3, h4, h5, h6, h7⟩ := h
  rcases h6 with ⟨a, r, b⟩ | b
  · exact ⟨r + 1, p, hp, rfl, q, u, h1, h2, h3, h4, h5, Or.inl ⟨a, b⟩, h7⟩
  · exact ⟨1, p, hp, rfl, q, u, h1, h2, h3, h4, h5, Or.inr b, h7⟩
theorem gm_Ce_ind {Q : Nat → Nat → Prop} (h : ∀ p i, p < gm_P g → gm_Cg g G x (fun n a => gm_Ce g G x n a ∧ Q n a) p i → Q (gm_l g p) i) : ∀ {n i}, gm_Ce g G x n i → Q n i := by
  have key : ∀ r n i, gm_Cv g G x r n i → Q n i := by
    intro r
    induction r with
    | zero => intro n i h; exact h.elim
    | succ r ih =>
      rintro n i ⟨p, hp, hl, q, u, h1, h2, h3, h4, h5, h6, h7⟩
      subst hl
      refine h p i hp ⟨q, u, h1, h2, h3, h4, h5, ?_, h7⟩
      rcases h6 with ⟨a, b⟩ | b
      · exact Or.inl ⟨a, ⟨r, b⟩, ih _ _ b⟩
      · exact Or.inr b
  rintro n i ⟨r, t⟩
  exact key r n i t
theorem gm_Cg_aQ {C : Nat → Nat → Prop} (hC : ∀ n a, C n a → gm_Pd g n) (h : gm_Cg g G x C p i) : gm_aQ g p 0 := by
  obtain ⟨q, u, h1, h2, h3, h4, h5, h6, h7⟩ := h
  intro k _ hk hc
  rcases Nat.lt_or_ge k q with z | z
  · exact gm_Pf_Pd h3 k z hc
  · rcases Nat.lt_or_ge q k with y | y
    · exact h7 k y hk hc
    · have : k = q := by omega
      subst this
      rcases h6 with ⟨a, b⟩ | ⟨b, _⟩
      · exact hC _ _ b
      · omega
theorem gm_Ce_Pd (h : gm_Ce g G x n i) : gm_Pd g n := by
  refine gm_Ce_ind (Q := fun n _ => gm_Pd g n) (fun p i hp hh => gm_Pd_mk hp (gm_Cg_aQ (fun n a z => z.2) hh)) h
/-- theorem A: a covering of k tokens and t is the same as t being expected at k -/
theorem gm_Ce_Ex (h : gm_Ce g (k + 1) t n i) : gm_Wt g i n → gm_Ex g k t := by
  refine gm_Ce_ind (Q := fun n i => gm_Wt g i n → gm_Ex g k t) (fun p i hp hh hw => ?_) h
  have ha : gm_aQ g p 0 := gm_Cg_aQ (fun n a z => gm_Ce_Pd z.1) hh
  obtain ⟨q, u, h1, h2, h3, h4, h5, h6, h7⟩ := hh
  rcases h6 with ⟨a, b⟩ | ⟨a, b, e⟩
  · exact b.2 (gm_Wt_s h4 hp hw ha h1 (by omega) h3)
  · have : u = k := by omega
    subst this
    exact ⟨i, p, q, h4, hp, hw, ha, h1, e.symm, h3⟩
theorem gm_W_Ce : ∀ r i n, gm_W g r i n → i < G → gm_Ce g G x n i → gm_Ce g G x 0 0 := by
  intro r
  induction r with
  | zero => intro i n h; exact h.elim
  | succ r ih =>
    rintro i n (⟨rfl, rfl, _⟩ | ⟨i', p, q, h1, hp, hw, ha, hq, hs, hf⟩) hi hc
    · exact hc
    · refine ih i' _ hw (by omega) (gm_Ce_mk hp ⟨q, i, hq, by omega, hf, h1, hi, Or.inl ⟨by omega, ?_⟩, fun k _ hk => ha k (by omega) hk⟩)
      rw [hs, Nat.add_sub_cancel]; exact hc
theorem gm_Ex_Ce (ht : t < 9) (h : gm_Ex g k t) : gm_Ce g (k + 1) t 0 0 := by
  obtain ⟨i, p, q, h1, hp, ⟨r, hw⟩, ha, hq, hs, hf⟩ := h
  refine gm_W_Ce r i _ hw (by omega) (gm_Ce_mk hp ⟨q, k, hq, by omega, hf, h1, by omega, Or.inr ⟨by omega, rfl, hs.symm⟩, fun k _ hk => ha k (by omega) hk⟩)
theorem gm_A (ht : t < 9) : gm_Ce g (k + 1) t 0 0 ↔ gm_Ex g k t :=
  ⟨fun h => gm_Ce_Ex h (gm_Wt_0 (gm_Ce_Pd h)), gm_Ex_Ce ht⟩
/-- the rest of a production behind a prefix: all empty, or some token comes -/
theorem gm_tail (ok : gm_ok g) (hp : p < gm_P g) : ∀ d q i, q + d = 3 → gm_Pf g (gm_D g) p q i k → (∀ a, q ≤ a → a < 3 → 10 ≤ gm_s g (3 * p + a) → gm_Pd g (gm_s g (3 * p + a) - 10) ∧
    (gm_D g (gm_s g (3 * p + a) - 10) k k ∨ ∃ t, t < 6 ∧ gm_Ce g (k + 1) t (gm_s g (3 * p + a) - 10) k)) → gm_D g (gm_l g p) i k ∨ ∃ t, t < 6 ∧ gm_Ce g (k + 1) t (gm_l g p) i := by
  intro d
  induction d with
  | zero =>
    intro q i hq hf _
    have : q = 3 := by omega
    subst this
    obtain ⟨u, v, hd⟩ := gm_Pf_Dv hf
    exact Or.inl (gm_D_mk hp hd)
  | succ d ih =>
    intro q i hq hf hh
    have hle := gm_Pf_le hf
    have C : ∀ t, t < 6 → gm_s g (3 * p + q) ≠ 9 → gm_Cs (k + 1) t (gm_Ce g (k + 1) t) (gm_s g (3 * p + q)) k → gm_Ce g (k + 1) t (gm_l g p) i :=
      fun t ht h9 hc => gm_Ce_mk hp ⟨q, k, by omega, h9, hf, hle, by omega, hc, fun a ha h3 hc => (hh a (by omega) h3 hc).1⟩
    have S : gm_Sp g (gm_D g) (gm_s g (3 * p + q)) k k → gm_D g (gm_l g p) i k ∨ ∃ t, t < 6 ∧ gm_Ce g (k + 1) t (gm_l g p) i :=
      fun hs => ih (q + 1) i (by omega) ⟨k, hf, hle, Nat.le_refl _, hs⟩ (fun a ha => hh a (by omega))
    rcases gm_ok_s ok hp (show q < 3 by omega) with z | z | ⟨z, _⟩
    · exact Or.inr ⟨gm_s g (3 * p + q), z, C _ z (by omega) (Or.inr ⟨by omega, rfl, rfl⟩)⟩
    · exact S ((gm_Sp_9 z).mpr rfl)
    · rcases (hh q (Nat.le_refl _) (by omega) z).2 with y | ⟨t, ht, y⟩
      · exact S ((gm_Sp_n z).mpr y)
      · exact Or.inr ⟨t, ht, C t ht (by omega) (Or.inl ⟨z, y⟩)⟩
theorem gm_Pd_fst (ok : gm_ok g) (h : gm_Pd g n) : gm_D g n k k ∨ ∃ t, t < 6 ∧ gm_Ce g (k + 1) t n k := by
  refine gm_Pd_ind (Q := fun n => gm_D g n k k ∨ ∃ t, t < 6 ∧ gm_Ce g (k + 1) t n k) (fun p hp hh => ?_) h
  exact gm_tail ok hp 3 0 k rfl rfl (fun a _ ha hc => hh a ha hc)
/-- theorem B, one way -/
theorem gm_B1 (ok : gm_ok g) (h : gm_Ce g k x n i) (hx : ∀ u, u + 1 = k → x = gm_t g u) : gm_D g n i k ∨ ∃ t, t < 6 ∧ gm_Ce g (k + 1) t n i := by
  refine gm_Ce_ind (Q := fun n i => gm_D g n i k ∨ ∃ t, t < 6 ∧ gm_Ce g (k + 1) t n i) (fun p i hp hh => ?_) h
  obtain ⟨q, u, h1, h2, h3, h4, h5, h6, h7⟩ := hh
  have S : gm_Sp g (gm_D g) (gm_s g (3 * p + q)) u k → gm_D g (gm_l g p) i k ∨ ∃ t, t < 6 ∧ gm_Ce g (k + 1) t (gm_l g p) i := by
    intro hs
    refine gm_tail ok hp (2 - q) (q + 1) i (by omega) ⟨u, h3, h4, by omega, hs⟩ (fun a ha h3 hc => ?_)
    have := h7 a ha h3 hc
    exact ⟨this, gm_Pd_fst ok this⟩
  rcases h6 with ⟨a, -, b | ⟨t, ht, b⟩⟩ | ⟨a, b, e⟩
  · exact S ((gm_Sp_n a).mpr b)
  · exact Or.inr ⟨t, ht, gm_Ce_mk hp ⟨q, u, h1, h2, h3, h4, by omega, Or.inl ⟨a, b⟩, h7⟩⟩
  · refine S ((gm_Sp_t a).mpr ⟨b.symm, ?_⟩)
    rw [← hx u b]; exact e
/-- a prefix that ends at k, not empty: covered up to k -/
theorem gm_Pf_Ce (hp : p < gm_P g) (ha : gm_aQ g p 0) (hE : ∀ m a b, E m a b → gm_D g m a b) (hC : ∀ m a, a < k → E m a k → gm_Ce g k x m a) (hx : ∀ u, u + 1 = k → x = gm_t g u) : ∀ q i, q ≤ 3 → gm_Pf g E p q i k → i < k → gm_Ce g k x (gm_l g p) i := by
  intro q
  induction q with
  | zero => intro i _ h hi; have : i = k := h; omega
  | succ q ih =>
    rintro i hq ⟨u, h1, h2, h3, h4⟩ hi
    rcases Nat.lt_or_ge u k with z | z
    · refine gm_Ce_mk hp ⟨q, u, by omega, ?_, gm_Pf_mono hE h1, h2, z, ?_, fun b hb => ha b (by omega)⟩
      · intro h9
        have := (gm_Sp_9 h9).mp h4
        omega
      · rcases Nat.lt_or_ge (gm_s g (3 * p + q)) 10 with y | y
        · rcases Nat.lt_or_ge (gm_s g (3 * p + q)) 9 with w | w
          · obtain ⟨e1, e2⟩ := (gm_Sp_t w).mp h4
            exact Or.inr ⟨w, e1.symm, by rw [hx u e1.symm]; exact e2⟩
          · have := (gm_Sp_9 (show gm_s g (3 * p + q) = 9 by omega)).mp h4
            omega
        · exact Or.inl ⟨y, hC _ _ z ((gm_Sp_n y).mp h4)⟩
    · have : u = k := by omega
      subst this
      exact ih i (by omega) h1 hi
theorem gm_D_Ce (hx : ∀ u, u + 1 = k → x = gm_t g u) (h : gm_D g n i j) : j = k → i < k → gm_Ce g k x n i := by
  refine gm_D_ind (Q := fun n i j => j = k → i < k → gm_Ce g k x n i) (fun p i u v j hp hd hj hi => ?_) h
  subst hj
  have hd' : gm_Dv g (gm_D g) p i u v j := gm_Dv_mono (fun _ _ _ _ _ z => z.1) hd
  have ha : gm_aQ g p 0 := fun a _ h3 hc => gm_Pf_Pd (gm_Pf_3 hd') a h3 hc
  exact gm_Pf_Ce hp ha (fun _ _ _ z => z.1) (fun m a ha z => z.2 rfl ha) hx 3 i (Nat.le_refl _) (gm_Pf_3 hd) hi
theorem gm_Ce_Ce (hx : ∀ u, u + 1 = k → x = gm_t g u) (h : gm_Ce g (k + 1) t n i) : i < k → gm_Ce g k x n i := by
  refine gm_Ce_ind (Q := fun n i => i < k → gm_Ce g k x n i) (fun p i hp hh hi => ?_) h
  have ha : gm_aQ g p 0 := gm_Cg_aQ (fun n a z => gm_Ce_Pd z.1) hh
  obtain ⟨q, u, h1, h2, h3, h4, h5, h6, h7⟩ := hh
  rcases Nat.lt_or_ge u k with z | z
  · rcases h6 with ⟨a, b⟩ | ⟨a, b, e⟩
    · exact gm_Ce_mk hp ⟨q, u, h1, h2, h3, h4, z, Or.inl ⟨a, b.2 z⟩, h7⟩
    · omega
  · have : u = k := by omega
    subst this
    exact gm_Pf_Ce hp ha (fun _ _ _ z => z) (fun m a ha z => gm_D_Ce hx z rfl ha) hx q i (by omega) h3 hi
/-- the first k tokens are a beginning -/
def gm_Bg (g : gm_G) (k : Nat) : Prop := (k = 0 ∧ gm_Pd g 0) ∨ (0 < k ∧ gm_Ce g k (gm_t g (k - 1)) 0 0)
theorem gm_B (ok : gm_ok g) : gm_Bg g k ↔ gm_D g 0 0 k ∨ ∃ t, t < 6 ∧ gm_Ex g k t := by
  have hx : ∀ u, u + 1 = k → gm_t g (k - 1) = gm_t g u := fun u hu => by rw [show k - 1 = u by omega]
  have e : (∃ t, t < 6 ∧ gm_Ce g (k + 1) t 0 0) ↔ ∃ t, t < 6 ∧ gm_Ex g k t :=
    ⟨fun ⟨t, ht, h⟩ => ⟨t, ht, (gm_A (by omega)).mp h⟩, fun ⟨t, ht, h⟩ => ⟨t, ht, (gm_A (by omega)).mpr h⟩⟩
  rw [← e]
  constructor
  · rintro (⟨rfl, h⟩ | ⟨h0, h⟩)
    · exact gm_Pd_fst ok h
    · exact gm_B1 ok h hx
  · intro h
    rcases Nat.eq_zero_or_pos k with z | z
    · refine Or.inl ⟨z, ?_⟩
      rcases h with h | ⟨t, _, h⟩
      · exact gm_D_Pd h
      · exact gm_Ce_Pd h
    · refine Or.inr ⟨z, ?_⟩
      rcases h with h | ⟨t, _, h⟩
      · exact gm_D_Ce hx h rfl z
      · exact gm_Ce_Ce hx h z
end
end
section
/-! pure part 5: distances; more transport -/
section
variable {g g' : gm_G} {D E : Nat → Nat → Nat → Prop} {c i j k p q u v n m r t x d lo hi : Nat}
/-- distance of a terminal from i to j -/
def gm_tc (g : gm_G) (c i j x : Nat) : Prop := (i = j ∧ x = 1) ∨ (i < j ∧ (∃ k, i ≤ k ∧ k < j ∧ gm_t g k = c) ∧ x + 1 = j - i) ∨ (i < j ∧ (∀ k, i ≤ k → k < j → gm_t g k ≠ c) ∧ x = j - i)
theorem gm_tc_ex (h : i ≤ j) : ∃ x, gm_tc g c i j x ∧ x ≤ 1 + (j - i) := by
  rcases Nat.lt_or_ge i j with z | z
  · rcases Classical.em (∃ k, i ≤ k ∧ k < j ∧ gm_t g k = c) with w | w
    · exact ⟨j - i - 1, Or.inr (Or.inl ⟨z, w, by omega⟩), by omega⟩
    · exact ⟨j - i, Or.inr (Or.inr ⟨z, fun k h1 h2 h3 => w ⟨k, h1, h2, h3⟩, rfl⟩), by omega⟩
  · exact ⟨1, Or.inl ⟨by omega, rfl⟩, by omega⟩
theorem gm_tc_un {y : Nat} (h : gm_tc g c i j x) (h' : gm_tc g c i j y) : x = y := by
  rcases h with ⟨a, b⟩ | ⟨a, ⟨k, k1, k2, k3⟩, b⟩ | ⟨a, k, b⟩ <;> rcases h' with ⟨a', b'⟩ | ⟨a', ⟨l, l1, l2, l3⟩, b'⟩ | ⟨a', l, b'⟩
  · omega
  · omega
  · omega
  · omega
  · omega
  · exact absurd k3 (l k k1 k2)
  · omega
  · exact absurd l3 (k l l1 l2)
  · omega
theorem gm_tc_ext {j' : Nat} (h : gm_tc g c i j x) (hj : j ≤ j') : ∃ y, y ≤ x + (j' - j) ∧ gm_tc g c i j' y := by
  rcases Nat.lt_or_ge j j' with z | z
  · rcases h with ⟨a, b⟩ | ⟨a, ⟨k, k1, k2, k3⟩, b⟩ | ⟨a, k, b⟩
    · obtain ⟨y, h1, h2⟩ := gm_tc_ex (g := g) (c := c) (i := i) (j := j') (by omega)
      refine ⟨y, by omega, h1⟩
    · exact ⟨j' - i - 1, by omega, Or.inr (Or.inl ⟨by omega, ⟨k, k1, by omega, k3⟩, by omega⟩)⟩
    · rcases Classical.em (∃ k, i ≤ k ∧ k < j' ∧ gm_t g k = c) with w | w
      · exact ⟨j' - i - 1, by omega, Or.inr (Or.inl ⟨by omega, w, by omega⟩)⟩
      · exact ⟨j' - i, by omega, Or.inr (Or.inr ⟨by omega, fun k h1 h2 h3 => w ⟨k, h1, h2, h3⟩, rfl⟩)⟩
  · have : j' = j := by omega
    subst this
    exact ⟨x, by omega, h⟩
/-- X's costs: no symbol costs all tokens -/
def gm_Co (g : gm_G) (C : Nat → Nat → Nat → Nat → Prop) (c i j x : Nat) : Prop := (10 ≤ c ∧ C (c - 10) i j x) ∨ (c = 9 ∧ x = j - i) ∨ (c < 9 ∧ gm_tc g c i j x)
def gm_Cd (g : gm_G) (C : Nat → Nat → Nat → Nat → Prop) (p i j x : Nat) : Prop := ∃ u v a b c, i ≤ u ∧ u ≤ v ∧ v ≤ j ∧ gm_Co g C (gm_s g (3 * p)) i u a ∧ gm_Co g C (gm_s g (3 * p + 1)) u v b ∧ gm_Co g C (gm_s g (3 * p + 2)) v j c ∧ x = a + b + c
def gm_CX (g : gm_G) : Nat → Nat → Nat → Nat → Nat → Prop
  | 0 => fun _ _ _ _ => False
  | r + 1 => fun n i j x => ∃ p, p < gm_P g ∧ gm_l g p = n ∧ gm_Cd g (gm_CX g r) p i j x
def gm_Xe (g : gm_G) (n i j x : Nat) : Prop := ∃ r, gm_CX g r n i j x
theorem gm_Co_mono {C C' : Nat → Nat → Nat → Nat → Prop} (h : ∀ n i j x, C n i j x → C' n i j x) : gm_Co g C c i j x → gm_Co g C' c i j x := by
  rintro (⟨a, b⟩ | b | b)
  · exact Or.inl ⟨a, h _ _ _ _ b⟩
  · exact Or.inr (Or.inl b)
  · exact Or.inr (Or.inr b)
theorem gm_Cd_mono {C C' : Nat → Nat → Nat → Nat → Prop} (h : ∀ n i j x, C n i j x → C' n i j x) : gm_Cd g C p i j x → gm_Cd g C' p i j x := by
  rintro ⟨u, v, a, b, c, h1, h2, h3, h4, h5, h6, h7⟩
  exact ⟨u, v, a, b, c, h1, h2, h3, gm_Co_mono h h4, gm_Co_mono h h5, gm_Co_mono h h6, h7⟩
theorem gm_CX_succ : ∀ {r n i j x : Nat}, gm_CX g r n i j x → gm_CX g (r + 1) n i j x
  | 0, _, _, _, _, h => h.elim
  | r + 1, n, i, j, x, ⟨p, hp, hl, h⟩ => ⟨p, hp, hl, gm_Cd_mono (fun _ _ _ _ z => gm_CX_succ z) h⟩
theorem gm_CX_mono {r' : Nat} (h : gm_CX g r n i j x) (hr : r ≤ r') : gm_CX g r' n i j x := by
  have : ∀ d, gm_CX g (r + d) n i j x := by
    intro d
    induction d with
    | zero => exact h
    | succ d ih => exact gm_CX_succ ih
  have e := this (r' - r)
  rwa [show r + (r' - r) = r' by omega] at e
theorem gm_Co_r (h : gm_Co g (gm_Xe g) c i j x) : ∃ r, ∀ r', r ≤ r' → gm_Co g (gm_CX g r') c i j x := by
  rcases h with ⟨a, r, b⟩ | b | b
  · exact ⟨r, fun r' hr => Or.inl ⟨a, gm_CX_mono b hr⟩⟩
  · exact ⟨0, fun _ _ => Or.inr (Or.inl b)⟩
  · exact ⟨0, fun _ _ => Or.inr (Or.inr b)⟩
theorem gm_Xe_mk (hp : p < gm_P g) (h : gm_Cd g (gm_Xe g) p i j x) : gm_Xe g (gm_l g p) i j x := by
  obtain ⟨u, v, a, b, c, h1, h2, h3, h4, h5, h6, h7⟩ := h
  obtain ⟨r1, a1⟩ := gm_Co_r h4
  obtain ⟨r2, a2⟩ := gm_Co_r h5
  obtain ⟨r3, a3⟩ := gm_Co_r h6
  exact ⟨r1 + r2 + r3 + 1, p, hp, rfl, u, v, a, b, c, h1, h2, h3, a1 _ (by omega), a2 _ (by omega), a3 _ (by omega), h7⟩
theorem gm_Xe_ind {Q : Nat → Nat → Nat → Nat → Prop} (h : ∀ p i j x, p < gm_P g → gm_Cd g (fun n a b y => gm_Xe g n a b y ∧ Q n a b y) p i j x → Q (gm_l g p) i j x) : ∀ {n i j x}, gm_Xe g n i j x → Q n i j x := by
  have key : ∀ r n i j x, gm_CX g r n i j x → Q n i j x := by
    intro r
    induction r with
    | zero => intro n i j x h; exact h.elim
    | succ r ih =>
      rintro n i j x ⟨p, hp, hl, d⟩
      subst hl
      exact h p i j x hp (gm_Cd_mono (fun n a b y t => ⟨⟨r, t⟩, ih n a b y t⟩) d)
  rintro n i j x ⟨r, t⟩
  exact key r n i j x t
theorem gm_Xe_le (h : gm_Xe g n i j x) : i ≤ j := by
  refine gm_Xe_ind (Q := fun _ i j _ => i ≤ j) (fun p i j x _ hd => ?_) h
  obtain ⟨u, v, a, b, c, h1, h2, h3, _⟩ := hd
  omega
theorem gm_Xe_Pd (h : gm_Xe g n i j x) : gm_Pd g n := by
  refine gm_Xe_ind (Q := fun n _ _ _ => gm_Pd g n) (fun p i j x hp hd => gm_Pd_mk hp fun k _ hk hc => ?_) h
  obtain ⟨u, v, a, b, c, h1, h2, h3, h4, h5, h6, h7⟩ := hd
  have K : ∀ {s i j y}, gm_Co g (fun n a b y => gm_Xe g n a b y ∧ gm_Pd g n) s i j y → 10 ≤ s → gm_Pd g (s - 10) := by
    rintro s i j y (⟨_, z⟩ | ⟨z, _⟩ | ⟨z, _⟩) hs
    · exact z.2
    · omega
    · omega
  rcases (by omega : k = 0 ∨ k = 1 ∨ k = 2) with rfl | rfl | rfl
  · exact K h4 hc
  · exact K h5 hc
  · exact K h6 hc
/-- productive nonterminals are near everything -/
theorem gm_Pr_X : ∀ r n, gm_Pr g r n → ∀ i j, i ≤ j → ∃ x, x ≤ 3 ^ r + (j - i) ∧ gm_Xe g n i j x := by
  intro r
  induction r with
  | zero => intro n h; exact h.elim
  | succ r ih =>
    rintro n ⟨p, hp, hl, hk⟩ i j hij
    subst hl
    have h1 : 1 ≤ 3 ^ r := Nat.pos_of_ne_zero (fun z => by have := Nat.pow_pos (n := r) (show 0 < 3 by omega); omega)
    have S : ∀ k, k < 3 → ∀ i j, i ≤ j → ∃ x, x ≤ 3 ^ r + (j - i) ∧ gm_Co g (gm_Xe g) (gm_s g (3 * p + k)) i j x := by
      intro k h3 i j hij
      rcases Nat.lt_or_ge (gm_s g (3 * p + k)) 10 with z | z
      · rcases Nat.lt_or_ge (gm_s g (3 * p + k)) 9 with y | y
        · obtain ⟨x, hx, hb⟩ := gm_tc_ex (g := g) (c := gm_s g (3 * p + k)) hij
          exact ⟨x, by omega, Or.inr (Or.inr ⟨y, hx⟩)⟩
        · exact ⟨j - i, by omega, Or.inr (Or.inl ⟨by omega, rfl⟩)⟩
      · obtain ⟨x, hx, hb⟩ := ih _ (hk k h3 z) i j hij
        exact ⟨x, hx, Or.inl ⟨z, hb⟩⟩
    obtain ⟨a, ha, Ha⟩ := S 0 (by omega) i j hij
    obtain ⟨b, hb, Hb⟩ := S 1 (by omega) j j (Nat.le_refl _)
    obtain ⟨c, hc, Hc⟩ := S 2 (by omega) j j (Nat.le_refl _)
    refine ⟨a + b + c, ?_, gm_Xe_mk hp ⟨j, j, a, b, c, hij, Nat.le_refl _, Nat.le_refl _, Ha, Hb, Hc, rfl⟩⟩
    rw [Nat.pow_succ]; omega
theorem gm_Pd_X (ok : gm_ok g) (h : gm_Pd g n) (hij : i ≤ j) : ∃ x, x ≤ 243 + (j - i) ∧ gm_Xe g n i j x := by
  obtain ⟨x, hx, he⟩ := gm_Pr_X 5 n (gm_Pd_5 ok h) i j hij
  exact ⟨x, by have : (3 : Nat) ^ 5 = 243 := by decide
               omega, he⟩
/-- Y's costs: an absent symbol stands over nothing; a production without symbols costs all tokens -/
def gm_Cy (g : gm_G) (C : Nat → Nat → Nat → Nat → Prop) (c i j x : Nat) : Prop := (10 ≤ c ∧ C (c - 10) i j x) ∨ (c = 9 ∧ i = j ∧ x = 0) ∨ (c < 9 ∧ gm_tc g c i j x)
def gm_Ye1 (g : gm_G) (C : Nat → Nat → Nat → Nat → Prop) (p i j x : Nat) : Prop := (gm_s g (3 * p) = 9 ∧ i ≤ j ∧ x = j - i) ∨ (gm_s g (3 * p) ≠ 9 ∧ ∃ u v a b c, i ≤ u ∧ u ≤ v ∧ v ≤ j ∧ gm_Cy g C (gm_s g (3 * p)) i u a ∧ gm_Cy g C (gm_s g (3 * p + 1)) u v b ∧ gm_Cy g C (gm_s g (3 * p + 2)) v j c ∧ x = a + b + c)
def gm_CY (g : gm_G) : Nat → Nat → Nat → Nat → Nat → Prop
  | 0 => fun _ _ _ _ => False
  | r + 1 => fun n i j x => ∃ p, p < gm_P g ∧ gm_l g p = n ∧ gm_Ye1 g (gm_CY g r) p i j x
def gm_Ye (g : gm_G) (n i j x : Nat) : Prop := ∃ r, gm_CY g r n i j x
theorem gm_Cy_mono {C C' : Nat → Nat → Nat → Nat → Prop} (h : ∀ n i j x, C n i j x → C' n i j x) : gm_Cy g C c i j x → gm_Cy g C' c i j x := by
  rintro (⟨a, b⟩ | b | b)
  · exact Or.inl ⟨a, h _ _ _ _ b⟩
  · exact Or.inr (Or.inl b)
  · exact Or.inr (Or.inr b)
theorem gm_Ye1_mono {C C' : Nat → Nat → Nat → Nat → Prop} (h : ∀ n i j x, C n i j x → C' n i j x) : gm_Ye1 g C p i j x → gm_Ye1 g C' p i j x := by
  rintro (z | ⟨z, u, v, a, b, c, h1, h2, h3, h4, h5, h6, h7⟩)
  · exact Or.inl z
  · exact Or.inr ⟨z, u, v, a, b, c, h1, h2, h3, gm_Cy_mono h h4, gm_Cy_mono h h5, gm_Cy_mono h h6, h7⟩
theorem gm_CY_succ : ∀ {r n i j x : Nat}, gm_CY g r n i j x → gm_CY g (r + 1) n i j x
  | 0, _, _, _, _, h => h.elim
  | r + 1, n, i, j, x, ⟨p, hp, hl, h⟩ => ⟨p, hp, hl, gm_Ye1_mono (fun _ _ _ _ z => gm_CY_succ z) h⟩
theorem gm_CY_mono {r' : Nat} (h : gm_CY g r n i j x) (hr : r ≤ r') : gm_CY g r' n i j x := by
  have : ∀ d, gm_CY g (r + d) n i j x := by
    intro d
    induction d with
    | zero => exact h
    | succ d ih => exact gm_CY_succ ih
  have e := this (r' - r)
  rwa [show r + (r' - r) = r' by omega] at e
theorem gm_Cy_r (h : gm_Cy g (gm_Ye g) c i j x) : ∃ r, ∀ r', r ≤ r' → gm_Cy g (gm_CY g r') c i j x := by
  rcases h with ⟨a, r, b⟩ | b | b
  · exact ⟨r, fun r' hr => Or.inl ⟨a, gm_CY_mono b hr⟩⟩
  · exact ⟨0, fun _ _ => Or.inr (Or.inl b)⟩
  · exact ⟨0, fun _ _ => Or.inr (Or.inr b)⟩
theorem gm_Ye_mk (hp : p < gm_P g) (h : gm_Ye1 g (gm_Ye g) p i j x) : gm_Ye g (gm_l g p) i j x := by
  rcases h with z | ⟨z, u, v, a, b, c, h1, h2, h3, h4, h5, h6, h7⟩
  · exact ⟨1, p, hp, rfl, Or.inl z⟩
  · obtain ⟨r1, a1⟩ := gm_Cy_r h4
    obtain ⟨r2, a2⟩ := gm_Cy_r h5
    obtain ⟨r3, a3⟩ := gm_Cy_r h6
    exact ⟨r1 + r2 + r3 + 1, p, hp, rfl, Or.inr ⟨z, u, v, a, b, c, h1, h2, h3, a1 _ (by omega), a2 _ (by omega), a3 _ (by omega), h7⟩⟩
theorem gm_Ye_ind {Q : Nat → Nat → Nat → Nat → Prop} (h : ∀ p i j x, p < gm_P g → gm_Ye1 g (fun n a b y => gm_Ye g n a b y ∧ Q n a b y) p i j x → Q (gm_l g p) i j x) : ∀ {n i j x}, gm_Ye g n i j x → Q n i j x := by
  have key : ∀ r n i j x, gm_CY g r n i j x → Q n i j x := by
    intro r
    induction r with
    | zero => intro n i j x h; exact h.elim
    | succ r ih =>
      rintro n i j x ⟨p, hp, hl, d⟩
      subst hl
      exact h p i j x hp (gm_Ye1_mono (fun n a b y t => ⟨⟨r, t⟩, ih n a b y t⟩) d)
  rintro n i j x ⟨r, t⟩
  exact key r n i j x t
theorem gm_Ye_Xe (ok : gm_ok g) (h : gm_Ye g n i j x) : gm_Xe g n i j x := by
  refine gm_Ye_ind (Q := fun n i j x => gm_Xe g n i j x) (fun p i j x hp hd => gm_Xe_mk hp ?_) h
  have K : ∀ {s i j y}, gm_Cy g (fun n a b y => gm_Ye g n a b y ∧ gm_Xe g n a b y) s i j y → gm_Co g (gm_Xe g) s i j y := by
    rintro s i j y (⟨a, z⟩ | ⟨a, b, z⟩ | z)
    · exact Or.inl ⟨a, z.2⟩
    · exact Or.inr (Or.inl ⟨a, by omega⟩)
    · exact Or.inr (Or.inr z)
  rcases hd with ⟨z, h1, h2⟩ | ⟨z, u, v, a, b, c, h1, h2, h3, h4, h5, h6, h7⟩
  · have z1 := (ok.2 p hp).2.2.1 z
    have z2 := (ok.2 p hp).2.2.2 z1
    exact ⟨j, j, j - i, 0, 0, h1, Nat.le_refl _, Nat.le_refl _, Or.inr (Or.inl ⟨z, rfl⟩), Or.inr (Or.inl ⟨z1, by omega⟩), Or.inr (Or.inl ⟨z2, by omega⟩), by omega⟩
  · exact ⟨u, v, a, b, c, h1, h2, h3, K h4, K h5, K h6, h7⟩
/-- a longer span costs at most the tokens that come in -/
theorem gm_Ye_ext (ok : gm_ok g) (h : gm_Ye g n i j x) : ∀ {j'}, j ≤ j' → ∃ y, y ≤ x + (j' - j) ∧ gm_Ye g n i j' y := by
  intro j' hj'
  refine gm_Ye_ind (Q := fun n i j x => ∀ j', j ≤ j' → ∃ y, y ≤ x + (j' - j) ∧ gm_Ye g n i j' y) (fun p i j x hp hd j' hj' => ?_) h j' hj'
  have F : ∀ {s i j y}, gm_Cy g (fun n i j x => gm_Ye g n i j x ∧ ∀ j', j ≤ j' → ∃ y, y ≤ x + (j' - j) ∧ gm_Ye g n i j' y) s i j y → gm_Cy g (gm_Ye g) s i j y :=
    fun z => gm_Cy_mono (fun _ _ _ _ z => z.1) z
  have K : ∀ {s i j y}, gm_Cy g (fun n i j x => gm_Ye g n i j x ∧ ∀ j', j ≤ j' → ∃ y, y ≤ x + (j' - j) ∧ gm_Ye g n i j' y) s i j y → s ≠ 9 → ∀ j', j ≤ j' → ∃ y', y' ≤ y + (j' - j) ∧ gm_Cy g (gm_Ye g) s i j' y' := by
    rintro s i j y (⟨a, z⟩ | ⟨a, b, z⟩ | ⟨a, z⟩) hs j' hj
    · obtain ⟨y', h1, h2⟩ := z.2 j' hj
      exact ⟨y', h1, Or.inl ⟨a, h2⟩⟩
    · exact absurd a hs
    · obtain ⟨y', h1, h2⟩ := gm_tc_ext z hj
      exact ⟨y', h1, Or.inr (Or.inr ⟨a, h2⟩)⟩
  have Z : ∀ {C : Nat → Nat → Nat → Nat → Prop} {s i j y}, gm_Cy g C s i j y → s = 9 → i = j ∧ y = 0 := by
    rintro C s i j y (⟨a, z⟩ | ⟨a, b, z⟩ | ⟨a, z⟩) hs
    · omega
    · exact ⟨b, z⟩
    · omega
  rcases hd with ⟨z, h1, h2⟩ | ⟨z, u, v, a, b, c, h1, h2, h3, h4, h5, h6, h7⟩
  · exact ⟨j' - i, by omega, gm_Ye_mk hp (Or.inl ⟨z, by omega, rfl⟩)⟩
  · by_cases z2 : gm_s g (3 * p + 2) = 9
    · obtain ⟨e1, e2⟩ := Z h6 z2
      subst e1
      by_cases z1 : gm_s g (3 * p + 1) = 9
      · obtain ⟨e3, e4⟩ := Z h5 z1
        subst e3
        obtain ⟨a', ha, Ha⟩ := K h4 z j' hj'
        exact ⟨a', by omega, gm_Ye_mk hp (Or.inr ⟨z, j', j', a', 0, 0, by omega, Nat.le_refl _, Nat.le_refl _, Ha, Or.inr (Or.inl ⟨z1, rfl, rfl⟩), Or.inr (Or.inl ⟨z2, rfl, rfl⟩), by omega⟩)⟩
      · obtain ⟨b', hb, Hb⟩ := K h5 z1 j' hj'
        exact ⟨a + b', by omega, gm_Ye_mk hp (Or.inr ⟨z, u, j', a, b', 0, h1, by omega, Nat.le_refl _, F h4, Hb, Or.inr (Or.inl ⟨z2, rfl, rfl⟩), by omega⟩)⟩
    · obtain ⟨c', hc, Hc⟩ := K h6 z2 j' hj'
      exact ⟨a + b + c', by omega, gm_Ye_mk hp (Or.inr ⟨z, u, v, a, b, c', h1, h2, by omega, F h4, F h5, Hc, rfl⟩)⟩
theorem gm_Cy_ext (ok : gm_ok g) (h : gm_Cy g (gm_Ye g) c i j x) (hc : c ≠ 9) {j' : Nat} (hj : j ≤ j') : ∃ y, y ≤ x + (j' - j) ∧ gm_Cy g (gm_Ye g) c i j' y := by
  rcases h with ⟨a, z⟩ | ⟨a, b, z⟩ | ⟨a, z⟩
  · obtain ⟨y', h1, h2⟩ := gm_Ye_ext ok z hj
    exact ⟨y', h1, Or.inl ⟨a, h2⟩⟩
  · exact absurd a hc
  · obtain ⟨y', h1, h2⟩ := gm_tc_ext z hj
    exact ⟨y', h1, Or.inr (Or.inr ⟨a, h2⟩)⟩
theorem gm_Xe_Ye (ok : gm_ok g) (h : gm_Xe g n i j x) : ∃ y, y ≤ x ∧ gm_Ye g n i j y := by
  refine gm_Xe_ind (Q := fun n i j x => ∃ y, y ≤ x ∧ gm_Ye g n i j y) (fun p i j x hp hd => ?_) h
  have K : ∀ {s i j y}, gm_Co g (fun n a b x => gm_Xe g n a b x ∧ ∃ y, y ≤ x ∧ gm_Ye g n a b y) s i j y → s ≠ 9 → ∃ y', y' ≤ y ∧ gm_Cy g (gm_Ye g) s i j y' := by
    rintro s i j y (⟨a, -, y', h1, h2⟩ | ⟨a, z⟩ | z) hs
    · exact ⟨y', h1, Or.inl ⟨a, h2⟩⟩
    · exact absurd a hs
    · exact ⟨y, Nat.le_refl _, Or.inr (Or.inr z)⟩
  have Z : ∀ {C : Nat → Nat → Nat → Nat → Prop} {s i j y}, gm_Co g C s i j y → s = 9 → y = j - i := by
    rintro C s i j y (⟨a, z⟩ | ⟨a, z⟩ | ⟨a, z⟩) hs
    · omega
    · exact z
    · omega
  obtain ⟨u, v, a, b, c, h1, h2, h3, h4, h5, h6, h7⟩ := hd
  by_cases z0 : gm_s g (3 * p) = 9
  · have z1 := (ok.2 p hp).2.2.1 z0
    have z2 := (ok.2 p hp).2.2.2 z1
    have e0 := Z h4 z0
    have e1 := Z h5 z1
    have e2 := Z h6 z2
    exact ⟨j - i, by omega, gm_Ye_mk hp (Or.inl ⟨z0, by omega, rfl⟩)⟩
  · obtain ⟨a', ha, Ha⟩ := K h4 z0
    by_cases z1 : gm_s g (3 * p + 1) = 9
    · have z2 := (ok.2 p hp).2.2.2 z1
      have e1 := Z h5 z1
      have e2 := Z h6 z2
      obtain ⟨y, hy, Hy⟩ := gm_Cy_ext ok Ha z0 (show u ≤ j by omega)
      exact ⟨y, by omega, gm_Ye_mk hp (Or.inr ⟨z0, j, j, y, 0, 0, by omega, Nat.le_refl _, Nat.le_refl _, Hy, Or.inr (Or.inl ⟨z1, rfl, rfl⟩), Or.inr (Or.inl ⟨z2, rfl, rfl⟩), by omega⟩)⟩
    · obtain ⟨b', hb, Hb⟩ := K h5 z1
      by_cases z2 : gm_s g (3 * p + 2) = 9
      · have e2 := Z h6 z2
        obtain ⟨y, hy, Hy⟩ := gm_Cy_ext ok Hb z1 (show v ≤ j by omega)
        exact ⟨a' + y, by omega, gm_Ye_mk hp (Or.inr ⟨z0, u, j, a', y, 0, h1, by omega, Nat.le_refl _, Ha, Hy, Or.inr (Or.inl ⟨z2, rfl, rfl⟩), by omega⟩)⟩
      · obtain ⟨c', hc, Hc⟩ := K h6 z2
        exact ⟨a' + b' + c', by omega, gm_Ye_mk hp (Or.inr ⟨z0, u, v, a', b', c', h1, h2, h3, Ha, Hb, Hc, rfl⟩)⟩
/-- what X holds: the least cost, or 30000 -/
def gm_FX (g : gm_G) (n i j x : Nat) : Prop := (x = 30000 ∨ gm_Xe g n i j x) ∧ x ≤ 30000 ∧ ∀ y, gm_Xe g n i j y → x ≤ y
/-- what Y holds: the least cost -/
def gm_FY (g : gm_G) (n i j x : Nat) : Prop := gm_Ye g n i j x ∧ ∀ y, gm_Ye g n i j y → x ≤ y
theorem gm_FXY (ok : gm_ok g) (hj : i ≤ j) (hl : j - i ≤ 10) {y : Nat} (hp : gm_Pd g n) (h : gm_FX g n i j x) (h' : gm_FY g n i j y) : x = y := by
  obtain ⟨z, hz, Hz⟩ := gm_Pd_X ok hp hj
  have a := h.2.2 z Hz
  have b : gm_Xe g n i j x := h.1.resolve_left (by omega)
  obtain ⟨w, hw, Hw⟩ := gm_Xe_Ye ok b
  have c := h'.2 w Hw
  have d := h.2.2 y (gm_Ye_Xe ok h'.1)
  omega
theorem gm_Pd_Ye (ok : gm_ok g) (hp : gm_Pd g n) (hij : i ≤ j) : ∃ y, gm_Ye g n i j y := by
  obtain ⟨z, hz, Hz⟩ := gm_Pd_X ok hp hij
  obtain ⟨w, hw, Hw⟩ := gm_Xe_Ye ok Hz
  exact ⟨w, Hw⟩
theorem gm_Ye_Pd (ok : gm_ok g) (h : gm_Ye g n i j x) : gm_Pd g n := gm_Xe_Pd (gm_Ye_Xe ok h)
/-! transport -/
theorem gm_tc_tr (A : gm_Ag g g' d lo hi) (hi' : lo ≤ i) (hj : j ≤ hi) : gm_tc g c i j x ↔ gm_tc g' c (i + d) (j + d) x := by
  have E1 : (∃ k, i ≤ k ∧ k < j ∧ gm_t g k = c) ↔ (∃ k, i + d ≤ k ∧ k < j + d ∧ gm_t g' k = c) := by
    constructor
    · rintro ⟨k, h1, h2, h3⟩
      exact ⟨k + d, by omega, by omega, by rw [A.2.2.2 k (by omega) (by omega)]; exact h3⟩
    · rintro ⟨k, h1, h2, h3⟩
      refine ⟨k - d, by omega, by omega, ?_⟩
      rw [← A.2.2.2 (k - d) (by omega) (by omega), show k - d + d = k by omega]; exact h3
  have E2 : (∀ k, i ≤ k → k < j → gm_t g k ≠ c) ↔ (∀ k, i + d ≤ k → k < j + d → gm_t g' k ≠ c) := by
    constructor
    · intro h k h1 h2 h3
      exact absurd (E1.mpr ⟨k, h1, h2, h3⟩) (fun ⟨k, a, b, c⟩ => h k a b c)
    · intro h k h1 h2 h3
      exact absurd (E1.mp ⟨k, h1, h2, h3⟩) (fun ⟨k, a, b, c⟩ => h k a b c)
  unfold gm_tc
  rw [← E1, ← E2, show (i + d = j + d) = (i = j) from propext (by omega), show (i + d < j + d) = (i < j) from propext (by omega), show j + d - (i + d) = j - i by omega]
theorem gm_CX_tr (A : gm_Ag g g' d lo hi) : ∀ r n i j x, lo ≤ i → j ≤ hi → (gm_CX g r n i j x ↔ gm_CX g' r n (i + d) (j + d) x) := by
  intro r
  induction r with
  | zero => intro n i j x _ _; exact Iff.rfl
  | succ r ih =>
    intro n i j x hi' hj
    have K : ∀ c a b y, lo ≤ a → b ≤ hi → (gm_Co g (gm_CX g r) c a b y ↔ gm_Co g' (gm_CX g' r) c (a + d) (b + d) y) := by
      intro c a b y ha hb
      unfold gm_Co
      rw [ih (c - 10) a b y ha hb, gm_tc_tr A ha hb, show b + d - (a + d) = b - a by omega]
    constructor
    · rintro ⟨p, hp, hl, u, v, a, b, c, h1, h2, h3, h4, h5, h6, h7⟩
      refine ⟨p, by rw [A.1]; exact hp, by rw [A.2.1]; exact hl, u + d, v + d, a, b, c, by omega, by omega, by omega, ?_, ?_, ?_, h7⟩ <;> rw [A.2.2.1]
      · exact (K _ _ _ _ (by omega) (by omega)).mp h4
      · exact (K _ _ _ _ (by omega) (by omega)).mp h5
      · exact (K _ _ _ _ (by omega) (by omega)).mp h6
    · rintro ⟨p, hp, hl, u, v, a, b, c, h1, h2, h3, h4, h5, h6, h7⟩
      rw [A.2.2.1] at h4 h5 h6
      obtain ⟨u0, rfl⟩ : ∃ u0, u = u0 + d := ⟨u - d, by omega⟩
      obtain ⟨v0, rfl⟩ : ∃ v0, v = v0 + d := ⟨v - d, by omega⟩
      exact ⟨p, by rw [A.1] at hp; exact hp, by rw [A.2.1] at hl; exact hl, u0, v0, a, b, c, by omega, by omega, by omega, (K _ _ _ _ (by omega) (by omega)).mpr h4, (K _ _ _ _ (by omega) (by omega)).mpr h5, (K _ _ _ _ (by omega) (by omega)).mpr h6, h7⟩
theorem gm_Xe_tr (A : gm_Ag g g' d lo hi) (hi' : lo ≤ i) (hj : j ≤ hi) : gm_Xe g n i j x ↔ gm_Xe g' n (i + d) (j + d) x :=
  ⟨fun ⟨r, h⟩ => ⟨r, (gm_CX_tr A r n i j x hi' hj).mp h⟩, fun ⟨r, h⟩ => ⟨r, (gm_CX_tr A r n i j x hi' hj).mpr h⟩⟩
theorem gm_FX_tr (A : gm_Ag g g' d lo hi) (hi' : lo ≤ i) (hj : j ≤ hi) : gm_FX g n i j x ↔ gm_FX g' n (i + d) (j + d) x := by
  unfold gm_FX
  constructor
  · rintro ⟨a, b, e⟩
    exact ⟨a.imp id (gm_Xe_tr A hi' hj).mp, b, fun y hy => e y ((gm_Xe_tr A hi' hj).mpr hy)⟩
  · rintro ⟨a, b, e⟩
    exact ⟨a.imp id (gm_Xe_tr A hi' hj).mpr, b, fun y hy => e y ((gm_Xe_tr A hi' hj).mp hy)⟩
def gm_Sg (g g' : gm_G) : Prop := gm_P g' = gm_P g ∧ gm_l g' = gm_l g ∧ gm_s g' = gm_s g
theorem gm_Sg_Ag (h : gm_Sg g g') : gm_Ag g g' 0 0 0 := ⟨h.1, h.2.1, h.2.2, fun k _ hk => absurd hk (by omega)⟩
theorem gm_Sg_sy (h : gm_Sg g g') : gm_Sg g' g := ⟨h.1.symm, h.2.1.symm, h.2.2.symm⟩
theorem gm_Pr_tr (h : gm_Sg g g') : ∀ r n, gm_Pr g r n → gm_Pr g' r n := by
  intro r
  induction r with
  | zero => exact fun n z => z
  | succ r ih =>
    rintro n ⟨p, hp, hl, hk⟩
    exact ⟨p, by rw [h.1]; exact hp, by rw [h.2.1]; exact hl, fun k h3 hc => by rw [h.2.2] at hc ⊢; exact ih _ (hk k h3 hc)⟩
theorem gm_Pd_tr (h : gm_Sg g g') : gm_Pd g n ↔ gm_Pd g' n :=
  ⟨fun ⟨r, z⟩ => ⟨r, gm_Pr_tr h r n z⟩, fun ⟨r, z⟩ => ⟨r, gm_Pr_tr (gm_Sg_sy h) r n z⟩⟩
theorem gm_aQ_tr (h : gm_Sg g g') : gm_aQ g p q → gm_aQ g' p q := fun z k h1 h2 hc => by
  rw [h.2.2] at hc ⊢
  exact (gm_Pd_tr h).mp (z k h1 h2 hc)
theorem gm_U_tr (h : gm_Sg g g') : ∀ r n, gm_U g r n → gm_U g' r n := by
  intro r
  induction r with
  | zero => exact fun n z => ⟨z.1, (gm_Pd_tr h).mp z.2⟩
  | succ r ih =>
    rintro n (z | ⟨p, k, hp, hu, ha, hk, he⟩)
    · exact Or.inl (ih n z)
    · exact Or.inr ⟨p, k, by rw [h.1]; exact hp, by rw [h.2.1]; exact ih _ hu, gm_aQ_tr h ha, hk, by rw [h.2.2]; exact he⟩
theorem gm_Us_tr (h : gm_Sg g g') : gm_Us g n ↔ gm_Us g' n :=
  ⟨fun ⟨r, z⟩ => ⟨r, gm_U_tr h r n z⟩, fun ⟨r, z⟩ => ⟨r, gm_U_tr (gm_Sg_sy h) r n z⟩⟩
theorem gm_Pf_tr (A : gm_Ag g g' 0 0 hi) : ∀ q i k, k ≤ hi → gm_Pf g (gm_D g) p q i k → gm_Pf g' (gm_D g') p q i k := by
  intro q
  induction q with
  | zero => exact fun i k _ z => z
  | succ q ih =>
    rintro i k hk ⟨u, h1, h2, h3, h4⟩
    refine ⟨u, ih i u (by omega) h1, h2, h3, ?_⟩
    rw [A.2.2.1]
    exact (gm_Sp_tr (E := gm_D g') A (Nat.zero_le _) hk (fun _ => gm_D_tr A (Nat.zero_le _) hk)).mp h4
theorem gm_W_tr (A : gm_Ag g g' 0 0 hi) : ∀ r k m, k ≤ hi → gm_W g r k m → gm_W g' r k m := by
  have S : gm_Sg g g' := ⟨A.1, A.2.1, A.2.2.1⟩
  intro r
  induction r with
  | zero => exact fun k m _ z => z
  | succ r ih =>
    rintro k m hk (⟨a, b, e⟩ | ⟨i, p, q, h1, hp, hw, ha, hq, hs, hf⟩)
    · exact Or.inl ⟨a, b, (gm_Pd_tr S).mp e⟩
    · exact Or.inr ⟨i, p, q, h1, by rw [A.1]; exact hp, by rw [A.2.1]; exact ih _ _ (by omega) hw, gm_aQ_tr S ha, hq, by rw [A.2.2.1]; exact hs, gm_Pf_tr A q i k hk hf⟩
theorem gm_Ag_sy (A : gm_Ag g g' 0 lo hi) : gm_Ag g' g 0 lo hi := ⟨A.1.symm, A.2.1.symm, A.2.2.1.symm, fun k h1 h2 => (A.2.2.2 k h1 h2).symm⟩
theorem gm_Wt_tr (A : gm_Ag g g' 0 0 hi) (hk : k ≤ hi) : gm_Wt g k m ↔ gm_Wt g' k m :=
  ⟨fun ⟨r, h⟩ => ⟨r, gm_W_tr A r k m hk h⟩, fun ⟨r, h⟩ => ⟨r, gm_W_tr (gm_Ag_sy A) r k m hk h⟩⟩
end
end
section
/-! ints: symbols, bits as sets, indices -/
def cp_Sy (c : Nat) : Int32 := if c = 9 then -1 else nI c
theorem cp_Sy_n {c : Nat} (h : c ≠ 9) : cp_Sy c = nI c := if_neg h
theorem cp_Sy_9 {c : Nat} (h : c = 9) : cp_Sy c = -1 := if_pos h
theorem cp_Sy_ge0 {c : Nat} (hc : c < 15) : 0 ≤ cp_Sy c ↔ c ≠ 9 := by
  by_cases h : c = 9
  · rw [cp_Sy_9 h]; simp [h]
  · rw [cp_Sy_n h, ← nI_0, nI_leI (by omega) (by omega)]; omega
theorem cp_Sy_ge10 {c : Nat} (hc : c < 15) : 10 ≤ cp_Sy c ↔ 10 ≤ c := by
  by_cases h : c = 9
  · rw [cp_Sy_9 h]; subst h; decide
  · rw [cp_Sy_n h]; exact nI_leI (a := 10) (by omega) (by omega)
theorem cp_Sy_le9 {c : Nat} (hc : c < 15) : cp_Sy c ≤ 9 ↔ c < 10 := by
  by_cases h : c = 9
  · rw [cp_Sy_9 h]; subst h; decide
  · rw [cp_Sy_n h]; rw [show (9 : Int32) = nI 9 from rfl, nI_leI (by omega) (by omega)]; omega
theorem cp_Sy_lt10 {c : Nat} (hc : c < 15) : cp_Sy c < 10 ↔ c < 10 := by
  by_cases h : c = 9
  · rw [cp_Sy_9 h]; subst h; decide
  · rw [cp_Sy_n h]; rw [show (10 : Int32) = nI 10 from rfl, nI_ltI (by omega) (by omega)]
theorem cp_Sy_inj {c d : Nat} (hc : c < 15) (hd : d < 15) : cp_Sy c = cp_Sy d ↔ c = d := by
  constructor
  · intro h
    by_cases h1 : c = 9
    · by_cases h2 : d = 9
      · omega
      · rw [cp_Sy_9 h1, cp_Sy_n h2] at h
        have : (nI d).toInt = -1 := by rw [← h]; rfl
        rw [nI_toInt (by omega)] at this; omega
    · by_cases h2 : d = 9
      · rw [cp_Sy_n h1, cp_Sy_9 h2] at h
        have : (nI c).toInt = -1 := by rw [h]; rfl
        rw [nI_toInt (by omega)] at this; omega
      · rw [cp_Sy_n h1, cp_Sy_n h2] at h
        exact (nI_eq (by omega) (by omega)).mp h
  · intro h; rw [h]
theorem cp_tx {t c : Nat} (ht : t < 6) (hc : c < 15) : nI t = cp_Sy c ↔ t = c := by
  rw [← cp_Sy_n (c := t) (by omega)]; exact cp_Sy_inj (by omega) hc
/-! branches by an equivalent -/
theorem br_i {c d A B : Prop} (e : c ↔ d) (f : d → A) (k : ¬ d → B) : (c → A) ∧ (¬ c → B) := ⟨fun h => f (e.mp h), fun h => k (fun x => h (e.mpr x))⟩
/-! bits -/
theorem cp_b1 : ∀ i, i < 32 → bt 1 i = decide (i = 0) := by decide +kernel
theorem cp_b2 : ∀ i, i < 32 → bt 2 i = decide (i = 1) := by decide +kernel
theorem cp_b64 : ∀ i, i < 32 → bt 64 i = decide (i = 6) := by decide +kernel
theorem cp_b63 : ∀ i, i < 32 → bt 63 i = decide (i < 6) := by decide +kernel
theorem cp_bit (x : Int32) {n : Nat} (hn : n < 32) : (x >>> (nI n &&& 31)) &&& 1 = if bt x n = true then 1 else 0 := by
  apply b_ext
  intro i hi
  rw [b_and, b_sshr n hn x hi, cp_b1 i hi]
  by_cases h : i = 0
  · subst h
    rw [Nat.add_zero, if_pos hn]
    by_cases z : bt x n = true
    · rw [if_pos z, z, cp_b1 0 (by omega)]; rfl
    · rw [if_neg z, b_0]; simp at z; rw [z]; rfl
  · rw [decide_eq_false h, Bool.and_false]
    by_cases z : bt x n = true
    · rw [if_pos z, cp_b1 i hi, decide_eq_false h]
    · rw [if_neg z, b_0]
theorem cp_tst (x : Int32) {n : Nat} (hn : n < 32) : ((x >>> (nI n &&& 31)) &&& 1) = 0 ↔ ¬ bt x n = true := by
  rw [cp_bit x hn]
  by_cases z : bt x n = true
  · rw [if_pos z]; exact ⟨fun h => absurd h (by decide), fun h => absurd z h⟩
  · rw [if_neg z]; exact ⟨fun _ => z, fun _ => rfl⟩
theorem br_bit {x : Int32} {n : Nat} {A B : Prop} (hn : n < 32) (f : ¬ bt x n = true → A) (k : bt x n = true → B) : (((x >>> (nI n &&& 31)) &&& 1) = 0 → A) ∧ (¬ ((x >>> (nI n &&& 31)) &&& 1) = 0 → B) :=
  br_i (cp_tst x hn) f (fun h => k (Classical.not_not.mp h))
/-- an int as a set of bits -/
def cp_St (x : Int32) (A : Nat → Prop) : Prop := ∀ i, i < 32 → (bt x i = true ↔ A i)
section
variable {x y : Int32} {A B : Nat → Prop} {n : Nat}
theorem cp_St_or (h : cp_St x A) (k : cp_St y B) : cp_St (x ||| y) (fun i => A i ∨ B i) := fun i hi => by
  rw [b_or, Bool.or_eq_true, h i hi, k i hi]
theorem cp_St_and (h : cp_St x A) (k : cp_St y B) : cp_St (x &&& y) (fun i => A i ∧ B i) := fun i hi => by
  rw [b_and, Bool.and_eq_true, h i hi, k i hi]
theorem cp_St_0 : cp_St 0 (fun _ => False) := fun i _ => by rw [b_0]; simp
theorem cp_St_1 (hn : n < 32) : cp_St ((1 : Int32) <<< (nI n &&& 31)) (fun i => i = n) := fun i hi => by
  rw [b_shl n hn _ hi, cp_b1 _ (by omega)]; simp; omega
theorem cp_St_2 (hn : n < 31) : cp_St ((2 : Int32) <<< (nI n &&& 31)) (fun i => i = n + 1) := fun i hi => by
  rw [b_shl n (by omega) _ hi, cp_b2 _ (by omega)]; simp; omega
theorem cp_St_64 (hn : n < 26) : cp_St ((64 : Int32) <<< (nI n &&& 31)) (fun i => i = n + 6) := fun i hi => by
  rw [b_shl n (by omega) _ hi, cp_b64 _ (by omega)]; simp; omega
theorem cp_St_i (h : cp_St x A) (e : ∀ i, i < 32 → (A i ↔ B i)) : cp_St x B := fun i hi => (h i hi).trans (e i hi)
theorem cp_St_eq (h : cp_St x A) (k : cp_St y B) (e : ∀ i, i < 32 → (A i ↔ B i)) : x = y := b_ext fun i hi => by
  have a : bt x i = true ↔ bt y i = true := (h i hi).trans ((e i hi).trans (k i hi).symm)
  cases hx : bt x i <;> cases hy : bt y i <;> simp_all
theorem cp_St_z (h : cp_St x A) : x = 0 ↔ ∀ i, i < 32 → ¬ A i := by
  constructor
  · intro e i hi hA
    rw [← h i hi, e, b_0] at hA
    exact absurd hA (by decide)
  · intro e
    exact cp_St_eq h cp_St_0 fun i hi => ⟨fun z => e i hi z, fun z => z.elim⟩
theorem cp_St_b (x : Int32) : cp_St x (fun i => bt x i = true) := fun _ _ => Iff.rfl
theorem cp_i16 (x : Int32) {i : Nat} (hi : i < 32) : bt (x.toInt16.toInt32) i = if i < 16 then bt x i else bt x 15 := by
  unfold bt
  rw [Int16.toBitVec_toInt32, Int32.toBitVec_toInt16, BitVec.getLsbD_signExtend, BitVec.msb_eq_getLsbD_last]
  simp only [BitVec.getLsbD_signExtend]
  by_cases h : i < 16
  · simp [h, hi]
  · simp [h, hi]
theorem cp_i8 (x : Int32) {i : Nat} (hi : i < 32) : bt (x.toInt8.toInt32) i = if i < 8 then bt x i else bt x 7 := by
  unfold bt
  rw [Int8.toBitVec_toInt32, Int32.toBitVec_toInt8, BitVec.getLsbD_signExtend, BitVec.msb_eq_getLsbD_last]
  simp only [BitVec.getLsbD_signExtend]
  by_cases h : i < 8
  · simp [h, hi]
  · simp [h, hi]
theorem cp_St_16 (h : cp_St x A) (hA : ∀ i, i < 32 → A i → i < 15) : x.toInt16.toInt32 = x := b_ext fun i hi => by
  rw [cp_i16 x hi]
  by_cases z : i < 16
  · rw [if_pos z]
  · rw [if_neg z]
    have a : ∀ k, k < 32 → 15 ≤ k → bt x k = false := fun k h1 h2 => by
      cases hb : bt x k
      · rfl
      · have := hA k h1 ((h k h1).mp hb); omega
    rw [a 15 (by omega) (by omega), a i hi (by omega)]
theorem cp_St_8 (h : cp_St x A) (hA : ∀ i, i < 32 → A i → i < 7) : x.toInt8.toInt32 = x := b_ext fun i hi => by
  rw [cp_i8 x hi]
  by_cases z : i < 8
  · rw [if_pos z]
  · rw [if_neg z]
    have a : ∀ k, k < 32 → 7 ≤ k → bt x k = false := fun k h1 h2 => by
      cases hb : bt x k
      · rfl
      · have := hA k h1 ((h k h1).mp hb); omega
    rw [a 7 (by omega) (by omega), a i hi (by omega)]
theorem cp_n16 (h : x.toInt16.toInt32 = x) : vp_nar .short x.toInt16.toInt32 = x := by rw [pk_vs, h]
theorem cp_n8 (h : x.toInt8.toInt32 = x) : vp_nar .byte x.toInt8.toInt32 = x := by rw [pk_vb, h]
theorem cp_n16' (h : x.toInt16.toInt32 = x) : vp_nar .short x = x := by rw [vp_nar_short, h]
theorem cp_n8' (h : x.toInt8.toInt32 = x) : vp_nar .byte x = x := by rw [vp_nar_byte, h]
end
theorem cp_t8 : ∀ n, n < 128 → (nI n).toInt8.toInt32 = nI n := by decide +kernel
theorem cp_t16 {n : Nat} (h : n < 32768) : (nI n).toInt16.toInt32 = nI n := by
  apply Int32.toInt_inj.mp
  rw [Int16.toInt_toInt32, Int32.toInt_toInt16, nI_toInt (by omega)]
  rw [Int.bmod_eq_of_le] <;> omega
theorem cp_Sy8 {c : Nat} (hc : c < 15) : (cp_Sy c).toInt8.toInt32 = cp_Sy c := by
  by_cases h : c = 9
  · rw [cp_Sy_9 h]; decide
  · rw [cp_Sy_n h]; exact cp_t8 c (by omega)
/-! indices -/
section
variable {c i j n p k : Nat}
theorem ix_5 : (5 * nI i) + nI n = nI (5 * i + n) := by rw [show (5 : Int32) = nI 5 from rfl, pk_mul, nI_add]
theorem ix_S (h : 10 ≤ c) : cp_Sy c - 10 = nI (c - 10) := by rw [cp_Sy_n (by omega)]; exact pk_sub (b := 10) h
theorem ix_5s (h : 10 ≤ c) : ((5 * nI i) + cp_Sy c) - 10 = nI (5 * i + (c - 10)) := by
  rw [cp_Sy_n (by omega), ix_5, show (10 : Int32) = nI 10 from rfl, pk_sub (by omega)]
  exact congrArg nI (by omega)
theorem ix_55 : ((55 * nI i) + (11 * nI n)) + nI j = nI (55 * i + 11 * n + j) := by
  rw [show (55 : Int32) = nI 55 from rfl, show (11 : Int32) = nI 11 from rfl, pk_mul, pk_mul, nI_add, nI_add]
theorem ix_55s (h : 10 ≤ c) : ((55 * nI i) + (11 * (cp_Sy c - 10))) + nI j = nI (55 * i + 11 * (c - 10) + j) := by rw [ix_S h, ix_55]
theorem ix_3 : 3 * nI p = nI (3 * p) := by rw [show (3 : Int32) = nI 3 from rfl, pk_mul]
theorem ix_31 : (3 * nI p) + 1 = nI (3 * p + 1) := by rw [ix_3, nI_1]
theorem ix_32 : (3 * nI p) + 2 = nI (3 * p + 2) := by rw [ix_3, show (2 : Int32) = nI 2 from rfl, nI_add]
theorem ix_3k : (3 * nI p) + nI k = nI (3 * p + k) := by rw [ix_3, nI_add]
theorem ix_N : nI (n + 10) - 10 = nI n := by rw [show (10 : Int32) = nI 10 from rfl, pk_sub (by omega)]; exact congrArg nI (by omega)
theorem ix_196 : ((196 * nI n) + (14 * nI i)) + nI j = nI (196 * n + 14 * i + j) := by
  rw [show (196 : Int32) = nI 196 from rfl, show (14 : Int32) = nI 14 from rfl, pk_mul, pk_mul, nI_add, nI_add]
theorem ix_196n : ((196 * (nI (n + 10) - 10)) + (14 * nI i)) + nI j = nI (196 * n + 14 * i + j) := by rw [ix_N, ix_196]
theorem ix_196s (h : 10 ≤ c) : ((196 * (cp_Sy c - 10)) + (14 * nI i)) + nI j = nI (196 * (c - 10) + 14 * i + j) := by rw [ix_S h, ix_196]
theorem ix_14 : (14 * nI n) + nI i = nI (14 * n + i) := by rw [show (14 : Int32) = nI 14 from rfl, pk_mul, nI_add]
theorem ix_m1 : nI (n + 1) + (-1) = nI n := pk_m1 n
end
end
section
/-! X: the small methods that only read -/
theorem gm_sz_le (g : gm_G) (p : Nat) : gm_sz g p ≤ 3 := by
  unfold gm_sz
  by_cases h0 : gm_s g (3 * p) = 9
  · rw [if_pos h0]; omega
  · rw [if_neg h0]
    by_cases h1 : gm_s g (3 * p + 1) = 9
    · rw [if_pos h1]; omega
    · rw [if_neg h1]
      by_cases h2 : gm_s g (3 * p + 2) = 9
      · rw [if_pos h2]; omega
      · rw [if_neg h2]; omega
theorem gm_sz_lt {g : gm_G} (ok : gm_ok g) {p k : Nat} (hp : p < gm_P g) (hk : k < 3) : k < gm_sz g p ↔ gm_s g (3 * p + k) ≠ 9 := by
  have m1 := (ok.2 p hp).2.2.1
  have m2 := (ok.2 p hp).2.2.2
  unfold gm_sz
  by_cases h0 : gm_s g (3 * p) = 9
  · have h1 := m1 h0
    have h2 := m2 h1
    rw [if_pos h0]
    rcases (by omega : k = 0 ∨ k = 1 ∨ k = 2) with rfl | rfl | rfl
    · simp [h0]
    · simp [h1]
    · simp [h2]
  · rw [if_neg h0]
    by_cases h1 : gm_s g (3 * p + 1) = 9
    · have h2 := m2 h1
      rw [if_pos h1]
      rcases (by omega : k = 0 ∨ k = 1 ∨ k = 2) with rfl | rfl | rfl
      · simp [h0]
      · simp [h1]
      · simp [h2]
    · rw [if_neg h1]
      by_cases h2 : gm_s g (3 * p + 2) = 9
      · rw [if_pos h2]
        rcases (by omega : k = 0 ∨ k = 1 ∨ k = 2) with rfl | rfl | rfl
        · simp [h0]
        · simp [h1]
        · simp [h2]
      · rw [if_neg h2]
        rcases (by omega : k = 0 ∨ k = 1 ∨ k = 2) with rfl | rfl | rfl
        · simp [h0]
        · simp [h1]
        · simp [h2]
/-- the grammar and the text, as both sides hold them -/
def cp_G (g : gm_G) (L : Nat) (a_right a_size a_text : Nat → Int32) : Prop :=
  gm_ok g ∧ L ≤ 10 ∧ (∀ p, p < gm_P g → a_size p = nI (gm_sz g p) ∧ ∀ k, k < 3 → a_right (3 * p + k) = cp_Sy (gm_s g (3 * p + k))) ∧ ∀ i, gm_t g i < 6 ∧ a_text i = nI (gm_t g i)
def xk_L (g : gm_G) (a_left : Nat → Int32) : Prop := ∀ p, p < gm_P g → a_left p = nI (gm_l g p)
section
variable {g : gm_G} {L : Nat} {a_right a_size a_text : Nat → Int32} {p k i : Nat}
theorem cp_G_ok (G : cp_G g L a_right a_size a_text) : gm_ok g := G.1
theorem cp_G_L (G : cp_G g L a_right a_size a_text) : L ≤ 10 := G.2.1
theorem cp_G_P (G : cp_G g L a_right a_size a_text) : gm_P g ≤ 12 := G.1.1
theorem cp_G_sz (G : cp_G g L a_right a_size a_text) (hp : p < gm_P g) : a_size p = nI (gm_sz g p) := (G.2.2.1 p hp).1
theorem cp_G_rt (G : cp_G g L a_right a_size a_text) (hp : p < gm_P g) (hk : k < 3) : a_right (3 * p + k) = cp_Sy (gm_s g (3 * p + k)) := (G.2.2.1 p hp).2 k hk
theorem cp_G_r0 (G : cp_G g L a_right a_size a_text) (hp : p < gm_P g) : a_right (3 * p) = cp_Sy (gm_s g (3 * p)) := (G.2.2.1 p hp).2 0 (by omega)
theorem cp_G_tx (G : cp_G g L a_right a_size a_text) : a_text i = nI (gm_t g i) := (G.2.2.2 i).2
theorem cp_G_t6 (G : cp_G g L a_right a_size a_text) : gm_t g i < 6 := (G.2.2.2 i).1
end
/-- the relation that an array of ends holds -/
def xk_E (a_ends : Nat → Int32) (n i j : Nat) : Prop := bt (a_ends (5 * i + n)) j = true
section
variable {g : gm_G} {L : Nat} {f_good f_empty f_used f_known f_firstRow f_firstFar f_columns f_endless f_derived : Int32} {a_left a_right a_size a_text a_ends a_trees a_heights a_chosen a_nodes a_far a_op a_constant a_wanted a_edges : Nat → Int32} {a_values a_sum : Nat → Int64} {c i j p n k m : Nat}
theorem xs_spans {post : Int32 → Prop} (G : cp_G g L a_right a_size a_text) (hc : c < 15) (hi : i ≤ L) (hj : j ≤ L)
    (h1 : gm_Sp g (xk_E a_ends) c i j → post 1) (h0 : ¬ gm_Sp g (xk_E a_ends) c i j → post 0) : wpX_spans post (nI (gm_P g), nI L, f_good, f_empty, f_used, f_known, f_firstRow, f_firstFar, f_columns, f_endless, f_derived, a_left, a_right, a_size, a_text, a_ends, a_trees, a_heights, a_chosen, a_nodes, a_values, a_far, a_op, a_constant, a_wanted, a_sum, a_edges) (cp_Sy c) (nI i) (nI j) := by
  have hL := cp_G_L G
  unfold wpX_spans
  refine br_i (cp_Sy_ge0 hc) (fun h9 => br_i (cp_Sy_le9 hc) (fun hlt => ?_) (fun hge => ?_)) (fun h9 => ?_)
  · have hs := gm_Sp_t (g := g) (D := xk_E a_ends) (i := i) (j := j) (show c < 9 by omega)
    refine pk_eq j (i + 1) (fun e => ⟨pk_in i 10 (by omega), ?_⟩) (fun e => h0 fun z => e (hs.mp z).1) (hy := nI_1 i)
    rw [nI_clamp (by omega), cp_G_tx G]
    exact br_i (cp_tx (cp_G_t6 G) hc) (fun z => h1 (hs.mpr ⟨e, z⟩)) (fun z => h0 fun y => z (hs.mp y).2)
  · have hs := gm_Sp_n (g := g) (D := xk_E a_ends) (i := i) (j := j) (show 10 ≤ c by omega)
    rw [ix_5s (show 10 ≤ c by omega), nI_clamp (by omega)]
    exact ⟨vp_in_nI (by omega) (by omega), br_bit (by omega) (fun z => h0 fun y => z (hs.mp y)) (fun z => h1 (hs.mpr z))⟩
  · have hs := gm_Sp_9 (g := g) (D := xk_E a_ends) (i := i) (j := j) (show c = 9 by omega)
    exact pk_eq i j (fun e => h1 (hs.mpr e)) (fun e => h0 fun y => e (hs.mp y))
theorem xs_many {post : Int64 → Prop} (G : cp_G g L a_right a_size a_text) (hc : c < 15) (hi : i ≤ L) (hj : j ≤ L)
    (h : post (if 10 ≤ c then (a_trees (55 * i + 11 * (c - 10) + j)).toInt64 else 1)) : wpX_many post (nI (gm_P g), nI L, f_good, f_empty, f_used, f_known, f_firstRow, f_firstFar, f_columns, f_endless, f_derived, a_left, a_right, a_size, a_text, a_ends, a_trees, a_heights, a_chosen, a_nodes, a_values, a_far, a_op, a_constant, a_wanted, a_sum, a_edges) (cp_Sy c) (nI i) (nI j) := by
  have hL := cp_G_L G
  unfold wpX_many
  refine br_i (cp_Sy_ge10 hc) (fun z => ?_) (fun z => ?_)
  · rw [if_pos z] at h
    rw [ix_55s z, nI_clamp (by omega)]
    exact ⟨vp_in_nI (by omega) (by omega), h⟩
  · rw [if_neg z] at h
    exact h
theorem xs_flat {post : Int32 → Prop} (G : cp_G g L a_right a_size a_text) (hc : c < 15) (hi : i ≤ L) (hj : j ≤ L)
    (h : post (if 10 ≤ c then (if a_heights (55 * i + 11 * (c - 10) + j) ≤ 0 then -1 else a_heights (55 * i + 11 * (c - 10) + j)) else 0)) : wpX_flat post (nI (gm_P g), nI L, f_good, f_empty, f_used, f_known, f_firstRow, f_firstFar, f_columns, f_endless, f_derived, a_left, a_right, a_size, a_text, a_ends, a_trees, a_heights, a_chosen, a_nodes, a_values, a_far, a_op, a_constant, a_wanted, a_sum, a_edges) (cp_Sy c) (nI i) (nI j) := by
  have hL := cp_G_L G
  unfold wpX_flat
  refine br_i (cp_Sy_ge10 hc) (fun z => ?_) (fun z => ?_)
  · rw [if_pos z] at h
    rw [ix_55s z, nI_clamp (by omega)]
    refine ⟨vp_in_nI (by omega) (by omega), nm_e (br_c (fun y => ?_) (fun y => ?_))⟩
    · rw [if_pos y] at h; exact h
    · rw [if_neg y] at h; exact h
  · rw [if_neg z] at h
    exact h
theorem xs_inside {post : Int32 → Prop} (G : cp_G g L a_right a_size a_text) (hc : c < 15) (hi : i ≤ L) (hj : j ≤ L)
    (h : post (if 10 ≤ c then a_nodes (55 * i + 11 * (c - 10) + j) else 0)) : wpX_inside post (nI (gm_P g), nI L, f_good, f_empty, f_used, f_known, f_firstRow, f_firstFar, f_columns, f_endless, f_derived, a_left, a_right, a_size, a_text, a_ends, a_trees, a_heights, a_chosen, a_nodes, a_values, a_far, a_op, a_constant, a_wanted, a_sum, a_edges) (cp_Sy c) (nI i) (nI j) := by
  have hL := cp_G_L G
  unfold wpX_inside
  refine br_i (cp_Sy_ge10 hc) (fun z => ?_) (fun z => ?_)
  · rw [if_pos z] at h
    rw [ix_55s z, nI_clamp (by omega)]
    exact ⟨vp_in_nI (by omega) (by omega), h⟩
  · rw [if_neg z] at h
    exact h
theorem xs_worth {post : Int64 → Prop} (G : cp_G g L a_right a_size a_text) (hc : c < 15) (hi : i ≤ L) (hj : j ≤ L)
    (h : post (gm_Wp (fun n i j => a_values (55 * i + 11 * n + j)) c i j)) : wpX_worth post (nI (gm_P g), nI L, f_good, f_empty, f_used, f_known, f_firstRow, f_firstFar, f_columns, f_endless, f_derived, a_left, a_right, a_size, a_text, a_ends, a_trees, a_heights, a_chosen, a_nodes, a_values, a_far, a_op, a_constant, a_wanted, a_sum, a_edges) (cp_Sy c) (nI i) (nI j) := by
  have hL := cp_G_L G
  unfold wpX_worth
  unfold gm_Wp at h
  refine br_i (cp_Sy_ge10 hc) (fun z => ?_) (fun z => br_i (cp_Sy_ge0 hc) (fun y => ?_) (fun y => ?_))
  · rw [if_pos z] at h
    rw [ix_55s z, nI_clamp (by omega)]
    exact ⟨vp_in_nI (by omega) (by omega), h⟩
  · rw [if_neg z, if_neg y] at h
    rw [cp_Sy_n y, nI_l (by omega)]
    exact h
  · rw [if_neg z, if_pos (by omega)] at h
    exact h
end
end
section
/-! X: loops that only read -/
def xk_Wn (st tm : Int32) (c : Nat) : Prop := c = 9 ∨ (10 ≤ c ∧ bt st (c - 10) = true) ∨ (c < 9 ∧ tm ≠ 0)
def xk_A (g : gm_G) (L : Nat) (a_ends : Nat → Int32) (c k j : Nat) : Prop := (10 ≤ c ∧ xk_E a_ends (c - 10) k j) ∨ (c < 9 ∧ k < L ∧ gm_t g k = c ∧ j = k + 1)
theorem gm_Pf_sz {g : gm_G} {D : Nat → Nat → Nat → Prop} (ok : gm_ok g) {p i k : Nat} (hp : p < gm_P g) : gm_Pf g D p (gm_sz g p) i k ↔ gm_Pf g D p 3 i k := by
  have S : ∀ q, q < 3 → gm_sz g p ≤ q → ∀ k, gm_Pf g D p q i k ↔ gm_Pf g D p (q + 1) i k := by
    intro q hq hs k
    have h9 : gm_s g (3 * p + q) = 9 := Classical.byContradiction fun z => by
      have := (gm_sz_lt ok hp hq).mpr z
      omega
    constructor
    · intro h
      exact ⟨k, h, gm_Pf_le h, Nat.le_refl _, (gm_Sp_9 h9).mpr rfl⟩
    · rintro ⟨u, h1, h2, h3, h4⟩
      have := (gm_Sp_9 h9).mp h4
      subst this
      exact h1
  have hs := gm_sz_le g p
  rcases (by omega : gm_sz g p = 0 ∨ gm_sz g p = 1 ∨ gm_sz g p = 2 ∨ gm_sz g p = 3) with e | e | e | e
  · rw [e, S 0 (by omega) (by omega), S 1 (by omega) (by omega), S 2 (by omega) (by omega)]
  · rw [e, S 1 (by omega) (by omega), S 2 (by omega) (by omega)]
  · rw [e, S 2 (by omega) (by omega)]
  · rw [e]
section
variable {g : gm_G} {L : Nat} {f_good f_empty f_used f_known f_firstRow f_firstFar f_columns f_endless f_derived : Int32} {a_left a_right a_size a_text a_ends a_trees a_heights a_chosen a_nodes a_far a_op a_constant a_wanted a_edges : Nat → Int32} {a_values a_sum : Nat → Int64} {c i j p n k m : Nat}
theorem xs_within_5 {post : Int32 → Prop} {st tm : Int32} (G : cp_G g L a_right a_size a_text) (hp : p < gm_P g) : ∀ d k, k + d = gm_sz g p →
    ((∀ a, k ≤ a → a < gm_sz g p → xk_Wn st tm (gm_s g (3 * p + a))) → post 1) → (∀ a, k ≤ a → a < gm_sz g p → ¬ xk_Wn st tm (gm_s g (3 * p + a)) → post 0) →
    wX_within_5 post (nI p) st tm (nI (gm_P g)) (nI L) f_good f_empty f_used f_known f_firstRow f_firstFar f_columns f_endless f_derived a_left a_right a_size a_text a_ends a_trees a_heights a_chosen a_nodes a_values a_far a_op a_constant a_wanted a_sum a_edges (d + 1) (nI (3 * p + k)) := by
  have h12 := cp_G_P G
  have hs3 := gm_sz_le g p
  intro d
  induction d with
  | zero =>
    intro k hk h1 h0
    rw [wX_within_5]; dsimp only
    rw [nI_clamp (show p < 2 ^ 31 by omega), cp_G_sz G hp, ix_3k]
    exact ⟨vp_in_nI (by omega) (by omega), pk_le (3 * p + gm_sz g p) (3 * p + k) (fun _ => h1 fun a h2 h3 => absurd h2 (by omega)) (fun h => absurd h (by omega))⟩
  | succ d ih =>
    intro k hk h1 h0
    have hk3 : k < 3 := by omega
    have hc := gm_ok_15 (cp_G_ok G) hp hk3
    have h9 : gm_s g (3 * p + k) ≠ 9 := (gm_sz_lt (cp_G_ok G) hp hk3).mp (by omega)
    have hs : ∀ y, y = nI (3 * p + k) + 1 → xk_Wn st tm (gm_s g (3 * p + k)) → wX_within_5 post (nI p) st tm (nI (gm_P g)) (nI L) f_good f_empty f_used f_known f_firstRow f_firstFar f_columns f_endless f_derived a_left a_right a_size a_text a_ends a_trees a_heights a_chosen a_nodes a_values a_far a_op a_constant a_wanted a_sum a_edges (d + 1) y := by
      intro y ey hw
      rw [ey, nI_1]
      refine ih (k + 1) (by omega) (fun h => h1 fun a h2 h3 => ?_) (fun a h2 h3 => h0 a (by omega) h3)
      rcases Nat.lt_or_ge k a with z | z
      · exact h a z h3
      · have : a = k := by omega
        subst this; exact hw
    rw [wX_within_5]; dsimp only
    rw [nI_clamp (show p < 2 ^ 31 by omega), cp_G_sz G hp, ix_3k, nI_clamp (show 3 * p + k < 2 ^ 31 by omega), cp_G_rt G hp hk3]
    refine ⟨vp_in_nI (by omega) (by omega), pk_le (3 * p + gm_sz g p) (3 * p + k) (fun h => absurd h (by omega)) (fun _ => ⟨vp_in_nI (by omega) (by omega), br_i (cp_Sy_ge10 hc) (fun z => ⟨vp_in_nI (by omega) (by omega), ?_⟩) (fun z => br_c (fun t0 => ?_) (fun t1 => ?_))⟩)⟩
    · rw [ix_S z]
      refine br_bit (by omega) (fun y => h0 k (Nat.le_refl _) (by omega) ?_) (fun y w ew => hs w ew (Or.inr (Or.inl ⟨z, y⟩)))
      rintro (q | ⟨_, q⟩ | ⟨q, _⟩)
      · omega
      · exact y q
      · omega
    · refine h0 k (Nat.le_refl _) (by omega) ?_
      rintro (q | ⟨q, _⟩ | ⟨_, q⟩)
      · omega
      · omega
      · exact q t0
    · exact fun w ew => hs w ew (Or.inr (Or.inr ⟨by omega, t1⟩))
theorem xs_within {post : Int32 → Prop} {st tm : Int32} (G : cp_G g L a_right a_size a_text) (hp : p < gm_P g)
    (h1 : (∀ k, k < 3 → xk_Wn st tm (gm_s g (3 * p + k))) → post 1) (h0 : (¬ ∀ k, k < 3 → xk_Wn st tm (gm_s g (3 * p + k))) → post 0) : wpX_within post (nI (gm_P g), nI L, f_good, f_empty, f_used, f_known, f_firstRow, f_firstFar, f_columns, f_endless, f_derived, a_left, a_right, a_size, a_text, a_ends, a_trees, a_heights, a_chosen, a_nodes, a_values, a_far, a_op, a_constant, a_wanted, a_sum, a_edges) (nI p) st tm := by
  unfold wpX_within
  have hs3 := gm_sz_le g p
  refine nm_r ix_3 ⟨gm_sz g p + 1, xs_within_5 G hp (gm_sz g p) 0 (by omega) (fun h => h1 fun k hk => ?_) (fun a _ ha hn => h0 fun h => hn (h a (by omega)))⟩
  rcases Nat.lt_or_ge k (gm_sz g p) with z | z
  · exact h k (by omega) z
  · refine Or.inl (Classical.byContradiction fun y => ?_)
    have := (gm_sz_lt (cp_G_ok G) hp hk).mpr y
    omega
theorem xs_parts_6 {post : Int32 → Prop} (G : cp_G g L a_right a_size a_text) (hp : p < gm_P g) (h : ∀ r, cp_St r (fun m => ∃ k, k < 3 ∧ gm_s g (3 * p + k) = m + 10) → post r) : ∀ d k acc, k + d = gm_sz g p →
    cp_St acc (fun m => ∃ a, a < k ∧ gm_s g (3 * p + a) = m + 10) → wX_parts_6 post (nI p) (nI (gm_P g)) (nI L) f_good f_empty f_used f_known f_firstRow f_firstFar f_columns f_endless f_derived a_left a_right a_size a_text a_ends a_trees a_heights a_chosen a_nodes a_values a_far a_op a_constant a_wanted a_sum a_edges (d + 1) acc (nI (3 * p + k)) := by
  have h12 := cp_G_P G
  have hs3 := gm_sz_le g p
  intro d
  induction d with
  | zero =>
    intro k acc hk ha
    rw [wX_parts_6]; dsimp only
    rw [nI_clamp (show p < 2 ^ 31 by omega), cp_G_sz G hp, ix_3k]
    refine ⟨vp_in_nI (by omega) (by omega), pk_le (3 * p + gm_sz g p) (3 * p + k) (fun _ => h acc (cp_St_i ha fun m _ => ⟨fun ⟨a, h1, h2⟩ => ⟨a, by omega, h2⟩, fun ⟨a, h1, h2⟩ => ⟨a, ?_, h2⟩⟩)) (fun h => absurd h (by omega))⟩
    have := (gm_sz_lt (cp_G_ok G) hp h1).mpr (by omega)
    omega
  | succ d ih =>
    intro k acc hk ha
    have hk3 : k < 3 := by omega
    have hc := gm_ok_15 (cp_G_ok G) hp hk3
    rw [wX_parts_6]; dsimp only
    rw [nI_clamp (show p < 2 ^ 31 by omega), cp_G_sz G hp, ix_3k, nI_clamp (show 3 * p + k < 2 ^ 31 by omega), cp_G_rt G hp hk3]
    refine ⟨vp_in_nI (by omega) (by omega), pk_le (3 * p + gm_sz g p) (3 * p + k) (fun h => absurd h (by omega)) (fun _ => ⟨vp_in_nI (by omega) (by omega), br_i (cp_Sy_le9 hc) (fun z => nm_r (nI_1 _) (ih (k + 1) acc (by omega) ?_)) (fun z => ⟨vp_in_nI (by omega) (by omega), nm_e (nm_r (nI_1 _) (ih (k + 1) _ (by omega) ?_))⟩)⟩)⟩
    · refine cp_St_i ha fun m _ => ⟨fun ⟨a, h1, h2⟩ => ⟨a, by omega, h2⟩, fun ⟨a, h1, h2⟩ => ⟨a, ?_, h2⟩⟩
      rcases Nat.lt_or_ge a k with y | y
      · exact y
      · have : a = k := by omega
        subst this; omega
    · rw [ix_S (by omega)]
      refine cp_St_i (cp_St_or ha (cp_St_1 (by omega))) fun m _ => ⟨fun q => ?_, fun ⟨a, h1, h2⟩ => ?_⟩
      · rcases q with ⟨a, h1, h2⟩ | q
        · exact ⟨a, by omega, h2⟩
        · exact ⟨k, by omega, by omega⟩
      · rcases Nat.lt_or_ge a k with y | y
        · exact Or.inl ⟨a, y, h2⟩
        · have : a = k := by omega
          subst this; exact Or.inr (by omega)
theorem xs_parts {post : Int32 → Prop} (G : cp_G g L a_right a_size a_text) (hp : p < gm_P g) (h : ∀ r, cp_St r (fun m => ∃ k, k < 3 ∧ gm_s g (3 * p + k) = m + 10) → post r) : wpX_parts post (nI (gm_P g), nI L, f_good, f_empty, f_used, f_known, f_firstRow, f_firstFar, f_columns, f_endless, f_derived, a_left, a_right, a_size, a_text, a_ends, a_trees, a_heights, a_chosen, a_nodes, a_values, a_far, a_op, a_constant, a_wanted, a_sum, a_edges) (nI p) := by
  unfold wpX_parts
  exact nm_r ix_3 ⟨gm_sz g p + 1, xs_parts_6 G hp h (gm_sz g p) 0 0 (by omega) (cp_St_i cp_St_0 fun m _ => ⟨fun z => z.elim, fun ⟨a, h1, _⟩ => absurd h1 (by omega)⟩)⟩
theorem xs_after_5 {post : Int32 → Prop} {pl : Int32} (G : cp_G g L a_right a_size a_text) (hc : c < 15) (h9 : c ≠ 9) (h : ∀ r, cp_St r (fun j => ∃ k, k ≤ L ∧ bt pl k = true ∧ xk_A g L a_ends c k j) → post r) : ∀ d k acc, k + d = L + 1 →
    cp_St acc (fun j => ∃ a, a < k ∧ bt pl a = true ∧ xk_A g L a_ends c a j) → wX_after_5 post (cp_Sy c) pl (nI (gm_P g)) (nI L) f_good f_empty f_used f_known f_firstRow f_firstFar f_columns f_endless f_derived a_left a_right a_size a_text a_ends a_trees a_heights a_chosen a_nodes a_values a_far a_op a_constant a_wanted a_sum a_edges (d + 1) acc (nI k) := by
  have hL := cp_G_L G
  have keep : ∀ {k acc}, cp_St acc (fun j => ∃ a, a < k ∧ bt pl a = true ∧ xk_A g L a_ends c a j) → (bt pl k = true → ∀ j, ¬ xk_A g L a_ends c k j) → cp_St acc (fun j => ∃ a, a < k + 1 ∧ bt pl a = true ∧ xk_A g L a_ends c a j) := by
    intro k acc ha hn
    refine cp_St_i ha fun m _ => ⟨fun ⟨a, h1, h2⟩ => ⟨a, by omega, h2⟩, fun ⟨a, h1, h2, h3⟩ => ⟨a, ?_, h2, h3⟩⟩
    rcases Nat.lt_or_ge a k with y | y
    · exact y
    · have : a = k := by omega
      subst this; exact absurd h3 (hn h2 m)
  have add : ∀ {k acc x B}, cp_St acc (fun j => ∃ a, a < k ∧ bt pl a = true ∧ xk_A g L a_ends c a j) → bt pl k = true → cp_St x B → (∀ j, j < 32 → (B j ↔ xk_A g L a_ends c k j)) → cp_St (acc ||| x) (fun j => ∃ a, a < k + 1 ∧ bt pl a = true ∧ xk_A g L a_ends c a j) := by
    intro k acc x B ha hb hx he
    refine cp_St_i (cp_St_or ha hx) fun m hm => ⟨fun q => ?_, fun ⟨a, h1, h2, h3⟩ => ?_⟩
    · rcases q with ⟨a, h1, h2⟩ | q
      · exact ⟨a, by omega, h2⟩
      · exact ⟨k, by omega, hb, (he m hm).mp q⟩
    · rcases Nat.lt_or_ge a k with y | y
      · exact Or.inl ⟨a, y, h2, h3⟩
      · have : a = k := by omega
        subst this; exact Or.inr ((he m hm).mpr h3)
  intro d
  induction d with
  | zero =>
    intro k acc hk ha
    rw [wX_after_5]; dsimp only
    exact pk_lt L k (fun _ => h acc (cp_St_i ha fun m _ => ⟨fun ⟨a, h1, h2⟩ => ⟨a, by omega, h2⟩, fun ⟨a, h1, h2⟩ => ⟨a, by omega, h2⟩⟩)) (fun h => absurd h (by omega))
  | succ d ih =>
    intro k acc hk ha
    rw [wX_after_5]; dsimp only
    refine pk_lt L k (fun h => absurd h (by omega)) (fun _ => br_bit (by omega) (fun z => nm_r (nI_1 _) (ih (k + 1) acc (by omega) (keep ha fun y => absurd y z))) (fun z => br_i (cp_Sy_le9 hc) (fun y => ?_) (fun y => ?_)))
    · refine pk_le L k (fun w => nm_r (nI_1 _) (ih (k + 1) acc (by omega) (keep ha fun _ j q => ?_))) (fun w => ⟨vp_in_nI (by omega) (by omega), ?_⟩)
      · rcases q with ⟨q, _⟩ | ⟨_, q, _⟩ <;> omega
      · rw [nI_clamp (show k < 2 ^ 31 by omega), cp_G_tx G]
        refine br_i (cp_tx (cp_G_t6 G) hc) (fun e => nm_e (nm_r (nI_1 _) (ih (k + 1) _ (by omega) (add ha z (cp_St_2 (by omega)) fun j _ => ⟨fun q => Or.inr ⟨by omega, w, e, q⟩, fun q => ?_⟩)))) (fun e => nm_r (nI_1 _) (ih (k + 1) acc (by omega) (keep ha fun _ j q => ?_)))
        · rcases q with ⟨q, _⟩ | ⟨_, _, _, q⟩
          · omega
          · exact q
        · rcases q with ⟨q, _⟩ | ⟨_, _, q, _⟩
          · omega
          · exact e q
    · rw [ix_5s (show 10 ≤ c by omega), nI_clamp (show 5 * k + (c - 10) < 2 ^ 31 by omega)]
      refine ⟨vp_in_nI (by omega) (by omega), nm_e (nm_r (nI_1 _) (ih (k + 1) _ (by omega) (add ha z (cp_St_b _) fun j _ => ⟨fun q => Or.inl ⟨by omega, q⟩, fun q => ?_⟩)))⟩
      rcases q with ⟨_, q⟩ | ⟨q, _⟩
      · exact q
      · omega
theorem xs_after {post : Int32 → Prop} {pl : Int32} (G : cp_G g L a_right a_size a_text) (hc : c < 15) (h9 : c ≠ 9) (h : ∀ r, cp_St r (fun j => ∃ k, k ≤ L ∧ bt pl k = true ∧ xk_A g L a_ends c k j) → post r) : wpX_after post (nI (gm_P g), nI L, f_good, f_empty, f_used, f_known, f_firstRow, f_firstFar, f_columns, f_endless, f_derived, a_left, a_right, a_size, a_text, a_ends, a_trees, a_heights, a_chosen, a_nodes, a_values, a_far, a_op, a_constant, a_wanted, a_sum, a_edges) (cp_Sy c) pl := by
  unfold wpX_after
  exact ⟨L + 2, xs_after_5 G hc h9 h (L + 1) 0 0 (by omega) (cp_St_i cp_St_0 fun m _ => ⟨fun z => z.elim, fun ⟨a, h1, _⟩ => absurd h1 (by omega)⟩)⟩
/-- bits of the rows from i0 on lie within -/
def xk_HE (L : Nat) (a_ends : Nat → Int32) (i0 : Nat) : Prop := ∀ n k j, n < 5 → i0 ≤ k → k ≤ L → j < 32 → xk_E a_ends n k j → k ≤ j ∧ j ≤ L
theorem xk_step {q : Nat} {pl r : Int32} (G : cp_G g L a_right a_size a_text) (hp : p < gm_P g) (hq : q < 3) (h9 : gm_s g (3 * p + q) ≠ 9) (H : xk_HE L a_ends i) (hb : cp_St pl (fun j => gm_Pf g (xk_E a_ends) p q i j ∧ j ≤ L))
    (hr : cp_St r (fun j => ∃ k, k ≤ L ∧ bt pl k = true ∧ xk_A g L a_ends (gm_s g (3 * p + q)) k j)) : cp_St r (fun j => gm_Pf g (xk_E a_ends) p (q + 1) i j ∧ j ≤ L) := by
  have hL := cp_G_L G
  have hc := gm_ok_15 (cp_G_ok G) hp hq
  refine cp_St_i hr fun j hj => ⟨?_, ?_⟩
  · rintro ⟨k, hk, h1, h2⟩
    have h1 := (hb k (by omega)).mp h1
    have hle := gm_Pf_le h1.1
    rcases h2 with ⟨z, h2⟩ | ⟨z, h2, h3, h4⟩
    · have := H _ _ _ (by omega) hle hk hj h2
      exact ⟨⟨k, h1.1, hle, this.1, (gm_Sp_n z).mpr h2⟩, this.2⟩
    · exact ⟨⟨k, h1.1, hle, by omega, (gm_Sp_t z).mpr ⟨h4, h3⟩⟩, by omega⟩
  · rintro ⟨⟨u, h1, h2, h3, h4⟩, h5⟩
    refine ⟨u, by omega, (hb u (by omega)).mpr ⟨h1, by omega⟩, ?_⟩
    rcases Nat.lt_or_ge (gm_s g (3 * p + q)) 10 with z | z
    · obtain ⟨e1, e2⟩ := (gm_Sp_t (by omega)).mp h4
      exact Or.inr ⟨by omega, by omega, e2, e1⟩
    · exact Or.inl ⟨z, (gm_Sp_n z).mp h4⟩
theorem xs_reach_9 {post : Int32 → Prop} (G : cp_G g L a_right a_size a_text) (hp : p < gm_P g) (H : xk_HE L a_ends i) (h : ∀ r, cp_St r (fun j => gm_Pf g (xk_E a_ends) p 3 i j ∧ j ≤ L) → post r) : ∀ d q pl, q + d = gm_sz g p →
    cp_St pl (fun j => gm_Pf g (xk_E a_ends) p q i j ∧ j ≤ L) → wX_reach_9 post (nI p) (nI (gm_P g)) (nI L) f_good f_empty f_used f_known f_firstRow f_firstFar f_columns f_endless f_derived a_left a_right a_size a_text a_ends a_trees a_heights a_chosen a_nodes a_values a_far a_op a_constant a_wanted a_sum a_edges (d + 1) pl (nI (3 * p + q)) := by
  have h12 := cp_G_P G
  have hs3 := gm_sz_le g p
  intro d
  induction d with
  | zero =>
    intro q pl hk ha
    rw [wX_reach_9]; dsimp only
    rw [nI_clamp (show p < 2 ^ 31 by omega), cp_G_sz G hp, ix_3k]
    refine ⟨vp_in_nI (by omega) (by omega), pk_le (3 * p + gm_sz g p) (3 * p + q) (fun _ => h pl (cp_St_i ha fun j _ => ?_)) (fun h => absurd h (by omega))⟩
    rw [show q = gm_sz g p by omega, gm_Pf_sz (cp_G_ok G) hp]
  | succ d ih =>
    intro q pl hk ha
    have hk3 : q < 3 := by omega
    have hc := gm_ok_15 (cp_G_ok G) hp hk3
    have h9 : gm_s g (3 * p + q) ≠ 9 := (gm_sz_lt (cp_G_ok G) hp hk3).mp (by omega)
    rw [wX_reach_9]; dsimp only
    rw [nI_clamp (show p < 2 ^ 31 by omega), cp_G_sz G hp, ix_3k, nI_clamp (show 3 * p + q < 2 ^ 31 by omega), cp_G_rt G hp hk3]
    exact ⟨vp_in_nI (by omega) (by omega), pk_le (3 * p + gm_sz g p) (3 * p + q) (fun h => absurd h (by omega)) (fun _ => ⟨vp_in_nI (by omega) (by omega), xs_after G hc h9 fun r hr => nm_r (nI_1 _) (ih (q + 1) r (by omega) (xk_step G hp hk3 h9 H ha hr))⟩)⟩
theorem xs_reach {post : Int32 → Prop} (G : cp_G g L a_right a_size a_text) (hp : p < gm_P g) (hi : i ≤ L) (H : xk_HE L a_ends i) (h : ∀ r, cp_St r (fun j => gm_Pf g (xk_E a_ends) p 3 i j ∧ j ≤ L) → post r) : wpX_reach post (nI (gm_P g), nI L, f_good, f_empty, f_used, f_known, f_firstRow, f_firstFar, f_columns, f_endless, f_derived, a_left, a_right, a_size, a_text, a_ends, a_trees, a_heights, a_chosen, a_nodes, a_values, a_far, a_op, a_constant, a_wanted, a_sum, a_edges) (nI p) (nI i) := by
  have hL := cp_G_L G
  unfold wpX_reach
  refine nm_e (nm_r ix_3 ⟨gm_sz g p + 1, xs_reach_9 G hp H h (gm_sz g p) 0 _ (by omega) (cp_St_i (cp_St_1 (by omega)) fun j _ => ⟨fun z => ⟨z.symm, by omega⟩, fun z => ?_⟩)⟩)
  have : i = j := z.1
  exact this.symm
/-! arguments -/
theorem cp_nI_of {v : Int32} (h : ¬ v < 0) : ∃ j : Nat, j < 2 ^ 31 ∧ v = nI j := nI_of h
theorem xs_isNonterminal {post : Int32 → Prop} {v : Int32} (h1 : ∀ n, n < 5 → v = nI (n + 10) → post 1) (h0 : (∀ n, n < 5 → v ≠ nI (n + 10)) → post 0) : wpX_isNonterminal post v := by
  unfold wpX_isNonterminal
  refine br_c (fun z => h0 fun n hn e => ?_) (fun z => br_c (fun y => h0 fun n hn e => ?_) (fun y => ?_))
  · rw [e] at z
    exact nI_nlt (b := 10) (by omega) (by omega) z
  · rw [e] at y
    exact nI_ge (b := 15) (by omega) (by omega) y
  · obtain ⟨j, hj, e⟩ := nI_of (x := v) (fun w => z (Int32.lt_trans w (by decide)))
    subst e
    have a : ¬ j < 10 := fun w => z (nI_lt (b := 10) w (by omega))
    have b : j < 15 := Nat.lt_of_not_le fun w => y (nI_le (a := 15) w hj)
    exact h1 (j - 10) (by omega) (congrArg nI (by omega))
theorem xs_isTerminal {post : Int32 → Prop} {v : Int32} (h1 : ∀ t, t < 6 → v = nI t → post 1) (h0 : (∀ t, t < 6 → v ≠ nI t) → post 0) : wpX_isTerminal post v := by
  unfold wpX_isTerminal
  refine br_c (fun z => h0 fun n hn e => ?_) (fun z => br_c (fun y => h0 fun n hn e => ?_) (fun y => ?_))
  · rw [e] at z
    exact nI_pos (by omega) z
  · rw [e] at y
    exact nI_ge (b := 6) (by omega) (by omega) y
  · obtain ⟨j, hj, e⟩ := nI_of z
    subst e
    have b : j < 6 := Nat.lt_of_not_le fun w => y (nI_le (a := 6) w hj)
    exact h1 j b rfl
def cp_Vs (v : Int32) : Prop := ∃ c, (c < 6 ∨ c = 9 ∨ (10 ≤ c ∧ c < 15)) ∧ v = cp_Sy c
theorem xs_fits {post : Int32 → Prop} {v : Int32} (h1 : cp_Vs v → post 1) (h0 : ¬ cp_Vs v → post 0) : wpX_fits post v := by
  unfold wpX_fits
  refine br_c (fun z => h1 ⟨9, by omega, z⟩) (fun z => xs_isTerminal (fun t ht e => br_f (by decide) (h1 ⟨t, by omega, by rw [cp_Sy_n (by omega)]; exact e⟩)) (fun ht => br_t rfl (xs_isNonterminal (fun n hn e => br_f (by decide) (h1 ⟨n + 10, by omega, by rw [cp_Sy_n (by omega)]; exact e⟩)) (fun hn => br_t rfl (h0 ?_)))))
  rintro ⟨c, hc, e⟩
  rcases hc with hc | hc | hc
  · rw [cp_Sy_n (by omega)] at e; exact ht c hc e
  · rw [cp_Sy_9 hc] at e; exact z e
  · rw [cp_Sy_n (by omega)] at e; exact hn (c - 10) (by omega) (by rw [e]; exact congrArg nI (by omega))
def cp_Span (L : Nat) (v1 v2 v3 : Int32) (n i j : Nat) : Prop := n < 5 ∧ i ≤ j ∧ j ≤ L ∧ v1 = nI (n + 10) ∧ v2 = nI i ∧ v3 = nI j
theorem xs_isSpan {post : Int32 → Prop} {v1 v2 v3 : Int32} (G : cp_G g L a_right a_size a_text) (h1 : ∀ n i j, cp_Span L v1 v2 v3 n i j → post 1) (h0 : (∀ n i j, ¬ cp_Span L v1 v2 v3 n i j) → post 0) : wpX_isSpan post (nI (gm_P g), nI L, f_good, f_empty, f_used, f_known, f_firstRow, f_firstFar, f_columns, f_endless, f_derived, a_left, a_right, a_size, a_text, a_ends, a_trees, a_heights, a_chosen, a_nodes, a_values, a_far, a_op, a_constant, a_wanted, a_sum, a_edges) v1 v2 v3 := by
  have hL := cp_G_L G
  unfold wpX_isSpan
  refine xs_isNonterminal (fun n hn e => br_f (by decide) (br_c (fun z => h0 ?_) (fun z => br_c (fun y => h0 ?_) (fun y => br_c (fun x => h0 ?_) (fun x => ?_))))) (fun hn => br_t rfl (h0 ?_))
  · rintro n i j ⟨_, a1, a2, _, a3, _⟩
    rw [a3] at z; exact nI_pos (by omega) z
  · rintro n i j ⟨_, a1, a2, _, a3, a4⟩
    rw [a3, a4] at y; exact nI_nlt (by omega) (by omega) y
  · rintro n i j ⟨_, a1, a2, _, a3, a4⟩
    rw [a4] at x; exact nI_nlt (by omega) (by omega) x
  · obtain ⟨i, hi, e2⟩ := nI_of z
    subst e2
    have h3 : ¬ v3 < 0 := fun w => y (Int32.lt_of_lt_of_le w (nI_pos' hi))
    obtain ⟨j, hj, e3⟩ := nI_of h3
    subst e3
    have a : ¬ j < i := fun w => y (nI_lt w hi)
    have b : ¬ L < j := fun w => x (nI_lt w hj)
    exact h1 n i j ⟨hn, by omega, by omega, e, rfl, rfl⟩
  · rintro n i j ⟨a, _, _, b, _⟩
    exact hn n a b
end
end
section
/-! X: learn -/
theorem cp_and1 (x : Int32) : (x &&& 1) = 0 ↔ ¬ bt x 0 = true := by
  rw [cp_St_z (cp_St_and (cp_St_b x) (cp_St_b 1))]
  constructor
  · intro h z
    exact h 0 (by omega) ⟨z, by decide⟩
  · rintro h i hi ⟨h1, h2⟩
    rw [cp_b1 i hi] at h2
    have : i = 0 := of_decide_eq_true h2
    subst this
    exact h h1
def xk_lo (x : Int32) : Prop := ∀ i, i < 32 → bt x i = true → i < 5
def xk_sub (x y : Int32) : Prop := ∀ i, i < 32 → bt x i = true → bt y i = true
theorem cp_pack {a b c d : Int32} (ha : xk_lo a) (hb : xk_lo b) (hc : xk_lo c) (hd : xk_lo d) (h : (a <<< ((5 : Int32) &&& 31)) ||| b = (c <<< ((5 : Int32) &&& 31)) ||| d) : a = c ∧ b = d := by
  have hi5 : ∀ x y : Int32, ∀ i, i < 32 → bt ((x <<< ((5 : Int32) &&& 31)) ||| y) i = ((decide (5 ≤ i) && bt x (i - 5)) || bt y i) := fun x y i hi => by
    rw [b_or, show (x <<< ((5 : Int32) &&& 31)) = (x <<< (nI 5 &&& 31)) from rfl, b_shl 5 (by omega) x hi]
  have F : ∀ {z : Int32}, xk_lo z → ∀ i, i < 32 → 5 ≤ i → bt z i = false := fun {z} hz i hi h5 => by
    cases hb : bt z i
    · rfl
    · have := hz i hi hb; omega
  have K : ∀ i, i < 32 → ((decide (5 ≤ i) && bt a (i - 5)) || bt b i) = ((decide (5 ≤ i) && bt c (i - 5)) || bt d i) := fun i hi => by rw [← hi5 a b i hi, ← hi5 c d i hi, h]
  refine ⟨b_ext fun i hi => ?_, b_ext fun i hi => ?_⟩
  · rcases Nat.lt_or_ge i 5 with z | z
    · have := K (i + 5) (by omega)
      rw [F hb _ (by omega) (by omega), F hd _ (by omega) (by omega), Nat.add_sub_cancel] at this
      simpa using this
    · rw [F ha i hi z, F hc i hi z]
  · rcases Nat.lt_or_ge i 5 with z | z
    · have := K i hi
      rw [decide_eq_false (by omega : ¬ 5 ≤ i)] at this
      simpa using this
    · rw [F hb i hi z, F hd i hi z]
def xk_ms (x : Int32) : Nat := sm_S (fun n => if bt x n = true then 0 else 1) 5
theorem xk_ms_le {x y : Int32} (h : xk_sub x y) : xk_ms y ≤ xk_ms x := by
  refine sm_le fun k hk => ?_
  show (if bt y k = true then 0 else 1) ≤ (if bt x k = true then 0 else 1)
  by_cases z : bt x k = true
  · rw [if_pos z, if_pos (h k (by omega) z)]; omega
  · rw [if_neg z]
    by_cases w : bt y k = true
    · rw [if_pos w]; omega
    · rw [if_neg w]; omega
theorem xk_ms_lt {x y : Int32} (h : xk_sub x y) (hy : xk_lo y) (hn : x ≠ y) : xk_ms y < xk_ms x := by
  obtain ⟨i, hi, h1, h2⟩ : ∃ i, i < 32 ∧ bt y i = true ∧ ¬ bt x i = true := by
    refine Classical.byContradiction fun z => hn (cp_St_eq (cp_St_b x) (cp_St_b y) fun i hi => ⟨h i hi, fun w => ?_⟩)
    exact Classical.byContradiction fun q => z ⟨i, hi, w, q⟩
  refine sm_lt (a := i) ?_ (fun k hk => ?_) (hy i hi h1)
  · show (if bt y i = true then 0 else 1) < (if bt x i = true then 0 else 1)
    rw [if_pos h1, if_neg h2]; omega
  · show (if bt y k = true then 0 else 1) ≤ (if bt x k = true then 0 else 1)
    by_cases z : bt x k = true
    · rw [if_pos z, if_pos (h k (by omega) z)]; omega
    · rw [if_neg z]
      by_cases w : bt y k = true
      · rw [if_pos w]; omega
      · rw [if_neg w]; omega
theorem xk_sub_or (x y : Int32) : xk_sub x (x ||| y) := fun i _ h => by rw [b_or, h]; rfl
theorem xk_sub_tr {x y z : Int32} (h : xk_sub x y) (k : xk_sub y z) : xk_sub x z := fun i hi w => k i hi (h i hi w)
theorem xk_sub_rf (x : Int32) : xk_sub x x := fun _ _ h => h
/-- what learn finds -/
def xk_K (g : gm_G) (good em used : Int32) : Prop := cp_St good (gm_Pd g) ∧ cp_St em (fun n => gm_D g n 0 0) ∧ cp_St used (gm_Us g)
section
variable {g : gm_G} {L : Nat} {f_good f_empty f_used f_known f_firstRow f_firstFar f_columns f_endless f_derived : Int32} {a_left a_right a_size a_text a_ends a_trees a_heights a_chosen a_nodes a_far a_op a_constant a_wanted a_edges : Nat → Int32} {a_values a_sum : Nat → Int64} {c i j p n k m : Nat}
theorem xk_Wn_g {st : Int32} (ok : gm_ok g) (hp : p < gm_P g) : (∀ k, k < 3 → xk_Wn st 1 (gm_s g (3 * p + k))) ↔ ∀ k, k < 3 → 10 ≤ gm_s g (3 * p + k) → bt st (gm_s g (3 * p + k) - 10) = true := by
  constructor
  · intro h k hk hc
    rcases h k hk with z | z | z
    · omega
    · exact z.2
    · omega
  · intro h k hk
    rcases gm_ok_s ok hp hk with z | z | z
    · exact Or.inr (Or.inr ⟨by omega, by decide⟩)
    · exact Or.inl z
    · exact Or.inr (Or.inl ⟨z.1, h k hk z.1⟩)
def xk_c0 (g : gm_G) (st : Int32) (p : Nat) : Prop := ∀ k, k < 3 → gm_s g (3 * p + k) = 9 ∨ (10 ≤ gm_s g (3 * p + k) ∧ bt st (gm_s g (3 * p + k) - 10) = true)
theorem xk_Wn_e {st : Int32} : (∀ k, k < 3 → xk_Wn st 0 (gm_s g (3 * p + k))) ↔ xk_c0 g st p := by
  constructor
  · intro h k hk
    rcases h k hk with z | z | z
    · exact Or.inl z
    · exact Or.inr z
    · exact absurd rfl z.2
  · intro h k hk
    rcases h k hk with z | z
    · exact Or.inl z
    · exact Or.inr (Or.inl z)
def xk_c1 (g : gm_G) (st : Int32) (p : Nat) : Prop := ∀ k, k < 3 → 10 ≤ gm_s g (3 * p + k) → bt st (gm_s g (3 * p + k) - 10) = true
theorem xk_c1_mono {x y : Int32} (ok : gm_ok g) (hp : p < gm_P g) (h : xk_sub x y) (hc : xk_c1 g x p) : xk_c1 g y p := fun k hk z => h _ (by have := gm_ok_15 ok hp hk; omega) (hc k hk z)
theorem xk_c0_mono {x y : Int32} (ok : gm_ok g) (hp : p < gm_P g) (h : xk_sub x y) (hc : xk_c0 g x p) : xk_c0 g y p := fun k hk => by
  rcases hc k hk with z | z
  · exact Or.inl z
  · exact Or.inr ⟨z.1, h _ (by have := gm_ok_15 ok hp hk; omega) z.2⟩
/-- the used stage -/
theorem xs_used_in {post : SX → Prop} {J : Int32 → Prop} {u0 : Int32} (G : cp_G g L a_right a_size a_text) (hl : xk_L g a_left) (hgood : cp_St f_good (gm_Pd g))
    (hJ : ∀ u, xk_sub u0 u → u0 ≠ u → (∀ n, n < 32 → bt u n = true → gm_Us g n) → J u)
    (hE : (∀ n, n < 32 → bt u0 n = true → gm_Us g n) → (∀ p k, p < gm_P g → bt u0 (gm_l g p) = true → gm_aQ g p 0 → k < 3 → 10 ≤ gm_s g (3 * p + k) → bt u0 (gm_s g (3 * p + k) - 10) = true) → post (nI (gm_P g), nI L, f_good, f_empty, u0, f_known, f_firstRow, f_firstFar, f_columns, f_endless, f_derived, a_left, a_right, a_size, a_text, a_ends, a_trees, a_heights, a_chosen, a_nodes, a_values, a_far, a_op, a_constant, a_wanted, a_sum, a_edges))
    : ∀ d p u, p + d = gm_P g → xk_sub u0 u → (∀ n, n < 32 → bt u n = true → gm_Us g n) → (∀ q k, q < p → bt u0 (gm_l g q) = true → gm_aQ g q 0 → k < 3 → 10 ≤ gm_s g (3 * q + k) → bt u (gm_s g (3 * q + k) - 10) = true) →
    wX_learn_152 post J u0 (nI (gm_P g)) (nI L) f_good f_empty f_known f_firstRow f_firstFar f_columns f_endless f_derived a_left a_right a_size a_text a_ends a_trees a_heights a_chosen a_nodes a_values a_far a_op a_constant a_wanted a_sum a_edges (d + 1) (nI p) u := by
  have ok := cp_G_ok G
  have h12 := cp_G_P G
  intro d
  induction d with
  | zero =>
    intro p u hp hs hu hc
    rw [wX_learn_152]; dsimp only
    refine pk_le (gm_P g) p (fun _ => br_c (fun e => ?_) (fun e => hJ u hs e hu)) (fun h => absurd h (by omega))
    subst e
    exact hE hu (fun q k hq => hc q k (by omega))
  | succ d ih =>
    intro p u hp hs hu hc
    have hp' : p < gm_P g := by omega
    have hl5 := gm_ok_l ok hp'
    have next : ∀ u', xk_sub u u' → (∀ n, n < 32 → bt u' n = true → gm_Us g n) → (bt u (gm_l g p) = true → gm_aQ g p 0 → ∀ k, k < 3 → 10 ≤ gm_s g (3 * p + k) → bt u' (gm_s g (3 * p + k) - 10) = true) → wX_learn_152 post J u0 (nI (gm_P g)) (nI L) f_good f_empty f_known f_firstRow f_firstFar f_columns f_endless f_derived a_left a_right a_size a_text a_ends a_trees a_heights a_chosen a_nodes a_values a_far a_op a_constant a_wanted a_sum a_edges (d + 1) (nI (p + 1)) u' := by
      intro u' h1 h2 h3
      refine ih (p + 1) u' (by omega) (xk_sub_tr hs h1) h2 (fun q k hq hb ha hk hs10 => ?_)
      rcases Nat.lt_or_ge q p with z | z
      · have := gm_ok_15 ok (show q < gm_P g by omega) hk
        exact h1 _ (by omega) (hc q k z hb ha hk hs10)
      · have : q = p := by omega
        subst this
        exact h3 (hs _ (by omega) hb) ha k hk hs10
    rw [wX_learn_152]; dsimp only
    rw [nI_clamp (show p < 2 ^ 31 by omega), hl p hp']
    have hQ : (∀ k, k < 3 → xk_Wn f_good 1 (gm_s g (3 * p + k))) ↔ gm_aQ g p 0 := by
      rw [xk_Wn_g ok hp']
      constructor
      · intro h k _ hk hc
        have := gm_ok_15 ok hp' hk
        exact (hgood _ (by omega)).mp (h k hk hc)
      · intro h k hk hc
        have := gm_ok_15 ok hp' hk
        exact (hgood _ (by omega)).mpr (h k (by omega) hk hc)
    refine pk_le (gm_P g) p (fun h => absurd h (by omega)) (fun _ => ⟨vp_in_nI (by omega) (by omega), br_bit (by omega) (fun z => nm_r (nI_1 _) (next u (xk_sub_rf u) hu fun w => absurd w z)) (fun z => xs_within G hp' (fun w => br_f (by decide) (xs_parts G hp' fun r hr => nm_e (nm_r (nI_1 _) (next _ (xk_sub_or u r) ?_ ?_)))) (fun w => br_t rfl (nm_r (nI_1 _) (next u (xk_sub_rf u) hu fun _ q => absurd (hQ.mpr q) w))))⟩)
    · intro n hn hb
      rw [b_or, Bool.or_eq_true, hr n hn] at hb
      rcases hb with hb | ⟨k, hk, he⟩
      · exact hu n hn hb
      · obtain ⟨r, hr⟩ := hu _ (by omega) z
        exact ⟨r + 1, Or.inr ⟨p, k, hp', hr, hQ.mp w, hk, he⟩⟩
    · intro _ _ k hk hc
      have := gm_ok_15 ok hp' hk
      rw [b_or, Bool.or_eq_true]
      exact Or.inr ((hr _ (by omega)).mpr ⟨k, hk, by omega⟩)
theorem xs_used {post : SX → Prop} (G : cp_G g L a_right a_size a_text) (hl : xk_L g a_left) (hgood : cp_St f_good (gm_Pd g)) (h : ∀ u, cp_St u (gm_Us g) → post (nI (gm_P g), nI L, f_good, f_empty, u, f_known, f_firstRow, f_firstFar, f_columns, f_endless, f_derived, a_left, a_right, a_size, a_text, a_ends, a_trees, a_heights, a_chosen, a_nodes, a_values, a_far, a_op, a_constant, a_wanted, a_sum, a_edges)) : ∀ N u, xk_ms u < N → (∀ n, n < 32 → bt u n = true → gm_Us g n) → (gm_Pd g 0 → bt u 0 = true) →
    wX_learn_145 post (nI (gm_P g)) (nI L) f_good f_empty f_known f_firstRow f_firstFar f_columns f_endless f_derived a_left a_right a_size a_text a_ends a_trees a_heights a_chosen a_nodes a_values a_far a_op a_constant a_wanted a_sum a_edges N u := by
  have ok := cp_G_ok G
  intro N
  induction N with
  | zero => intro u h; omega
  | succ N ih =>
    intro u hN hu h0
    rw [wX_learn_145]; dsimp only
    refine ⟨gm_P g + 1, xs_used_in G hl hgood (fun u' hs hne hu' => ih u' ?_ hu' (fun z => hs 0 (by omega) (h0 z))) (fun _ hc => h u fun n hn => ⟨hu n hn, ?_⟩) (gm_P g) 0 u (by omega) (xk_sub_rf u) hu (fun q k hq => absurd hq (by omega))⟩
    · have hlo : xk_lo u' := fun i hi hb => by
        obtain ⟨r, hr⟩ := hu' i hi hb
        cases r with
        | zero => have := hr.1; omega
        | succ r =>
          have := gm_Us_5 ok ⟨_, hr⟩
          rcases this with z | ⟨p, k, hp, _, _, hk, he⟩
          · have key : ∀ r n, gm_U g r n → n < 5 := by
              intro r
              induction r with
              | zero => intro n h; have := h.1; omega
              | succ r ih =>
                rintro n (h | ⟨p, k, hp, _, _, hk, he⟩)
                · exact ih n h
                · have := gm_ok_15 ok hp hk; omega
            exact key _ _ z
          · have := gm_ok_15 ok hp hk; omega
      have := xk_ms_lt hs hlo hne
      omega
    · rintro ⟨r, hr⟩
      have key : ∀ r n, gm_U g r n → bt u n = true := by
        intro r
        induction r with
        | zero => rintro n ⟨rfl, hp⟩; exact h0 hp
        | succ r ihr =>
          rintro n (hn | ⟨p, k, hp, hq, ha, hk, he⟩)
          · exact ihr n hn
          · have := hc p k hp (ihr _ hq) ha hk (by omega)
            rw [he, Nat.add_sub_cancel] at this
            exact this
      exact key r n hr
/-- the good and empty stage -/
theorem xs_learn_in {post : SX → Prop} {J : Int32 → Int32 → Prop} {g0 e0 : Int32} (G : cp_G g L a_right a_size a_text) (hl : xk_L g a_left)
    (hs0 : (∀ n, n < 32 → bt g0 n = true → gm_Pd g n) ∧ (∀ n, n < 32 → bt e0 n = true → gm_D g n 0 0))
    (hJ : ∀ x y, xk_sub g0 x → xk_sub e0 y → (g0 ≠ x ∨ e0 ≠ y) → (∀ n, n < 32 → bt x n = true → gm_Pd g n) → (∀ n, n < 32 → bt y n = true → gm_D g n 0 0) → J x y)
    (hE : (∀ p, p < gm_P g → xk_c1 g g0 p → bt g0 (gm_l g p) = true) → (∀ p, p < gm_P g → xk_c0 g e0 p → bt e0 (gm_l g p) = true) →
      ((((g0 &&& 1) = 0 → (∃ n145 : Nat, wX_learn_145 post (nI (gm_P g)) (nI L) g0 e0 f_known f_firstRow f_firstFar f_columns f_endless f_derived a_left a_right a_size a_text a_ends a_trees a_heights a_chosen a_nodes a_values a_far a_op a_constant a_wanted a_sum a_edges n145 f_used)) ∧ (¬ (g0 &&& 1) = 0 → (∃ n145 : Nat, wX_learn_145 post (nI (gm_P g)) (nI L) g0 e0 f_known f_firstRow f_firstFar f_columns f_endless f_derived a_left a_right a_size a_text a_ends a_trees a_heights a_chosen a_nodes a_values a_far a_op a_constant a_wanted a_sum a_edges n145 1)))))
    : ∀ d p x y, p + d = gm_P g → xk_sub g0 x → xk_sub e0 y → (∀ n, n < 32 → bt x n = true → gm_Pd g n) → (∀ n, n < 32 → bt y n = true → gm_D g n 0 0) →
      (∀ q, q < p → xk_c1 g g0 q → bt x (gm_l g q) = true) → (∀ q, q < p → xk_c0 g e0 q → bt y (gm_l g q) = true) →
    wX_learn_42 post J ((g0 <<< ((5 : Int32) &&& 31)) ||| e0) (nI (gm_P g)) (nI L) f_used f_known f_firstRow f_firstFar f_columns f_endless f_derived a_left a_right a_size a_text a_ends a_trees a_heights a_chosen a_nodes a_values a_far a_op a_constant a_wanted a_sum a_edges (d + 1) (nI p) x y := by
  have ok := cp_G_ok G
  have h12 := cp_G_P G
  have lo1 : ∀ x : Int32, (∀ n, n < 32 → bt x n = true → gm_Pd g n) → xk_lo x := fun x h i hi hb => gm_Pd_lt ok (h i hi hb)
  have lo2 : ∀ x : Int32, (∀ n, n < 32 → bt x n = true → gm_D g n 0 0) → xk_lo x := fun x h i hi hb => gm_Pd_lt ok (gm_D_Pd (h i hi hb))
  intro d
  induction d with
  | zero =>
    intro p x y hp hx hy sx sy cx cy
    rw [wX_learn_42]; dsimp only
    refine pk_le (gm_P g) p (fun _ => br_c (fun e => ?_) (fun e => hJ x y hx hy ?_ sx sy)) (fun h => absurd h (by omega))
    · obtain ⟨e1, e2⟩ := cp_pack (lo1 _ hs0.1) (lo2 _ hs0.2) (lo1 _ sx) (lo2 _ sy) e
      subst e1; subst e2
      exact hE (fun q hq => cx q (by omega)) (fun q hq => cy q (by omega))
    · refine Classical.byContradiction fun z => e ?_
      rw [show g0 = x from Classical.byContradiction fun w => z (Or.inl w), show e0 = y from Classical.byContradiction fun w => z (Or.inr w)]
  | succ d ih =>
    intro p x y hp hx hy sx sy cx cy
    have hp' : p < gm_P g := by omega
    have hl5 := gm_ok_l ok hp'
    have one : ∀ z : Int32, ∀ i, i < 32 → (bt (z ||| ((1 : Int32) <<< (nI (gm_l g p) &&& 31))) i = true ↔ bt z i = true ∨ i = gm_l g p) := fun z i hi => by
      rw [b_or, Bool.or_eq_true, (cp_St_1 (n := gm_l g p) (by omega)) i hi]
    have step2 : ∀ x', xk_sub x x' → (∀ n, n < 32 → bt x' n = true → gm_Pd g n) → (xk_c1 g g0 p → bt x' (gm_l g p) = true) →
        wX_learn_80 post J (wX_learn_42 post J ((g0 <<< ((5 : Int32) &&& 31)) ||| e0) (nI (gm_P g)) (nI L) f_used f_known f_firstRow f_firstFar f_columns f_endless f_derived a_left a_right a_size a_text a_ends a_trees a_heights a_chosen a_nodes a_values a_far a_op a_constant a_wanted a_sum a_edges (d + 1)) ((g0 <<< ((5 : Int32) &&& 31)) ||| e0) (nI p) (nI (gm_P g)) (nI L) x' y f_used f_known f_firstRow f_firstFar f_columns f_endless f_derived a_left a_right a_size a_text a_ends a_trees a_heights a_chosen a_nodes a_values a_far a_op a_constant a_wanted a_sum a_edges := by
      intro x' h1 h2 h3
      have cx' : ∀ q, q < p + 1 → xk_c1 g g0 q → bt x' (gm_l g q) = true := fun q hq hc => by
        rcases Nat.lt_or_ge q p with z | z
        · have := gm_ok_l ok (show q < gm_P g by omega)
          exact h1 _ (by omega) (cx q z hc)
        · have : q = p := by omega
          subst this; exact h3 hc
      unfold wX_learn_80
      refine xs_within G hp' (fun w => br_f (by decide) ⟨vp_in_nI (by omega) (by omega), ?_⟩) (fun w => br_t rfl (nm_r (nI_1 _) (ih (p + 1) x' y (by omega) (xk_sub_tr hx h1) hy h2 sy cx' fun q hq hc => ?_)))
      · rw [nI_clamp (show p < 2 ^ 31 by omega), hl p hp']
        refine nm_e (nm_r (nI_1 _) (ih (p + 1) x' _ (by omega) (xk_sub_tr hx h1) (xk_sub_tr hy (xk_sub_or y _)) h2 (fun n hn hb => ?_) cx' fun q hq hc => ?_))
        · rcases (one y n hn).mp hb with hb | hb
          · exact sy n hn hb
          · subst hb
            have w' := xk_Wn_e.mp w
            have S : ∀ k, k < 3 → gm_Sp g (gm_D g) (gm_s g (3 * p + k)) 0 0 := fun k hk => by
              rcases w' k hk with z | z
              · exact (gm_Sp_9 z).mpr rfl
              · have := gm_ok_15 ok hp' hk
                exact (gm_Sp_n z.1).mpr (sy _ (by omega) z.2)
            exact gm_D_mk hp' (u := 0) (v := 0) ⟨Nat.le_refl _, Nat.le_refl _, Nat.le_refl _, S 0 (by omega), S 1 (by omega), S 2 (by omega)⟩
        · rcases Nat.lt_or_ge q p with z | z
          · have := gm_ok_l ok (show q < gm_P g by omega)
            exact (one y _ (by omega)).mpr (Or.inl (cy q z hc))
          · have : q = p := by omega
            subst this; exact (one y _ (by omega)).mpr (Or.inr rfl)
      · rcases Nat.lt_or_ge q p with z | z
        · exact cy q z hc
        · have : q = p := by omega
          subst this
          exact absurd (xk_Wn_e.mpr (xk_c0_mono ok hp' hy hc)) w
    rw [wX_learn_42]; dsimp only
    refine pk_le (gm_P g) p (fun h => absurd h (by omega)) (fun _ => xs_within G hp' (fun w => br_f (by decide) ⟨vp_in_nI (by omega) (by omega), ?_⟩) (fun w => br_t rfl (step2 x (xk_sub_rf x) sx fun hc => absurd ((xk_Wn_g ok hp').mpr (xk_c1_mono ok hp' hx hc)) w)))
    rw [nI_clamp (show p < 2 ^ 31 by omega), hl p hp']
    refine nm_e (step2 _ (xk_sub_or x _) (fun n hn hb => ?_) (fun _ => (one x _ (by omega)).mpr (Or.inr rfl)))
    rcases (one x n hn).mp hb with hb | hb
    · exact sx n hn hb
    · subst hb
      have w' := (xk_Wn_g ok hp').mp w
      refine gm_Pd_mk hp' fun k _ hk hc => ?_
      have := gm_ok_15 ok hp' hk
      exact sx _ (by omega) (w' k hk hc)
theorem xs_learn_28 {post : SX → Prop} (G : cp_G g L a_right a_size a_text) (hl : xk_L g a_left) (hu : f_used = 0) (h : ∀ a b u, xk_K g a b u → post (nI (gm_P g), nI L, a, b, u, f_known, f_firstRow, f_firstFar, f_columns, f_endless, f_derived, a_left, a_right, a_size, a_text, a_ends, a_trees, a_heights, a_chosen, a_nodes, a_values, a_far, a_op, a_constant, a_wanted, a_sum, a_edges)) :
    ∀ N x y, xk_ms x + xk_ms y < N → (∀ n, n < 32 → bt x n = true → gm_Pd g n) → (∀ n, n < 32 → bt y n = true → gm_D g n 0 0) → wX_learn_28 post (nI (gm_P g)) (nI L) f_used f_known f_firstRow f_firstFar f_columns f_endless f_derived a_left a_right a_size a_text a_ends a_trees a_heights a_chosen a_nodes a_values a_far a_op a_constant a_wanted a_sum a_edges N x y := by
  have ok := cp_G_ok G
  have lo1 : ∀ x : Int32, (∀ n, n < 32 → bt x n = true → gm_Pd g n) → xk_lo x := fun x h i hi hb => gm_Pd_lt ok (h i hi hb)
  have lo2 : ∀ x : Int32, (∀ n, n < 32 → bt x n = true → gm_D g n 0 0) → xk_lo x := fun x h i hi hb => gm_Pd_lt ok (gm_D_Pd (h i hi hb))
  intro N
  induction N with
  | zero => intro x y h; omega
  | succ N ih =>
    intro x y hN sx sy
    rw [wX_learn_28]; dsimp only
    refine nm_e ⟨gm_P g + 1, xs_learn_in G hl ⟨sx, sy⟩ (fun x' y' h1 h2 h3 sx' sy' => ih x' y' ?_ sx' sy') (fun cx cy => ?_) (gm_P g) 0 x y (by omega) (xk_sub_rf x) (xk_sub_rf y) sx sy (fun q hq => absurd hq (by omega)) (fun q hq => absurd hq (by omega))⟩
    · have a := xk_ms_le h1
      have b := xk_ms_le h2
      rcases h3 with z | z
      · have := xk_ms_lt h1 (lo1 _ sx') z; omega
      · have := xk_ms_lt h2 (lo2 _ sy') z; omega
    · have e1 : cp_St x (gm_Pd g) := fun n hn => ⟨sx n hn, fun hp => gm_Pd_ind (Q := fun n => bt x n = true) (fun p hp hh => cx p hp fun k hk hc => (hh k hk hc).2) hp⟩
      have e2 : cp_St y (fun n => gm_D g n 0 0) := fun n hn => ⟨sy n hn, fun hp => by
        refine gm_D_ind (Q := fun n i j => i = 0 → j = 0 → bt y n = true) (fun p i u v j hp hd hi hj => cy p hp fun k hk => ?_) hp rfl rfl
        subst hi; subst hj
        obtain ⟨h1, h2, h3, a, b, d⟩ := hd
        have hu0 : u = 0 := by omega
        have hv0 : v = 0 := by omega
        subst hu0; subst hv0
        have S : ∀ c, gm_Sp g (fun n a b => gm_D g n a b ∧ (a = 0 → b = 0 → bt y n = true)) c 0 0 → c = 9 ∨ (10 ≤ c ∧ bt y (c - 10) = true) := by
          rintro c (⟨q, w⟩ | ⟨q, _⟩ | ⟨q, w, _⟩)
          · exact Or.inr ⟨q, w.2 rfl rfl⟩
          · exact Or.inl q
          · omega
        rcases (by omega : k = 0 ∨ k = 1 ∨ k = 2) with rfl | rfl | rfl
        · exact S _ a
        · exact S _ b
        · exact S _ d⟩
      refine br_i (cp_and1 x) (fun z => ⟨xk_ms 0 + 1, ?_⟩) (fun z => ⟨xk_ms 1 + 1, ?_⟩)
      · rw [hu]
        exact xs_used (f_good := x) (f_empty := y) G hl e1 (fun u hu => h x y u ⟨e1, e2, hu⟩) _ 0 (Nat.lt_succ_self _) (fun n hn hb => absurd hb (by rw [b_0]; decide)) (fun hp => absurd ((e1 0 (by omega)).mpr hp) z)
      · refine xs_used (f_good := x) (f_empty := y) G hl e1 (fun u hu => h x y u ⟨e1, e2, hu⟩) _ 1 (Nat.lt_succ_self _) (fun n hn hb => ?_) (fun _ => by decide)
        rw [cp_b1 n hn] at hb
        have : n = 0 := of_decide_eq_true hb
        subst this
        exact ⟨0, rfl, (e1 0 (by omega)).mp (Classical.not_not.mp z)⟩
theorem xs_learn {post : SX → Prop} (G : cp_G g L a_right a_size a_text) (hl : xk_L g a_left) (hk : f_known ≠ 0 → f_known = 1 ∧ xk_K g f_good f_empty f_used) (h : ∀ a b u, xk_K g a b u → post (nI (gm_P g), nI L, a, b, u, 1, f_firstRow, f_firstFar, f_columns, f_endless, f_derived, a_left, a_right, a_size, a_text, a_ends, a_trees, a_heights, a_chosen, a_nodes, a_values, a_far, a_op, a_constant, a_wanted, a_sum, a_edges)) : wpX_learn post (nI (gm_P g), nI L, f_good, f_empty, f_used, f_known, f_firstRow, f_firstFar, f_columns, f_endless, f_derived, a_left, a_right, a_size, a_text, a_ends, a_trees, a_heights, a_chosen, a_nodes, a_values, a_far, a_op, a_constant, a_wanted, a_sum, a_edges) := by
  unfold wpX_learn
  refine br_c (fun z => ⟨_, xs_learn_28 G hl rfl h _ 0 0 (Nat.lt_succ_self _) (fun n hn hb => absurd hb (by rw [b_0]; decide)) (fun n hn hb => absurd hb (by rw [b_0]; decide))⟩) (fun z => ?_)
  obtain ⟨e, k⟩ := hk z
  have := h _ _ _ k
  rw [← e] at this
  exact this
end
end
section
/-! X: row, the ends -/
def xk_Er (g : gm_G) (L : Nat) (a : Nat → Int32) (i0 : Nat) : Prop := ∀ k n, i0 ≤ k → k ≤ L → n < 5 → cp_St (a (5 * k + n)) (fun j => gm_D g n k j ∧ j ≤ L)
def xk_Ri (g : gm_G) (L : Nat) (a : Nat → Int32) (i : Nat) : Prop := xk_Er g L a (i + 1) ∧ ∀ n j, n < 5 → j < 32 → xk_E a n i j → gm_D g n i j ∧ j ≤ L
def xk_mr (a : Nat → Int32) (i : Nat) : Nat := sm_S (fun n => sm_S (fun j => if bt (a (5 * i + n)) j = true then 0 else 1) 32) 5
section
variable {g : gm_G} {L : Nat} {D E : Nat → Nat → Nat → Prop} {p i j u v q : Nat} {a a0 : Nat → Int32}
theorem gm_Dv_m5 (ok : gm_ok g) (hp : p < gm_P g) (h : ∀ n x y, n < 5 → i ≤ x → x ≤ y → y ≤ j → D n x y → E n x y) : gm_Dv g D p i u v j → gm_Dv g E p i u v j := by
  rintro ⟨h1, h2, h3, a, b, d⟩
  have c0 : gm_s g (3 * p) < 15 := gm_ok_15 ok hp (show 0 < 3 by omega)
  have c1 := gm_ok_15 ok hp (show 1 < 3 by omega)
  have c2 := gm_ok_15 ok hp (show 2 < 3 by omega)
  exact ⟨h1, h2, h3, gm_Sp_mono (fun _ => h _ _ _ (by omega) (by omega) (by omega) (by omega)) a, gm_Sp_mono (fun _ => h _ _ _ (by omega) (by omega) (by omega) (by omega)) b, gm_Sp_mono (fun _ => h _ _ _ (by omega) (by omega) (by omega) (by omega)) d⟩
theorem gm_Pf_m5 (ok : gm_ok g) (hp : p < gm_P g) (h : ∀ n x y, n < 5 → i ≤ x → x ≤ y → y ≤ j → D n x y → E n x y) (hf : gm_Pf g D p 3 i j) : gm_Pf g E p 3 i j := by
  obtain ⟨u, v, hd⟩ := gm_Pf_Dv hf
  exact gm_Pf_3 (gm_Dv_m5 ok hp h hd)
theorem xk_Ri_D (hL : L ≤ 10) (H : xk_Ri g L a i) {n k : Nat} (hn : n < 5) (hk : i ≤ k) (hkL : k ≤ L) (hj : j < 32) (h : xk_E a n k j) : gm_D g n k j ∧ j ≤ L := by
  rcases Nat.lt_or_ge i k with z | z
  · exact (H.1 k n z hkL hn j hj).mp h
  · have : k = i := by omega
    subst this
    exact H.2 n j hn hj h
theorem xk_Ri_HE (hL : L ≤ 10) (H : xk_Ri g L a i) : xk_HE L a i := fun n k j hn hk hkL hj h => by
  have := xk_Ri_D hL H hn hk hkL hj h
  exact ⟨gm_D_le this.1, this.2⟩
/-- closed under all productions: the row is right -/
theorem xk_row_done (ok : gm_ok g) (hL : L ≤ 10) (H : xk_Ri g L a i) (hc : ∀ q j, q < gm_P g → j ≤ L → gm_Pf g (xk_E a) q 3 i j → xk_E a (gm_l g q) i j) : xk_Er g L a i := by
  intro k n hk hkL hn
  rcases Nat.lt_or_ge i k with z | z
  · exact H.1 k n z hkL hn
  · have : k = i := by omega
    subst this
    intro j hj
    refine ⟨fun h => H.2 n j hn hj h, fun h => ?_⟩
    refine gm_D_ind (Q := fun n x y => x = k → y ≤ L → xk_E a n k y) (fun p x u v y hp hd hx hy => ?_) h.1 rfl h.2
    subst hx
    refine hc p y hp hy (gm_Pf_3 (gm_Dv_m5 ok hp (fun n x' y' hn h1 h2 h3 hq => ?_) hd))
    rcases Nat.lt_or_ge x x' with w | w
    · exact (H.1 x' n w (by omega) hn y' (by omega)).mpr ⟨hq.1, by omega⟩
    · have e : x' = x := by omega
      subst e
      exact hq.2 rfl (by omega)
theorem xk_mr_up {s : Int32} {n0 : Nat} (hn : n0 < 5) (hs : xk_sub (a (5 * i + n0)) s) : xk_mr (upd a (5 * i + n0) s) i ≤ xk_mr a i ∧ (s ≠ a (5 * i + n0) → xk_mr (upd a (5 * i + n0) s) i < xk_mr a i) := by
  have K : ∀ n, n < 5 → ∀ j, j < 32 → (if bt (upd a (5 * i + n0) s (5 * i + n)) j = true then 0 else 1) ≤ (if bt (a (5 * i + n)) j = true then 0 else 1) := by
    intro n _ j hj
    by_cases e : n = n0
    · subst e
      rw [pk_us]
      by_cases z : bt (a (5 * i + n)) j = true
      · rw [if_pos z, if_pos (hs j hj z)]; omega
      · rw [if_neg z]
        by_cases w : bt s j = true
        · rw [if_pos w]; omega
        · rw [if_neg w]; omega
    · rw [pk_un (by omega)]; exact Nat.le_refl _
  refine ⟨sm_le fun n hn => sm_le (K n hn), fun hne => ?_⟩
  obtain ⟨j, hj, h1, h2⟩ : ∃ j, j < 32 ∧ bt s j = true ∧ ¬ bt (a (5 * i + n0)) j = true := by
    refine Classical.byContradiction fun z => hne (cp_St_eq (cp_St_b _) (cp_St_b _) fun i hi => ⟨fun w => ?_, hs i hi⟩)
    exact Classical.byContradiction fun q => z ⟨i, hi, w, q⟩
  refine sm_lt (a := n0) ?_ (fun n hn => sm_le (K n hn)) hn
  refine sm_lt (a := j) ?_ (K n0 hn) hj
  show (if bt (upd a (5 * i + n0) s (5 * i + n0)) j = true then 0 else 1) < (if bt (a (5 * i + n0)) j = true then 0 else 1)
  rw [pk_us, if_pos h1, if_neg h2]; omega
end
section
variable {g : gm_G} {L : Nat} {f_good f_empty f_used f_known f_firstRow f_firstFar f_columns f_endless f_derived : Int32} {a_left a_right a_size a_text a_ends a_trees a_heights a_chosen a_nodes a_far a_op a_constant a_wanted a_edges : Nat → Int32} {a_values a_sum : Nat → Int64} {c i j p n k m : Nat}
theorem xs_row_28 {post : SX → Prop} {J : (Nat → Int32) → (Nat → Int32) → (Nat → Int32) → (Nat → Int32) → (Nat → Int32) → (Nat → Int32) → (Nat → Int32) → (Nat → Int32) → (Nat → Int32) → (Nat → Int64) → (Nat → Int32) → (Nat → Int32) → (Nat → Int32) → (Nat → Int32) → (Nat → Int64) → (Nat → Int32) → Prop} {a0 : Nat → Int32}
    (G : cp_G g L a_right a_size a_text) (hl : xk_L g a_left) (hi : i ≤ L)
    (hJ : ∀ a, xk_Ri g L a i → xk_mr a i < xk_mr a0 i → J a_left a_right a_size a_text a a_trees a_heights a_chosen a_nodes a_values a_far a_op a_constant a_wanted a_sum a_edges)
    (hE : ∀ a, xk_Er g L a i → ∃ n109 : Nat, wX_row_109 post (nI i) n109 (nI i) (nI (gm_P g)) (nI L) f_good f_empty f_used f_known f_firstRow f_firstFar f_columns f_endless f_derived a_left a_right a_size a_text a a_trees a_heights a_chosen a_nodes a_values a_far a_op a_constant a_wanted a_sum a_edges) (H0 : xk_Ri g L a0 i) :
    ∀ d p x2 a, p + d = gm_P g → xk_Ri g L a i → (∀ n, n < 5 → xk_sub (a0 (5 * i + n)) (a (5 * i + n))) → (∀ q j, q < p → j ≤ L → gm_Pf g (xk_E a0) q 3 i j → xk_E a (gm_l g q) i j) →
      ((x2 = 0 ∧ ∀ n, n < 5 → a (5 * i + n) = a0 (5 * i + n)) ∨ (x2 = 1 ∧ xk_mr a i < xk_mr a0 i)) → 
      wX_row_28 post J (nI i) (nI (gm_P g)) (nI L) f_good f_empty f_used f_known f_firstRow f_firstFar f_columns f_endless f_derived (d + 1) x2 (nI p) a_left a_right a_size a_text a a_trees a_heights a_chosen a_nodes a_values a_far a_op a_constant a_wanted a_sum a_edges := by
  have ok := cp_G_ok G
  have h12 := cp_G_P G
  have hL := cp_G_L G
  intro d
  induction d with
  | zero =>
    intro p x2 a hp H hsub hc hm
    rw [wX_row_28]
    refine pk_le (gm_P g) p (fun _ => br_c (fun e => hE a (xk_row_done ok hL H fun q j hq hj hf => ?_)) (fun e => hJ a H ?_)) (fun h => absurd h (by omega))
    · have he : ∀ n, n < 5 → a (5 * i + n) = a0 (5 * i + n) := by
        rcases hm with z | z
        · exact z.2
        · exact absurd (z.1.symm.trans e) (by decide)
      refine hc q j (by omega) hj (gm_Pf_m5 ok hq (fun n x y hn h1 h2 h3 w => ?_) hf)
      rcases Nat.lt_or_ge i x with z | z
      · exact (H0.1 x n z (by omega) hn y (by omega)).mpr (xk_Ri_D hL H hn h1 (by omega) (by omega) w)
      · have : x = i := by omega
        subst this
        unfold xk_E at w ⊢
        rw [← he n hn]; exact w
    · rcases hm with z | z
      · exact absurd z.1 e
      · exact z.2
  | succ d ih =>
    intro p x2 a hp H hsub hc hm
    have hp' : p < gm_P g := by omega
    have hl5 := gm_ok_l ok hp'
    have HE := xk_Ri_HE hL H
    rw [wX_row_28]
    refine pk_le (gm_P g) p (fun h => absurd h (by omega)) (fun _ => ?_)
    rw [nI_clamp (show p < 2 ^ 31 by omega), hl p hp', ix_5, nI_clamp (show 5 * i + gm_l g p < 2 ^ 31 by omega)]
    refine ⟨vp_in_nI (by omega) (by omega), vp_in_nI (by omega) (by omega), nm_e (xs_reach G hp' hi HE fun r hr => nm_e ?_)⟩
    have hst : cp_St (a (5 * i + gm_l g p) ||| r) (fun j => gm_D g (gm_l g p) i j ∧ j ≤ L ∧ bt (a (5 * i + gm_l g p) ||| r) j = true) := fun j hj => by
      refine ⟨fun h => ?_, fun h => h.2.2⟩
      rcases Bool.or_eq_true _ _ ▸ (b_or _ _ j ▸ h) with h' | h'
      · have := H.2 _ _ hl5 hj h'
        exact ⟨this.1, this.2, h⟩
      · obtain ⟨h1, h2⟩ := (hr j hj).mp h'
        obtain ⟨u, v, hd⟩ := gm_Pf_Dv h1
        exact ⟨gm_D_mk hp' (gm_Dv_m5 ok hp' (fun n x y hn q1 q2 q3 w => (xk_Ri_D hL H hn q1 (by omega) (by omega) w).1) hd), h2, h⟩
    have hnar : vp_nar .short (a (5 * i + gm_l g p) ||| r).toInt16.toInt32 = a (5 * i + gm_l g p) ||| r := cp_n16 (cp_St_16 hst fun j _ h => by omega)
    have hsu : xk_sub (a (5 * i + gm_l g p)) (a (5 * i + gm_l g p) ||| r) := xk_sub_or _ _
    have H' : xk_Ri g L (upd a (5 * i + gm_l g p) (a (5 * i + gm_l g p) ||| r)) i := by
      refine ⟨fun k n h1 h2 h3 => ?_, fun n j hn hj h => ?_⟩
      · rw [pk_un (by omega)]; exact H.1 k n h1 h2 h3
      · unfold xk_E at h
        by_cases e : n = gm_l g p
        · subst e
          rw [pk_us] at h
          have := (hst j hj).mp h
          exact ⟨this.1, this.2.1⟩
        · rw [pk_un (by omega)] at h
          exact H.2 n j hn hj h
    have hsub1 : ∀ n, n < 5 → xk_sub (a (5 * i + n)) (upd a (5 * i + gm_l g p) (a (5 * i + gm_l g p) ||| r) (5 * i + n)) := fun n hn => by
      by_cases e : n = gm_l g p
      · subst e; rw [pk_us]; exact hsu
      · rw [pk_un (by omega)]; exact xk_sub_rf _
    have hc' : ∀ q j, q < p + 1 → j ≤ L → gm_Pf g (xk_E a0) q 3 i j → xk_E (upd a (5 * i + gm_l g p) (a (5 * i + gm_l g p) ||| r)) (gm_l g q) i j := fun q j hq hj hf => by
      have hq5 := gm_ok_l ok (show q < gm_P g by omega)
      rcases Nat.lt_or_ge q p with z | z
      · exact hsub1 _ hq5 j (by omega) (hc q j z hj hf)
      · have : q = p := by omega
        subst this
        unfold xk_E
        rw [pk_us, b_or, Bool.or_eq_true]
        refine Or.inr ((hr j (by omega)).mpr ⟨gm_Pf_m5 ok hp' (fun n x y hn h1 h2 h3 w => ?_) hf, hj⟩)
        rcases Nat.lt_or_ge i x with z | z
        · exact (H.1 x n z (by omega) hn y (by omega)).mpr (xk_Ri_D hL H0 hn h1 (by omega) (by omega) w)
        · have : x = i := by omega
          subst this
          exact hsub n hn y (by omega) w
    have hmr := xk_mr_up (a := a) (i := i) hl5 hsu
    have go : ∀ x2', ((x2' = 0 ∧ ∀ n, n < 5 → upd a (5 * i + gm_l g p) (a (5 * i + gm_l g p) ||| r) (5 * i + n) = a0 (5 * i + n)) ∨ (x2' = 1 ∧ xk_mr (upd a (5 * i + gm_l g p) (a (5 * i + gm_l g p) ||| r)) i < xk_mr a0 i)) →
        wX_row_28 post J (nI i) (nI (gm_P g)) (nI L) f_good f_empty f_used f_known f_firstRow f_firstFar f_columns f_endless f_derived (d + 1) x2' (nI (p + 1)) a_left a_right a_size a_text (upd a (5 * i + gm_l g p) (a (5 * i + gm_l g p) ||| r)) a_trees a_heights a_chosen a_nodes a_values a_far a_op a_constant a_wanted a_sum a_edges := fun x2' hx =>
      ih (p + 1) x2' _ (by omega) H' (fun n hn => xk_sub_tr (hsub n hn) (hsub1 n hn)) hc' hx
    have hmle : xk_mr a i ≤ xk_mr a0 i := by
      rcases hm with z | z
      · refine sm_le fun n hn => ?_
        rw [z.2 n hn]; exact Nat.le_refl _
      · omega
    refine br_c (fun e => ?_) (fun e => ?_)
    · unfold wX_row_77
      rw [nI_clamp (show p < 2 ^ 31 by omega), hl p hp', ix_5, nI_clamp (show 5 * i + gm_l g p < 2 ^ 31 by omega), hnar]
      refine nm_e ⟨vp_in_nI (by omega) (by omega), vp_in_nI (by omega) (by omega), nm_e (nm_r (nI_1 _) (go _ ?_))⟩
      rcases hm with z | z
      · refine Or.inl ⟨by rw [z.1]; decide, fun n hn => ?_⟩
        by_cases w : n = gm_l g p
        · subst w; rw [pk_us, e]; exact z.2 _ hn
        · rw [pk_un (by omega)]; exact z.2 n hn
      · exact Or.inr ⟨by rw [z.1]; decide, by omega⟩
    · unfold wX_row_77
      rw [nI_clamp (show p < 2 ^ 31 by omega), hl p hp', ix_5, nI_clamp (show 5 * i + gm_l g p < 2 ^ 31 by omega), hnar]
      refine nm_e ⟨vp_in_nI (by omega) (by omega), vp_in_nI (by omega) (by omega), nm_e (nm_r (nI_1 _) (go _ ?_))⟩
      have := hmr.2 e
      refine Or.inr ⟨?_, by omega⟩
      rcases hm with z | z
      · rw [z.1]; decide
      · rw [z.1]; decide
theorem xs_row_24 {post : SX → Prop} (G : cp_G g L a_right a_size a_text) (hl : xk_L g a_left) (hi : i ≤ L)
    (hE : ∀ a, xk_Er g L a i → ∃ n109 : Nat, wX_row_109 post (nI i) n109 (nI i) (nI (gm_P g)) (nI L) f_good f_empty f_used f_known f_firstRow f_firstFar f_columns f_endless f_derived a_left a_right a_size a_text a a_trees a_heights a_chosen a_nodes a_values a_far a_op a_constant a_wanted a_sum a_edges) :
    ∀ N a, xk_mr a i < N → xk_Ri g L a i → wX_row_24 post (nI i) (nI (gm_P g)) (nI L) f_good f_empty f_used f_known f_firstRow f_firstFar f_columns f_endless f_derived N a_left a_right a_size a_text a a_trees a_heights a_chosen a_nodes a_values a_far a_op a_constant a_wanted a_sum a_edges := by
  intro N
  induction N with
  | zero => intro a h; omega
  | succ N ih =>
    intro a hN H
    rw [wX_row_24]
    exact ⟨gm_P g + 1, xs_row_28 G hl hi (fun a' H' hm => ih a' (by omega) H') hE H (gm_P g) 0 0 a (by omega) H (fun n _ => xk_sub_rf _) (fun q j hq => absurd hq (by omega)) (Or.inl ⟨rfl, fun _ _ => rfl⟩)⟩
theorem xs_row_2 {post : SX → Prop} (G : cp_G g L a_right a_size a_text) (hl : xk_L g a_left) (hi : i ≤ L)
    (hE : ∀ a, xk_Er g L a i → ∃ n109 : Nat, wX_row_109 post (nI i) n109 (nI i) (nI (gm_P g)) (nI L) f_good f_empty f_used f_known f_firstRow f_firstFar f_columns f_endless f_derived a_left a_right a_size a_text a a_trees a_heights a_chosen a_nodes a_values a_far a_op a_constant a_wanted a_sum a_edges) :
    ∀ d n a, n + d = 5 → xk_Er g L a (i + 1) → (∀ m, m < n → a (5 * i + m) = 0) → wX_row_2 post (nI i) (nI (gm_P g)) (nI L) f_good f_empty f_used f_known f_firstRow f_firstFar f_columns f_endless f_derived (d + 1) (nI n) a_left a_right a_size a_text a a_trees a_heights a_chosen a_nodes a_values a_far a_op a_constant a_wanted a_sum a_edges := by
  have hL := cp_G_L G
  intro d
  induction d with
  | zero =>
    intro n a hn H hz
    rw [wX_row_2]
    refine pk_le 5 n (fun _ => ⟨_, xs_row_24 G hl hi hE _ a (Nat.lt_succ_self _) ⟨H, fun m j hm hj h => ?_⟩⟩) (fun h => absurd h (by omega))
    unfold xk_E at h
    rw [hz m (by omega), b_0] at h
    exact absurd h (by decide)
  | succ d ih =>
    intro n a hn H hz
    rw [wX_row_2]
    refine pk_le 5 n (fun h => absurd h (by omega)) (fun _ => ?_)
    rw [ix_5, nI_clamp (show 5 * i + n < 2 ^ 31 by omega), cp_n16' (x := 0) (by decide)]
    refine ⟨vp_in_nI (by omega) (by omega), nm_e (nm_r (nI_1 _) (ih (n + 1) _ (by omega) (fun k m h1 h2 h3 => ?_) fun m hm => ?_))⟩
    · rw [pk_un (by omega)]; exact H k m h1 h2 h3
    · by_cases e : m = n
      · subst e; exact pk_us
      · rw [pk_un (by omega)]; exact hz m (by omega)
theorem xs_row {post : SX → Prop} (G : cp_G g L a_right a_size a_text) (hl : xk_L g a_left) (hi : i ≤ L) (H : xk_Er g L a_ends (i + 1))
    (hE : ∀ a, xk_Er g L a i → ∃ n109 : Nat, wX_row_109 post (nI i) n109 (nI i) (nI (gm_P g)) (nI L) f_good f_empty f_used f_known f_firstRow f_firstFar f_columns f_endless f_derived a_left a_right a_size a_text a a_trees a_heights a_chosen a_nodes a_values a_far a_op a_constant a_wanted a_sum a_edges) : wpX_row post (nI (gm_P g), nI L, f_good, f_empty, f_used, f_known, f_firstRow, f_firstFar, f_columns, f_endless, f_derived, a_left, a_right, a_size, a_text, a_ends, a_trees, a_heights, a_chosen, a_nodes, a_values, a_far, a_op, a_constant, a_wanted, a_sum, a_edges) (nI i) := by
  unfold wpX_row
  exact ⟨6, xs_row_2 G hl hi hE 5 0 a_ends rfl H (fun m hm => absurd hm (by omega))⟩
end
end
section
/-! pure part 6: edges over a span, endless ones, rounds -/
/-- done: all divisions before (p0, k0, m0) -/
def xk_Dn (p0 k0 m0 p u v : Nat) : Prop := p < p0 ∨ (p = p0 ∧ (u < k0 ∨ (u = k0 ∧ v < m0)))
section
variable {g : gm_G} {D E : Nat → Nat → Nat → Prop} {c i j k p q u v n m r x : Nat}
/-- m is a part over the whole span -/
def xk_Wh (g : gm_G) (p i u v j m : Nat) : Prop := (gm_s g (3 * p) = m + 10 ∧ u = j) ∨ (gm_s g (3 * p + 1) = m + 10 ∧ u = i ∧ v = j) ∨ (gm_s g (3 * p + 2) = m + 10 ∧ v = i)
def xk_Bd (g : gm_G) (p i u v j : Nat) : Prop := (10 ≤ gm_s g (3 * p) ∧ u ≠ j ∧ ¬ gm_F g (gm_s g (3 * p) - 10) i u) ∨ (10 ≤ gm_s g (3 * p + 1) ∧ ¬ (u = i ∧ v = j) ∧ ¬ gm_F g (gm_s g (3 * p + 1) - 10) u v) ∨ (10 ≤ gm_s g (3 * p + 2) ∧ v ≠ i ∧ ¬ gm_F g (gm_s g (3 * p + 2) - 10) v j)
def xk_Ed (g : gm_G) (S : Nat → Nat → Nat → Prop) (i j n m : Nat) : Prop := ∃ p u v, S p u v ∧ p < gm_P g ∧ gm_l g p = n ∧ gm_Dv g (gm_D g) p i u v j ∧ xk_Wh g p i u v j m
def xk_Ba (g : gm_G) (S : Nat → Nat → Nat → Prop) (i j n : Nat) : Prop := ∃ p u v, S p u v ∧ p < gm_P g ∧ gm_l g p = n ∧ gm_Dv g (gm_D g) p i u v j ∧ xk_Bd g p i u v j
def xk_all (_ _ _ : Nat) : Prop := True
theorem xk_Wh_D (hd : gm_Dv g (gm_D g) p i u v j) (h : xk_Wh g p i u v j m) : gm_D g m i j := by
  obtain ⟨h1, h2, h3, a, b, d⟩ := hd
  rcases h with ⟨e, rfl⟩ | ⟨e, rfl, rfl⟩ | ⟨e, rfl⟩
  · have := (gm_Sp_n (by omega)).mp a
    rwa [e, Nat.add_sub_cancel] at this
  · have := (gm_Sp_n (by omega)).mp b
    rwa [e, Nat.add_sub_cancel] at this
  · have := (gm_Sp_n (by omega)).mp d
    rwa [e, Nat.add_sub_cancel] at this
theorem xk_Wh_5 (ok : gm_ok g) (hp : p < gm_P g) (h : xk_Wh g p i u v j m) : m < 5 := by
  have c0 : gm_s g (3 * p) < 15 := gm_ok_15 ok hp (show 0 < 3 by omega)
  have c1 := gm_ok_15 ok hp (show 1 < 3 by omega)
  have c2 := gm_ok_15 ok hp (show 2 < 3 by omega)
  rcases h with ⟨e, _⟩ | ⟨e, _⟩ | ⟨e, _⟩ <;> omega
theorem xk_Wh_F (hf : gm_F g n i j) (hp : p < gm_P g) (hl : gm_l g p = n) (hd : gm_Dv g (gm_D g) p i u v j) (h : xk_Wh g p i u v j m) : gm_F g m i j ∧ gm_fl g m i j < gm_fl g n i j := by
  obtain ⟨x, y, z⟩ := gm_F_inv hf hp hl hd
  rcases h with ⟨e, rfl⟩ | ⟨e, rfl, rfl⟩ | ⟨e, rfl⟩
  · have := x (by omega)
    rwa [e, Nat.add_sub_cancel] at this
  · have := y (by omega)
    rwa [e, Nat.add_sub_cancel] at this
  · have := z (by omega)
    rwa [e, Nat.add_sub_cancel] at this
theorem xk_Ed_5 (ok : gm_ok g) {S : Nat → Nat → Nat → Prop} (h : xk_Ed g S i j n m) : n < 5 ∧ m < 5 := by
  obtain ⟨p, u, v, -, hp, hl, hd, hw⟩ := h
  exact ⟨hl ▸ gm_ok_l ok hp, xk_Wh_5 ok hp hw⟩
/-! reachability over five -/
def xk_R (E : Nat → Nat → Prop) : Nat → Nat → Nat → Prop
  | 0 => fun n m => E n m
  | k + 1 => fun n m => xk_R E k n m ∨ ∃ x, x < 5 ∧ xk_R E k n x ∧ E x m
def xk_TC (E : Nat → Nat → Prop) (n m : Nat) : Prop := ∃ k, xk_R E k n m
theorem xk_R_mono {E : Nat → Nat → Prop} {k' : Nat} (h : xk_R E k n m) (hk : k ≤ k') : xk_R E k' n m := by
  have : ∀ d, xk_R E (k + d) n m := by
    intro d
    induction d with
    | zero => exact h
    | succ d ih => exact Or.inl ih
  have e := this (k' - k)
  rwa [show k + (k' - k) = k' by omega] at e
theorem xk_R_5 {E : Nat → Nat → Prop} (hm : m < 5) (h : xk_TC E n m) : xk_R E 5 n m := by
  obtain ⟨k, hk, hs⟩ := cp_chain (fun k m => xk_R E k n m) (fun _ _ h => Or.inl h)
  refine xk_R_mono ?_ hk
  have key : ∀ r m, m < 5 → xk_R E r n m → xk_R E k n m := by
    intro r
    induction r with
    | zero => intro m _ h; exact xk_R_mono (k := 0) h (by omega)
    | succ r ih =>
      rintro m hm (h | ⟨x, hx, h1, h2⟩)
      · exact ih m hm h
      · exact hs m hm (Or.inr ⟨x, hx, ih x hx h1, h2⟩)
  obtain ⟨r, hr⟩ := h
  exact key r m hm hr
theorem xk_TC_1 {E : Nat → Nat → Prop} (h : E n m) : xk_TC E n m := ⟨0, h⟩
theorem xk_TC_s {E : Nat → Nat → Prop} (hx : x < 5) (h : xk_TC E n x) (h2 : E x m) : xk_TC E n m := h.elim fun k hk => ⟨k + 1, Or.inr ⟨x, hx, hk, h2⟩⟩
theorem xk_TC_t {E : Nat → Nat → Prop} (hx : x < 5) (h : xk_TC E n x) (h2 : xk_TC E x m) : xk_TC E n m := by
  obtain ⟨k, hk⟩ := h2
  have key : ∀ k m, xk_R E k x m → xk_TC E n m := by
    intro k
    induction k with
    | zero => intro m h'; exact xk_TC_s hx h h'
    | succ k ih =>
      rintro m (h' | ⟨y, hy, h1, h2⟩)
      · exact ih m h'
      · exact xk_TC_s hy (ih y h1) h2
  exact key k m hk
theorem xk_TC_f {E : Nat → Nat → Prop} (h : xk_TC E n m) : E n m ∨ ∃ x, x < 5 ∧ E n x ∧ xk_TC E x m := by
  obtain ⟨k, hk⟩ := h
  have key : ∀ k m, xk_R E k n m → E n m ∨ ∃ x, x < 5 ∧ E n x ∧ xk_TC E x m := by
    intro k
    induction k with
    | zero => intro m h'; exact Or.inl h'
    | succ k ih =>
      rintro m (h' | ⟨y, hy, h1, h2⟩)
      · exact ih m h'
      · rcases ih y h1 with z | ⟨x, hx, z1, z2⟩
        · exact Or.inr ⟨y, hy, z, xk_TC_1 h2⟩
        · exact Or.inr ⟨x, hx, z1, xk_TC_s hy z2 h2⟩
  exact key k m hk
/-- endless: bad or on a cycle, or reaching such -/
def xk_E1 (g : gm_G) (i j n : Nat) : Prop := xk_Ba g xk_all i j n ∨ xk_TC (xk_Ed g xk_all i j) n n
def xk_EX (g : gm_G) (i j n : Nat) : Prop := xk_E1 g i j n ∨ ∃ m, m < 5 ∧ xk_E1 g i j m ∧ xk_TC (xk_Ed g xk_all i j) n m
theorem xk_EX_F (ok : gm_ok g) (hf : gm_F g n i j) : ¬ xk_EX g i j n := by
  have key : ∀ N n, gm_fl g n i j < N → gm_F g n i j → ¬ xk_EX g i j n := by
    intro N
    induction N with
    | zero => intro n h; omega
    | succ N ih =>
      intro n hN hf hx
      have St : ∀ m, xk_Ed g xk_all i j n m → m < 5 ∧ ¬ xk_EX g i j m := by
        rintro m ⟨p, u, v, -, hp, hl, hd, hw⟩
        have := xk_Wh_F hf hp hl hd hw
        exact ⟨xk_Wh_5 ok hp hw, ih m (by omega) this.1⟩
      rcases hx with (⟨p, u, v, -, hp, hl, hd, hb⟩ | hc) | ⟨m, hm, h1, h2⟩
      · obtain ⟨x, y, z⟩ := gm_F_inv hf hp hl hd
        rcases hb with ⟨h10, _, hn⟩ | ⟨h10, _, hn⟩ | ⟨h10, _, hn⟩
        · exact hn (x h10).1
        · exact hn (y h10).1
        · exact hn (z h10).1
      · rcases xk_TC_f hc with z | ⟨x, hx, z1, z2⟩
        · have := St n z
          exact this.2 (Or.inl (Or.inr hc))
        · have := St x z1
          exact this.2 (Or.inl (Or.inr (xk_TC_s (xk_Ed_5 ok z1).1 z2 z1)))
      · rcases xk_TC_f h2 with z | ⟨x, hx, z1, z2⟩
        · exact (St m z).2 (Or.inl h1)
        · exact (St x z1).2 (Or.inr ⟨m, hm, h1, z2⟩)
  exact key _ n (Nat.lt_succ_self _) hf
theorem xk_F_EX (ok : gm_ok g) (hx : ¬ xk_EX g i j n) : gm_F g n i j := by
  have key : ∀ N n, sm_S (fun m => cp_b (xk_TC (xk_Ed g xk_all i j) n m)) 5 < N → ¬ xk_EX g i j n → gm_F g n i j := by
    intro N
    induction N with
    | zero => intro n h; omega
    | succ N ih =>
      intro n hN hx
      have W : ∀ m, xk_Ed g xk_all i j n m → gm_F g m i j := by
        intro m he
        have h5 := xk_Ed_5 ok he
        have hmx : ¬ xk_EX g i j m := by
          rintro (h | ⟨y, hy, h1, h2⟩)
          · exact hx (Or.inr ⟨m, h5.2, h, xk_TC_1 he⟩)
          · exact hx (Or.inr ⟨y, hy, h1, xk_TC_t h5.2 (xk_TC_1 he) h2⟩)
        refine ih m ?_ hmx
        have : sm_S (fun x => cp_b (xk_TC (xk_Ed g xk_all i j) m x)) 5 < sm_S (fun x => cp_b (xk_TC (xk_Ed g xk_all i j) n x)) 5 := by
          refine sm_lt (a := m) ?_ (fun x _ => cp_b_mono fun h => xk_TC_t h5.2 (xk_TC_1 he) h) h5.2
          show cp_b (xk_TC (xk_Ed g xk_all i j) m m) < cp_b (xk_TC (xk_Ed g xk_all i j) n m)
          rw [cp_b_t (xk_TC_1 he), cp_b_f fun h => hmx (Or.inl (Or.inr h))]; omega
        omega
      refine gm_F_mk fun p u v hp hl hd => ?_
      have hb : ¬ xk_Bd g p i u v j := fun h => hx (Or.inl (Or.inl ⟨p, u, v, trivial, hp, hl, hd, h⟩))
      refine ⟨fun h10 => ?_, fun h10 => ?_, fun h10 => ?_⟩
      · by_cases w : u = j
        · subst w
          exact W _ ⟨p, u, v, trivial, hp, hl, hd, Or.inl ⟨by omega, rfl⟩⟩
        · exact Classical.byContradiction fun z => hb (Or.inl ⟨h10, w, z⟩)
      · by_cases w : u = i ∧ v = j
        · obtain ⟨rfl, rfl⟩ := w
          exact W _ ⟨p, u, v, trivial, hp, hl, hd, Or.inr (Or.inl ⟨by omega, rfl, rfl⟩)⟩
        · exact Classical.byContradiction fun z => hb (Or.inr (Or.inl ⟨h10, w, z⟩))
      · by_cases w : v = i
        · subst w
          exact W _ ⟨p, u, v, trivial, hp, hl, hd, Or.inr (Or.inr ⟨by omega, rfl⟩)⟩
        · exact Classical.byContradiction fun z => hb (Or.inr (Or.inr ⟨h10, w, z⟩))
  exact key _ n (Nat.lt_succ_self _) hx
theorem xk_EX_iff (ok : gm_ok g) : xk_EX g i j n ↔ ¬ gm_F g n i j :=
  ⟨fun h hf => xk_EX_F ok hf h, fun h => Classical.byContradiction fun hx => h (xk_F_EX ok hx)⟩
/-! rounds: right after r rounds -/
def xk_NE (g : gm_G) (i j : Nat) : Prop := ∀ n m, ¬ xk_Ed g xk_all i j n m
def xk_C (NE : Prop) (f : Nat → Nat) (r n : Nat) : Prop := gm_rk f (f n) < r ∨ (NE ∧ 0 < r)
theorem xk_C_s {f : Nat → Nat} (h : xk_C (xk_NE g i j) f (r + 1) n) (he : xk_Ed g xk_all i j n m) (hm : m < 5) (h0 : 0 < f m) (hlt : f m < f n) : xk_C (xk_NE g i j) f r m := by
  rcases h with z | z
  · have := gm_rk_lt (f := f) hm h0 hlt
    exact Or.inl (by omega)
  · exact absurd he (z.1 n m)
theorem xk_C_m {NE : Prop} {f : Nat → Nat} {r' : Nat} (h : xk_C NE f r n) (hr : r ≤ r') : xk_C NE f r' n := by
  rcases h with z | z
  · exact Or.inl (by omega)
  · exact Or.inr ⟨z.1, by omega⟩
theorem xk_C_5 {NE : Prop} {f : Nat → Nat} (hn : n < 5) : xk_C NE f 5 n := Or.inl (by have := gm_rk_4 (f := f) hn; omega)
theorem xk_C_1 {NE : Prop} {f : Nat → Nat} (h : NE) : xk_C NE f 1 n := Or.inr ⟨h, by omega⟩
theorem xk_C_0 {NE : Prop} {f : Nat → Nat} : ¬ xk_C NE f 0 n := by
  rintro (z | z)
  · omega
  · omega
end
end
section
/-! X: divide, in general; link -/
def xk_Tv (g : gm_G) (a : Nat → Int32) (n i j : Nat) : Prop := (gm_F g n i j → a (55 * i + 11 * n + j) = nI (gm_M g n i j)) ∧ (¬ gm_F g n i j → a (55 * i + 11 * n + j) = -3)
/-- for all true parts of the span -/
def xk_Sub (i j : Nat) (Q : Nat → Nat → Nat → Prop) : Prop := ∀ n a b, n < 5 → i ≤ a → a ≤ b → b ≤ j → (i < a ∨ b < j) → Q n a b
theorem cp_nI_ne3 {n : Nat} (h : n < 2 ^ 31) : nI n ≠ -3 := fun e => by
  have : (nI n).toInt = -3 := by rw [e]; rfl
  rw [nI_toInt h] at this; omega
section
variable {g : gm_G} {L : Nat} {f_good f_empty f_used f_known f_firstRow f_firstFar f_columns f_endless f_derived : Int32} {a_left a_right a_size a_text a_ends a_trees a_heights a_chosen a_nodes a_far a_op a_constant a_wanted a_edges : Nat → Int32} {a_values a_sum : Nat → Int64} {c i j p n k m a b i0 : Nat}
theorem xk_Er_m (H : xk_Er g L a_ends i0) (h : i0 ≤ i) : xk_Er g L a_ends i := fun k n h1 h2 h3 => H k n (by omega) h2 h3
theorem xk_Er_E (G : cp_G g L a_right a_size a_text) (H : xk_Er g L a_ends i0) (hn : n < 5) (ha : i0 ≤ a) (haL : a ≤ L) (hb : b ≤ L) : xk_E a_ends n a b ↔ gm_D g n a b := by
  have hL := cp_G_L G
  unfold xk_E
  rw [H a n ha haL hn b (by omega)]
  exact ⟨fun h => h.1, fun h => ⟨h, hb⟩⟩
theorem xk_Er_Sp (G : cp_G g L a_right a_size a_text) (H : xk_Er g L a_ends i0) (hc : c < 15) (ha : i0 ≤ a) (haL : a ≤ L) (hb : b ≤ L) : gm_Sp g (xk_E a_ends) c a b ↔ gm_Sp g (gm_D g) c a b :=
  ⟨gm_Sp_mono fun h10 => (xk_Er_E G H (by omega) ha haL hb).mp, gm_Sp_mono fun h10 => (xk_Er_E G H (by omega) ha haL hb).mpr⟩
theorem xs_spansD {post : Int32 → Prop} (G : cp_G g L a_right a_size a_text) (H : xk_Er g L a_ends i0) (hc : c < 15) (ha : i0 ≤ a) (haL : a ≤ L) (hb : b ≤ L)
    (h1 : gm_Sp g (gm_D g) c a b → post 1) (h0 : ¬ gm_Sp g (gm_D g) c a b → post 0) : wpX_spans post (nI (gm_P g), nI L, f_good, f_empty, f_used, f_known, f_firstRow, f_firstFar, f_columns, f_endless, f_derived, a_left, a_right, a_size, a_text, a_ends, a_trees, a_heights, a_chosen, a_nodes, a_values, a_far, a_op, a_constant, a_wanted, a_sum, a_edges) (cp_Sy c) (nI a) (nI b) :=
  xs_spans G hc haL hb (fun z => h1 ((xk_Er_Sp G H hc ha haL hb).mp z)) (fun z => h0 fun y => z ((xk_Er_Sp G H hc ha haL hb).mpr y))
theorem xs_link {post : SX → Prop} {w : Int32} {A : Nat → Prop} {B : Nat → Nat → Prop} (G : cp_G g L a_right a_size a_text) (hn : n < 5) (hc : c < 15) (ha : a ≤ L) (hb : b ≤ L) (hA : cp_St f_endless A) (hB : ∀ x, x < 5 → cp_St (a_edges x) (B x))
    (h : ∀ fe ae, cp_St fe (fun x => A x ∨ (x = n ∧ 10 ≤ c ∧ w = 0 ∧ a_trees (55 * a + 11 * (c - 10) + b) = -3)) → (∀ x, x < 5 → cp_St (ae x) (fun y => B x y ∨ (x = n ∧ 10 ≤ c ∧ w ≠ 0 ∧ y = c - 10))) → post (nI (gm_P g), nI L, f_good, f_empty, f_used, f_known, f_firstRow, f_firstFar, f_columns, fe, f_derived, a_left, a_right, a_size, a_text, a_ends, a_trees, a_heights, a_chosen, a_nodes, a_values, a_far, a_op, a_constant, a_wanted, a_sum, ae)) : wpX_link post (nI (gm_P g), nI L, f_good, f_empty, f_used, f_known, f_firstRow, f_firstFar, f_columns, f_endless, f_derived, a_left, a_right, a_size, a_text, a_ends, a_trees, a_heights, a_chosen, a_nodes, a_values, a_far, a_op, a_constant, a_wanted, a_sum, a_edges) (nI n) (cp_Sy c) (nI a) (nI b) w := by
  have hL := cp_G_L G
  have kA : (∀ x, ¬ (x = n ∧ 10 ≤ c ∧ w = 0 ∧ a_trees (55 * a + 11 * (c - 10) + b) = -3)) → cp_St f_endless (fun x => A x ∨ (x = n ∧ 10 ≤ c ∧ w = 0 ∧ a_trees (55 * a + 11 * (c - 10) + b) = -3)) := fun z => cp_St_i hA fun x _ => ⟨Or.inl, fun q => q.resolve_right (z x)⟩
  have kB : (∀ x y, ¬ (x = n ∧ 10 ≤ c ∧ w ≠ 0 ∧ y = c - 10)) → ∀ x, x < 5 → cp_St (a_edges x) (fun y => B x y ∨ (x = n ∧ 10 ≤ c ∧ w ≠ 0 ∧ y = c - 10)) := fun z x hx => cp_St_i (hB x hx) fun y _ => ⟨Or.inl, fun q => q.resolve_right (z x y)⟩
  unfold wpX_link
  refine br_i (cp_Sy_ge10 hc) (fun h10 => br_c (fun hw => ?_) (fun hw => ?_)) (fun h10 => h _ _ (kA fun x q => h10 q.2.1) (kB fun x y q => h10 q.2.1))
  · rw [ix_55s h10, nI_clamp (by omega)]
    refine ⟨vp_in_nI (by omega) (by omega), br_c (fun e => nm_e (h _ _ (cp_St_i (cp_St_or hA (cp_St_1 (n := n) (by omega))) fun x _ => ⟨fun q => q.imp id fun q => ⟨q, h10, hw, e⟩, fun q => q.imp id fun q => q.1⟩) (kB fun x y q => q.2.2.1 hw))) (fun e => h _ _ (kA fun x q => e q.2.2.2) (kB fun x y q => q.2.2.1 hw))⟩
  · rw [nI_clamp (show n < 2 ^ 31 by omega), ix_S h10]
    refine ⟨vp_in_nI (by omega) (by omega), vp_in_nI (by omega) (by omega), nm_e (h _ _ (kA fun x q => hw q.2.2.1) fun x hx => ?_)⟩
    by_cases e : x = n
    · subst e
      rw [pk_us]
      exact cp_St_i (cp_St_or (hB x hx) (cp_St_1 (n := c - 10) (by omega))) fun y _ => ⟨fun q => q.imp id fun q => ⟨rfl, h10, hw, q⟩, fun q => q.imp id fun q => q.2.2.2⟩
    · rw [pk_un e]
      exact cp_St_i (hB x hx) fun y _ => ⟨Or.inl, fun q => q.resolve_right fun q => e q.1⟩
/-- divide in general -/
def xk_cong (g : gm_G) (i j : Nat) (I : (Nat → Nat → Nat → Prop) → Int32 → (Nat → Int32) → (Nat → Int64) → (Nat → Int32) → Prop) : Prop :=
  ∀ S S' fe ah az ae, (∀ p u v, p < gm_P g → gm_Dv g (gm_D g) p i u v j → (S p u v ↔ S' p u v)) → I S fe ah az ae → I S' fe ah az ae
theorem xs_divide_35 {post : SX → Prop} {J : Int32 → Int32 → Int32 → Int32 → Int32 → Int32 → Int32 → Int32 → Int32 → Int32 → Int32 → Int32 → (Nat → Int32) → (Nat → Int32) → (Nat → Int32) → (Nat → Int32) → (Nat → Int32) → (Nat → Int32) → (Nat → Int32) → (Nat → Int32) → (Nat → Int32) → (Nat → Int64) → (Nat → Int32) → (Nat → Int32) → (Nat → Int32) → (Nat → Int32) → (Nat → Int64) → (Nat → Int32) → Prop} {fl : Int32} {I : (Nat → Nat → Nat → Prop) → Int32 → (Nat → Int32) → (Nat → Int64) → (Nat → Int32) → Prop}
    (G : cp_G g L a_right a_size a_text) (H : xk_Er g L a_ends i) (hjL : j ≤ L) (hp : p < gm_P g) (hcong : xk_cong g i j I)
    (hR : ∀ k fe ah az ae (post' : SX → Prop), i ≤ k → k ≤ j → gm_Sp g (gm_D g) (gm_s g (3 * p)) i k → I (xk_Dn p k k) fe ah az ae → (∀ fe' ah' az' ae', I (xk_Dn p k (j + 1)) fe' ah' az' ae' → post' (nI (gm_P g), nI L, f_good, f_empty, f_used, f_known, f_firstRow, f_firstFar, f_columns, fe', f_derived, a_left, a_right, a_size, a_text, a_ends, a_trees, ah', a_chosen, a_nodes, a_values, a_far, a_op, a_constant, a_wanted, az', ae')) → wpX_divideRest post' (nI (gm_P g), nI L, f_good, f_empty, f_used, f_known, f_firstRow, f_firstFar, f_columns, fe, f_derived, a_left, a_right, a_size, a_text, a_ends, a_trees, ah, a_chosen, a_nodes, a_values, a_far, a_op, a_constant, a_wanted, az, ae) (nI p) (nI i) (nI k) (nI j) fl)
    (hJ : ∀ fe ah az ae, I (xk_Dn (p + 1) i i) fe ah az ae → J (nI (p + 1)) (nI (gm_P g)) (nI L) f_good f_empty f_used f_known f_firstRow f_firstFar f_columns fe f_derived a_left a_right a_size a_text a_ends a_trees ah a_chosen a_nodes a_values a_far a_op a_constant a_wanted az ae) :
    ∀ d k fe ah az ae, k + d = j + 1 → i ≤ k → I (xk_Dn p k k) fe ah az ae → wX_divide_35 post J (nI i) (nI j) fl (nI p) (d + 1) (nI k) (nI (gm_P g)) (nI L) f_good f_empty f_used f_known f_firstRow f_firstFar f_columns fe f_derived a_left a_right a_size a_text a_ends a_trees ah a_chosen a_nodes a_values a_far a_op a_constant a_wanted az ae := by
  have h12 := cp_G_P G
  have hL := cp_G_L G
  intro d
  induction d with
  | zero =>
    intro k fe ah az ae hk hik hI
    rw [wX_divide_35]
    refine pk_lt j k (fun _ => nm_r (nI_1 _) (hJ fe ah az ae (hcong _ _ fe ah az ae (fun p' u v _ hd => ?_) hI))) (fun h => absurd h (by omega))
    have h1 := hd.1; have h2 := hd.2.1; have h3 := hd.2.2.1
    unfold xk_Dn; omega
  | succ d ih =>
    intro k fe ah az ae hk hik hI
    have hc : gm_s g (3 * p) < 15 := gm_ok_15 (cp_G_ok G) hp (show 0 < 3 by omega)
    rw [wX_divide_35]
    refine pk_lt j k (fun h => absurd h (by omega)) (fun _ => ?_)
    rw [ix_3, nI_clamp (show 3 * p < 2 ^ 31 by omega), cp_G_r0 G hp]
    refine ⟨vp_in_nI (by omega) (by omega), xs_spansD G H hc (Nat.le_refl _) (by omega) (by omega) (fun hs => br_f (by decide) (hR k fe ah az ae _ hik (by omega) hs hI fun fe' ah' az' ae' hI' => nm_r (nI_1 _) (ih (k + 1) fe' ah' az' ae' (by omega) (by omega) (hcong _ _ fe' ah' az' ae' (fun p' u v _ hd => ?_) hI')))) (fun hs => br_t rfl (nm_r (nI_1 _) (ih (k + 1) fe ah az ae (by omega) (by omega) (hcong _ _ fe ah az ae (fun p' u v _ hd => ?_) hI))))⟩
    · have h1 := hd.1; have h2 := hd.2.1; have h3 := hd.2.2.1
      unfold xk_Dn; omega
    · have h1 := hd.1; have h2 := hd.2.1; have h3 := hd.2.2.1
      have hne : p' = p → u ≠ k := fun e1 e2 => hs (by subst e1; subst e2; exact hd.2.2.2.1)
      unfold xk_Dn; omega
theorem xs_divide_3 {post : SX → Prop} {fl : Int32} {I : (Nat → Nat → Nat → Prop) → Int32 → (Nat → Int32) → (Nat → Int64) → (Nat → Int32) → Prop}
    (G : cp_G g L a_right a_size a_text) (hl : xk_L g a_left) (H : xk_Er g L a_ends i) (hij : i ≤ j) (hjL : j ≤ L) (hder : cp_St f_derived (fun n => n < 5 ∧ gm_D g n i j)) (hcong : xk_cong g i j I)
    (hR : ∀ p k fe ah az ae (post' : SX → Prop), p < gm_P g → i ≤ k → k ≤ j → gm_Sp g (gm_D g) (gm_s g (3 * p)) i k → I (xk_Dn p k k) fe ah az ae → (∀ fe' ah' az' ae', I (xk_Dn p k (j + 1)) fe' ah' az' ae' → post' (nI (gm_P g), nI L, f_good, f_empty, f_used, f_known, f_firstRow, f_firstFar, f_columns, fe', f_derived, a_left, a_right, a_size, a_text, a_ends, a_trees, ah', a_chosen, a_nodes, a_values, a_far, a_op, a_constant, a_wanted, az', ae')) → wpX_divideRest post' (nI (gm_P g), nI L, f_good, f_empty, f_used, f_known, f_firstRow, f_firstFar, f_columns, fe, f_derived, a_left, a_right, a_size, a_text, a_ends, a_trees, ah, a_chosen, a_nodes, a_values, a_far, a_op, a_constant, a_wanted, az, ae) (nI p) (nI i) (nI k) (nI j) fl)
    (hE : ∀ fe ah az ae, I xk_all fe ah az ae → post (nI (gm_P g), nI L, f_good, f_empty, f_used, f_known, f_firstRow, f_firstFar, f_columns, fe, f_derived, a_left, a_right, a_size, a_text, a_ends, a_trees, ah, a_chosen, a_nodes, a_values, a_far, a_op, a_constant, a_wanted, az, ae)) :
    ∀ d p fe ah az ae, p + d = gm_P g → I (xk_Dn p i i) fe ah az ae → wX_divide_3 post (nI i) (nI j) fl (d + 1) (nI p) (nI (gm_P g)) (nI L) f_good f_empty f_used f_known f_firstRow f_firstFar f_columns fe f_derived a_left a_right a_size a_text a_ends a_trees ah a_chosen a_nodes a_values a_far a_op a_constant a_wanted az ae := by
  have h12 := cp_G_P G
  have hL := cp_G_L G
  intro d
  induction d with
  | zero =>
    intro p fe ah az ae hp hI
    rw [wX_divide_3]
    refine pk_le (gm_P g) p (fun _ => hE fe ah az ae (hcong _ _ fe ah az ae (fun p' u v hp' hd => ?_) hI)) (fun h => absurd h (by omega))
    unfold xk_Dn xk_all
    exact ⟨fun _ => trivial, fun _ => Or.inl (by omega)⟩
  | succ d ih =>
    intro p fe ah az ae hp hI
    have hp' : p < gm_P g := by omega
    have hl5 := gm_ok_l (cp_G_ok G) hp'
    rw [wX_divide_3]
    refine pk_le (gm_P g) p (fun h => absurd h (by omega)) (fun _ => ?_)
    rw [nI_clamp (show p < 2 ^ 31 by omega), hl p hp']
    refine ⟨vp_in_nI (by omega) (by omega), br_bit (by omega) (fun hn => nm_r (nI_1 _) (ih (p + 1) fe ah az ae (by omega) (hcong _ _ fe ah az ae (fun p' u v hp' hd => ?_) hI))) (fun _ => ⟨j + 1 - i + 1, xs_divide_35 G H hjL hp' hcong (fun k fe ah az ae post' => hR p k fe ah az ae post' hp') (fun fe' ah' az' ae' hI' => ih (p + 1) fe' ah' az' ae' (by omega) hI') (j + 1 - i) i fe ah az ae (by omega) (Nat.le_refl _) hI⟩)⟩
    have h1 := hd.1; have h2 := hd.2.1; have h3 := hd.2.2.1
    have hne : p' ≠ p := fun e => hn ((hder _ (by omega)).mpr ⟨hl5, by subst e; exact gm_D_mk hp' hd⟩)
    unfold xk_Dn; omega
theorem xs_divide {post : SX → Prop} {fl : Int32} {I : (Nat → Nat → Nat → Prop) → Int32 → (Nat → Int32) → (Nat → Int64) → (Nat → Int32) → Prop}
    (G : cp_G g L a_right a_size a_text) (hl : xk_L g a_left) (H : xk_Er g L a_ends i) (hij : i ≤ j) (hjL : j ≤ L) (hder : cp_St f_derived (fun n => n < 5 ∧ gm_D g n i j)) (hcong : xk_cong g i j I)
    (hR : ∀ p k fe ah az ae (post' : SX → Prop), p < gm_P g → i ≤ k → k ≤ j → gm_Sp g (gm_D g) (gm_s g (3 * p)) i k → I (xk_Dn p k k) fe ah az ae → (∀ fe' ah' az' ae', I (xk_Dn p k (j + 1)) fe' ah' az' ae' → post' (nI (gm_P g), nI L, f_good, f_empty, f_used, f_known, f_firstRow, f_firstFar, f_columns, fe', f_derived, a_left, a_right, a_size, a_text, a_ends, a_trees, ah', a_chosen, a_nodes, a_values, a_far, a_op, a_constant, a_wanted, az', ae')) → wpX_divideRest post' (nI (gm_P g), nI L, f_good, f_empty, f_used, f_known, f_firstRow, f_firstFar, f_columns, fe, f_derived, a_left, a_right, a_size, a_text, a_ends, a_trees, ah, a_chosen, a_nodes, a_values, a_far, a_op, a_constant, a_wanted, az, ae) (nI p) (nI i) (nI k) (nI j) fl)
    (h0 : I (fun _ _ _ => False) f_endless a_heights a_sum a_edges)
    (hE : ∀ fe ah az ae, I xk_all fe ah az ae → post (nI (gm_P g), nI L, f_good, f_empty, f_used, f_known, f_firstRow, f_firstFar, f_columns, fe, f_derived, a_left, a_right, a_size, a_text, a_ends, a_trees, ah, a_chosen, a_nodes, a_values, a_far, a_op, a_constant, a_wanted, az, ae)) : wpX_divide post (nI (gm_P g), nI L, f_good, f_empty, f_used, f_known, f_firstRow, f_firstFar, f_columns, f_endless, f_derived, a_left, a_right, a_size, a_text, a_ends, a_trees, a_heights, a_chosen, a_nodes, a_values, a_far, a_op, a_constant, a_wanted, a_sum, a_edges) (nI i) (nI j) fl := by
  unfold wpX_divide
  refine ⟨gm_P g + 1, xs_divide_3 G hl H hij hjL hder hcong hR hE (gm_P g) 0 f_endless a_heights a_sum a_edges (by omega) (hcong _ _ _ _ _ _ (fun p' u v hp' hd => ?_) h0)⟩
  have h1 := hd.1; have h2 := hd.2.1; have h3 := hd.2.2.1
  unfold xk_Dn
  constructor
  · exact fun z => z.elim
  · intro z; omega
/-- the first pass: edges, and endless parts -/
def xk_I1 (g : gm_G) (i j : Nat) (S : Nat → Nat → Nat → Prop) (fe : Int32) (ae : Nat → Int32) : Prop := cp_St fe (xk_Ba g S i j) ∧ ∀ n, n < 5 → cp_St (ae n) (xk_Ed g S i j n)
theorem xk_I1_cong {S S' : Nat → Nat → Nat → Prop} {fe : Int32} {ae : Nat → Int32} (hS : ∀ p u v, p < gm_P g → gm_Dv g (gm_D g) p i u v j → (S p u v ↔ S' p u v)) (h : xk_I1 g i j S fe ae) : xk_I1 g i j S' fe ae := by
  refine ⟨cp_St_i h.1 fun n _ => ⟨?_, ?_⟩, fun n hn => cp_St_i (h.2 n hn) fun m _ => ⟨?_, ?_⟩⟩
  · rintro ⟨p, u, v, h1, h2, h3, h4, h5⟩
    exact ⟨p, u, v, (hS p u v h2 h4).mp h1, h2, h3, h4, h5⟩
  · rintro ⟨p, u, v, h1, h2, h3, h4, h5⟩
    exact ⟨p, u, v, (hS p u v h2 h4).mpr h1, h2, h3, h4, h5⟩
  · rintro ⟨p, u, v, h1, h2, h3, h4, h5⟩
    exact ⟨p, u, v, (hS p u v h2 h4).mp h1, h2, h3, h4, h5⟩
  · rintro ⟨p, u, v, h1, h2, h3, h4, h5⟩
    exact ⟨p, u, v, (hS p u v h2 h4).mpr h1, h2, h3, h4, h5⟩
theorem xs_dRest1_3 {post : SX → Prop} (G : cp_G g L a_right a_size a_text) (hl : xk_L g a_left) (H : xk_Er g L a_ends i) (hT : xk_Sub i j (xk_Tv g a_trees)) (hjL : j ≤ L) (hp : p < gm_P g) (hik : i ≤ k) (hkj : k ≤ j) (hs : gm_Sp g (gm_D g) (gm_s g (3 * p)) i k)
    (hE : ∀ fe ae, xk_I1 g i j (xk_Dn p k (j + 1)) fe ae → post (nI (gm_P g), nI L, f_good, f_empty, f_used, f_known, f_firstRow, f_firstFar, f_columns, fe, f_derived, a_left, a_right, a_size, a_text, a_ends, a_trees, a_heights, a_chosen, a_nodes, a_values, a_far, a_op, a_constant, a_wanted, a_sum, ae)) :
    ∀ d m fe ae, m + d = j + 1 → k ≤ m → xk_I1 g i j (xk_Dn p k m) fe ae → wX_divideRest_3 post (nI p) (nI i) (nI k) (nI j) 1 (d + 1) (nI m) (nI (gm_P g)) (nI L) f_good f_empty f_used f_known f_firstRow f_firstFar f_columns fe f_derived a_left a_right a_size a_text a_ends a_trees a_heights a_chosen a_nodes a_values a_far a_op a_constant a_wanted a_sum ae := by
  have h12 := cp_G_P G
  have hL := cp_G_L G
  have ok := cp_G_ok G
  have c0 : gm_s g (3 * p) < 15 := gm_ok_15 ok hp (show 0 < 3 by omega)
  have c1 := gm_ok_15 ok hp (show 1 < 3 by omega)
  have c2 := gm_ok_15 ok hp (show 2 < 3 by omega)
  have hl5 := gm_ok_l ok hp
  have tr : ∀ c a b, 10 ≤ c → c < 15 → i ≤ a → a ≤ b → b ≤ j → (i < a ∨ b < j) → (a_trees (55 * a + 11 * (c - 10) + b) = -3 ↔ ¬ gm_F g (c - 10) a b) := by
    intro c a b h10 h15 h1 h2 h3 h4
    have t := hT (c - 10) a b (by omega) h1 h2 h3 h4
    refine ⟨fun e hf => ?_, fun hf => t.2 hf⟩
    rw [t.1 hf] at e
    exact cp_nI_ne3 (by have := gm_M_le (g := g) (n := c - 10) (i := a) (j := b); omega) e
  intro d
  induction d with
  | zero =>
    intro m fe ae hm hkm hI
    rw [wX_divideRest_3]
    exact pk_lt j m (fun _ => hE fe ae (by rw [show m = j + 1 by omega] at hI; exact hI)) (fun h => absurd h (by omega))
  | succ d ih =>
    intro m fe ae hm hkm hI
    have skip : ¬ (gm_Sp g (gm_D g) (gm_s g (3 * p + 1)) k m ∧ gm_Sp g (gm_D g) (gm_s g (3 * p + 2)) m j) → xk_I1 g i j (xk_Dn p k (m + 1)) fe ae := fun hn => xk_I1_cong (fun p' u v _ hd => by
      have hne : p' = p → u = k → v ≠ m := fun e1 e2 e3 => hn (by subst e1; subst e2; subst e3; exact ⟨hd.2.2.2.2.1, hd.2.2.2.2.2⟩)
      unfold xk_Dn; omega) hI
    rw [wX_divideRest_3]
    refine pk_lt j m (fun h => absurd h (by omega)) (fun _ => ?_)
    rw [ix_31, ix_32, ix_3, nI_clamp (show 3 * p + 1 < 2 ^ 31 by omega), nI_clamp (show 3 * p + 2 < 2 ^ 31 by omega), nI_clamp (show 3 * p < 2 ^ 31 by omega), nI_clamp (show p < 2 ^ 31 by omega), cp_G_rt G hp (show 1 < 3 by omega), cp_G_rt G hp (show 2 < 3 by omega), cp_G_r0 G hp, hl p hp]
    refine ⟨vp_in_nI (by omega) (by omega), xs_spansD G H c1 hik (by omega) (by omega) (fun s1 => br_f (by decide) ⟨vp_in_nI (by omega) (by omega), xs_spansD G H c2 (by omega) (by omega) (by omega) (fun s2 => br_f (by decide) (br_f (by decide) ⟨vp_in_nI (by omega) (by omega), vp_in_nI (by omega) (by omega), ?_⟩)) (fun s2 => br_t rfl (nm_r (nI_1 _) (ih (m + 1) fe ae (by omega) (by omega) (skip fun z => s2 z.2))))⟩) (fun s1 => br_t rfl (nm_r (nI_1 _) (ih (m + 1) fe ae (by omega) (by omega) (skip fun z => s1 z.1))))⟩
    have hd : gm_Dv g (gm_D g) p i k m j := ⟨hik, hkm, by omega, hs, s1, s2⟩
    have last : ∀ fe' ae', cp_St fe' (fun x => (((xk_Ba g (xk_Dn p k m) i j x ∨ (x = gm_l g p ∧ 10 ≤ gm_s g (3 * p) ∧ k ≠ j ∧ a_trees (55 * i + 11 * (gm_s g (3 * p) - 10) + k) = -3)) ∨ (x = gm_l g p ∧ 10 ≤ gm_s g (3 * p + 1) ∧ ¬ (k = i ∧ m = j) ∧ a_trees (55 * k + 11 * (gm_s g (3 * p + 1) - 10) + m) = -3)) ∨ (x = gm_l g p ∧ 10 ≤ gm_s g (3 * p + 2) ∧ m ≠ i ∧ a_trees (55 * m + 11 * (gm_s g (3 * p + 2) - 10) + j) = -3))) →
        (∀ x, x < 5 → cp_St (ae' x) (fun y => (((xk_Ed g (xk_Dn p k m) i j x y ∨ (x = gm_l g p ∧ 10 ≤ gm_s g (3 * p) ∧ k = j ∧ y = gm_s g (3 * p) - 10)) ∨ (x = gm_l g p ∧ 10 ≤ gm_s g (3 * p + 1) ∧ (k = i ∧ m = j) ∧ y = gm_s g (3 * p + 1) - 10)) ∨ (x = gm_l g p ∧ 10 ≤ gm_s g (3 * p + 2) ∧ m = i ∧ y = gm_s g (3 * p + 2) - 10)))) → wX_divideRest_3 post (nI p) (nI i) (nI k) (nI j) 1 (d + 1) (nI (m + 1)) (nI (gm_P g)) (nI L) f_good f_empty f_used f_known f_firstRow f_firstFar f_columns fe' f_derived a_left a_right a_size a_text a_ends a_trees a_heights a_chosen a_nodes a_values a_far a_op a_constant a_wanted a_sum ae' := by
      intro fe' ae' h1 h2
      refine ih (m + 1) fe' ae' (by omega) (by omega) ⟨cp_St_i h1 fun x _ => ⟨?_, ?_⟩, fun n hn => cp_St_i (h2 n hn) fun y _ => ⟨?_, ?_⟩⟩
      · have me : ∀ {x}, x = gm_l g p → xk_Bd g p i k m j → xk_Ba g (xk_Dn p k (m + 1)) i j x := fun ex hb => ⟨p, k, m, by unfold xk_Dn; omega, hp, ex.symm, hd, hb⟩
        rintro (((⟨p', u, v, a1, a2, a3, a4, a5⟩ | ⟨a1, a2, a3, a4⟩) | ⟨a1, a2, a3, a4⟩) | ⟨a1, a2, a3, a4⟩)
        · exact ⟨p', u, v, by unfold xk_Dn at a1 ⊢; omega, a2, a3, a4, a5⟩
        · exact me a1 (Or.inl ⟨a2, a3, (tr _ _ _ a2 c0 (by omega) (by omega) (by omega) (by omega)).mp a4⟩)
        · exact me a1 (Or.inr (Or.inl ⟨a2, a3, (tr _ _ _ a2 c1 (by omega) (by omega) (by omega) (by omega)).mp a4⟩))
        · exact me a1 (Or.inr (Or.inr ⟨a2, a3, (tr _ _ _ a2 c2 (by omega) (by omega) (by omega) (by omega)).mp a4⟩))
      · rintro ⟨p', u, v, a1, a2, a3, a4, a5⟩
        by_cases e : p' = p ∧ u = k ∧ v = m
        · obtain ⟨rfl, rfl, rfl⟩ := e
          rcases a5 with ⟨b1, b2, b3⟩ | ⟨b1, b2, b3⟩ | ⟨b1, b2, b3⟩
          · exact Or.inl (Or.inl (Or.inr ⟨a3.symm, b1, b2, (tr _ _ _ b1 c0 (by omega) (by omega) (by omega) (by omega)).mpr b3⟩))
          · exact Or.inl (Or.inr ⟨a3.symm, b1, b2, (tr _ _ _ b1 c1 (by omega) (by omega) (by omega) (by omega)).mpr b3⟩)
          · exact Or.inr ⟨a3.symm, b1, b2, (tr _ _ _ b1 c2 (by omega) (by omega) (by omega) (by omega)).mpr b3⟩
        · exact Or.inl (Or.inl (Or.inl ⟨p', u, v, by unfold xk_Dn at a1 ⊢; omega, a2, a3, a4, a5⟩))
      · have me : ∀ {y}, n = gm_l g p → xk_Wh g p i k m j y → xk_Ed g (xk_Dn p k (m + 1)) i j n y := fun ex hb => ⟨p, k, m, by unfold xk_Dn; omega, hp, ex.symm, hd, hb⟩
        rintro (((⟨p', u, v, a1, a2, a3, a4, a5⟩ | ⟨a1, a2, a3, a4⟩) | ⟨a1, a2, a3, a4⟩) | ⟨a1, a2, a3, a4⟩)
        · exact ⟨p', u, v, by unfold xk_Dn at a1 ⊢; omega, a2, a3, a4, a5⟩
        · exact me a1 (Or.inl ⟨by omega, a3⟩)
        · exact me a1 (Or.inr (Or.inl ⟨by omega, a3⟩))
        · exact me a1 (Or.inr (Or.inr ⟨by omega, a3⟩))
      · rintro ⟨p', u, v, a1, a2, a3, a4, a5⟩
        by_cases e : p' = p ∧ u = k ∧ v = m
        · obtain ⟨rfl, rfl, rfl⟩ := e
          rcases a5 with ⟨b1, b2⟩ | ⟨b1, b2⟩ | ⟨b1, b2⟩
          · exact Or.inl (Or.inl (Or.inr ⟨a3.symm, by omega, b2, by omega⟩))
          · exact Or.inl (Or.inr ⟨a3.symm, by omega, b2, by omega⟩)
          · exact Or.inr ⟨a3.symm, by omega, b2, by omega⟩
        · exact Or.inl (Or.inl (Or.inl ⟨p', u, v, by unfold xk_Dn at a1 ⊢; omega, a2, a3, a4, a5⟩))
    have t162 : ∀ fe' ae' w, (w = 0 ↔ m ≠ i) → cp_St fe' (fun x => ((xk_Ba g (xk_Dn p k m) i j x ∨ (x = gm_l g p ∧ 10 ≤ gm_s g (3 * p) ∧ k ≠ j ∧ a_trees (55 * i + 11 * (gm_s g (3 * p) - 10) + k) = -3)) ∨ (x = gm_l g p ∧ 10 ≤ gm_s g (3 * p + 1) ∧ ¬ (k = i ∧ m = j) ∧ a_trees (55 * k + 11 * (gm_s g (3 * p + 1) - 10) + m) = -3))) →
        (∀ x, x < 5 → cp_St (ae' x) (fun y => ((xk_Ed g (xk_Dn p k m) i j x y ∨ (x = gm_l g p ∧ 10 ≤ gm_s g (3 * p) ∧ k = j ∧ y = gm_s g (3 * p) - 10)) ∨ (x = gm_l g p ∧ 10 ≤ gm_s g (3 * p + 1) ∧ (k = i ∧ m = j) ∧ y = gm_s g (3 * p + 1) - 10)))) →
        wX_divideRest_162 post (wX_divideRest_3 post (nI p) (nI i) (nI k) (nI j) 1 (d + 1)) (nI p) (nI i) (nI k) (nI j) 1 (nI m) w (nI j) (nI m) (cp_Sy (gm_s g (3 * p + 2))) (nI (gm_l g p)) (nI (gm_P g)) (nI L) f_good f_empty f_used f_known f_firstRow f_firstFar f_columns fe' f_derived a_left a_right a_size a_text a_ends a_trees a_heights a_chosen a_nodes a_values a_far a_op a_constant a_wanted a_sum ae' := by
      intro fe' ae' w hw h1 h2
      unfold wX_divideRest_162
      refine xs_link G hl5 c2 (by omega) (by omega) h1 h2 fun fe2 ae2 k1 k2 => nm_r (nI_1 _) (last fe2 ae2 (cp_St_i k1 fun x _ => ?_) fun x hx => cp_St_i (k2 x hx) fun y _ => ?_)
      · rw [hw]
      · rw [show (w ≠ 0 ↔ m = i) from ⟨fun z => Classical.byContradiction fun y => z (hw.mpr y), fun z y => hw.mp y z⟩]
    have t127 : ∀ fe' ae' w, (w = 0 ↔ ¬ (k = i ∧ m = j)) → cp_St fe' (fun x => (xk_Ba g (xk_Dn p k m) i j x ∨ (x = gm_l g p ∧ 10 ≤ gm_s g (3 * p) ∧ k ≠ j ∧ a_trees (55 * i + 11 * (gm_s g (3 * p) - 10) + k) = -3))) →
        (∀ x, x < 5 → cp_St (ae' x) (fun y => (xk_Ed g (xk_Dn p k m) i j x y ∨ (x = gm_l g p ∧ 10 ≤ gm_s g (3 * p) ∧ k = j ∧ y = gm_s g (3 * p) - 10)))) →
        wX_divideRest_127 post (wX_divideRest_3 post (nI p) (nI i) (nI k) (nI j) 1 (d + 1)) (nI p) (nI i) (nI k) (nI j) 1 (nI m) w (nI m) (nI k) (cp_Sy (gm_s g (3 * p + 1))) (nI (gm_l g p)) (nI (gm_P g)) (nI L) f_good f_empty f_used f_known f_firstRow f_firstFar f_columns fe' f_derived a_left a_right a_size a_text a_ends a_trees a_heights a_chosen a_nodes a_values a_far a_op a_constant a_wanted a_sum ae' := by
      intro fe' ae' w hw h1 h2
      unfold wX_divideRest_127
      refine xs_link G hl5 c1 (by omega) (by omega) h1 h2 fun fe2 ae2 k1 k2 => ?_
      have k1' := cp_St_i k1 (B := fun x => ((xk_Ba g (xk_Dn p k m) i j x ∨ (x = gm_l g p ∧ 10 ≤ gm_s g (3 * p) ∧ k ≠ j ∧ a_trees (55 * i + 11 * (gm_s g (3 * p) - 10) + k) = -3)) ∨ (x = gm_l g p ∧ 10 ≤ gm_s g (3 * p + 1) ∧ ¬ (k = i ∧ m = j) ∧ a_trees (55 * k + 11 * (gm_s g (3 * p + 1) - 10) + m) = -3))) fun x _ => by rw [hw]
      have k2' : ∀ x, x < 5 → cp_St (ae2 x) (fun y => ((xk_Ed g (xk_Dn p k m) i j x y ∨ (x = gm_l g p ∧ 10 ≤ gm_s g (3 * p) ∧ k = j ∧ y = gm_s g (3 * p) - 10)) ∨ (x = gm_l g p ∧ 10 ≤ gm_s g (3 * p + 1) ∧ (k = i ∧ m = j) ∧ y = gm_s g (3 * p + 1) - 10))) := fun x hx => cp_St_i (k2 x hx) fun y _ => by
        rw [show (w ≠ 0 ↔ (k = i ∧ m = j)) from ⟨fun z => Classical.byContradiction fun y => z (hw.mpr y), fun z y => hw.mp y z⟩]
      dsimp only
      rw [ix_32, nI_clamp (show 3 * p + 2 < 2 ^ 31 by omega), nI_clamp (show p < 2 ^ 31 by omega), cp_G_rt G hp (show 2 < 3 by omega), hl p hp]
      exact ⟨vp_in_nI (by omega) (by omega), vp_in_nI (by omega) (by omega), pk_eq m i (fun e => t162 fe2 ae2 1 ⟨fun z => absurd z (by decide), fun z => absurd e z⟩ k1' k2') (fun e => t162 fe2 ae2 0 ⟨fun _ => e, fun _ => rfl⟩ k1' k2')⟩
    have t87 : ∀ w, (w = 0 ↔ k ≠ j) → wX_divideRest_87 post (wX_divideRest_3 post (nI p) (nI i) (nI k) (nI j) 1 (d + 1)) (nI p) (nI i) (nI k) (nI j) 1 (nI m) w (nI k) (nI i) (cp_Sy (gm_s g (3 * p))) (nI (gm_l g p)) (nI (gm_P g)) (nI L) f_good f_empty f_used f_known f_firstRow f_firstFar f_columns fe f_derived a_left a_right a_size a_text a_ends a_trees a_heights a_chosen a_nodes a_values a_far a_op a_constant a_wanted a_sum ae := by
      intro w hw
      unfold wX_divideRest_87
      refine xs_link G hl5 c0 (by omega) (by omega) hI.1 hI.2 fun fe2 ae2 k1 k2 => ?_
      have k1' := cp_St_i k1 (B := fun x => (xk_Ba g (xk_Dn p k m) i j x ∨ (x = gm_l g p ∧ 10 ≤ gm_s g (3 * p) ∧ k ≠ j ∧ a_trees (55 * i + 11 * (gm_s g (3 * p) - 10) + k) = -3))) fun x _ => by rw [hw]
      have k2' : ∀ x, x < 5 → cp_St (ae2 x) (fun y => (xk_Ed g (xk_Dn p k m) i j x y ∨ (x = gm_l g p ∧ 10 ≤ gm_s g (3 * p) ∧ k = j ∧ y = gm_s g (3 * p) - 10))) := fun x hx => cp_St_i (k2 x hx) fun y _ => by
        rw [show (w ≠ 0 ↔ k = j) from ⟨fun z => Classical.byContradiction fun y => z (hw.mpr y), fun z y => hw.mp y z⟩]
      dsimp only
      rw [ix_31, nI_clamp (show 3 * p + 1 < 2 ^ 31 by omega), nI_clamp (show p < 2 ^ 31 by omega), cp_G_rt G hp (show 1 < 3 by omega), hl p hp]
      refine ⟨vp_in_nI (by omega) (by omega), vp_in_nI (by omega) (by omega), pk_eq k i (fun e => pk_eq m j (fun e2 => t127 fe2 ae2 1 ⟨fun z => absurd z (by decide), fun z => absurd ⟨e, e2⟩ z⟩ k1' k2') (fun e2 => ?_)) (fun e => ?_)⟩
      · unfold wX_divideRest_126
        exact t127 fe2 ae2 0 ⟨fun _ z => e2 z.2, fun _ => rfl⟩ k1' k2'
      · unfold wX_divideRest_126
        exact t127 fe2 ae2 0 ⟨fun _ z => e z.1, fun _ => rfl⟩ k1' k2'
    exact pk_eq k j (fun e => t87 1 ⟨fun z => absurd z (by decide), fun z => absurd e z⟩) (fun e => t87 0 ⟨fun _ => e, fun _ => rfl⟩)
/-- the whole first pass -/
theorem xs_divide1 {post : SX → Prop} (G : cp_G g L a_right a_size a_text) (hl : xk_L g a_left) (H : xk_Er g L a_ends i) (hT : xk_Sub i j (xk_Tv g a_trees)) (hij : i ≤ j) (hjL : j ≤ L) (hder : cp_St f_derived (fun n => n < 5 ∧ gm_D g n i j))
    (h0 : f_endless = 0) (h0' : ∀ n, n < 5 → a_edges n = 0)
    (hE : ∀ fe ae, xk_I1 g i j xk_all fe ae → post (nI (gm_P g), nI L, f_good, f_empty, f_used, f_known, f_firstRow, f_firstFar, f_columns, fe, f_derived, a_left, a_right, a_size, a_text, a_ends, a_trees, a_heights, a_chosen, a_nodes, a_values, a_far, a_op, a_constant, a_wanted, a_sum, ae)) : wpX_divide post (nI (gm_P g), nI L, f_good, f_empty, f_used, f_known, f_firstRow, f_firstFar, f_columns, f_endless, f_derived, a_left, a_right, a_size, a_text, a_ends, a_trees, a_heights, a_chosen, a_nodes, a_values, a_far, a_op, a_constant, a_wanted, a_sum, a_edges) (nI i) (nI j) 1 := by
  refine xs_divide (I := fun S fe ah az ae => ah = a_heights ∧ az = a_sum ∧ xk_I1 g i j S fe ae) G hl H hij hjL hder (fun S S' fe ah az ae hS hI => ⟨hI.1, hI.2.1, xk_I1_cong hS hI.2.2⟩) (fun p k fe ah az ae post' hp hik hkj hs hI hE' => ?_) ⟨rfl, rfl, ?_, fun n hn => ?_⟩ (fun fe ah az ae hI => ?_)
  · obtain ⟨rfl, rfl, hI⟩ := hI
    unfold wpX_divideRest
    exact ⟨j + 1 - k + 1, xs_dRest1_3 G hl H hT hjL hp hik hkj hs (fun fe' ae' hI' => hE' fe' _ _ ae' ⟨rfl, rfl, hI'⟩) (j + 1 - k) k fe ae (by omega) (Nat.le_refl _) hI⟩
  · rw [h0]; exact cp_St_i cp_St_0 fun n _ => ⟨fun z => z.elim, fun ⟨_, _, _, z, _⟩ => z⟩
  · rw [h0' n hn]; exact cp_St_i cp_St_0 fun n _ => ⟨fun z => z.elim, fun ⟨_, _, _, z, _⟩ => z⟩
  · obtain ⟨rfl, rfl, hI⟩ := hI
    exact hE fe ae hI
end
end
section
/-! X: findEndless -/
theorem xk_TC_5 {g : gm_G} (ok : gm_ok g) {S : Nat → Nat → Nat → Prop} {i j n m : Nat} (h : xk_TC (xk_Ed g S i j) n m) : n < 5 ∧ m < 5 := by
  obtain ⟨k, hk⟩ := h
  have key : ∀ k m, xk_R (xk_Ed g S i j) k n m → n < 5 ∧ m < 5 := by
    intro k
    induction k with
    | zero => intro m h; exact xk_Ed_5 ok h
    | succ k ih =>
      rintro m (h | ⟨x, _, h1, h2⟩)
      · exact ih m h
      · exact ⟨(ih x h1).1, (xk_Ed_5 ok h2).2⟩
  exact key k m hk
section
variable {g : gm_G} {L : Nat} {f_good f_empty f_used f_known f_firstRow f_firstFar f_columns f_endless f_derived : Int32} {a_left a_right a_size a_text a_ends a_trees a_heights a_chosen a_nodes a_far a_op a_constant a_wanted a_edges : Nat → Int32} {a_values a_sum : Nat → Int64} {c i j p n k m a b i0 : Nat}
theorem xs_reached {post : Int32 → Prop} {st : Int32} (h : ∀ r, cp_St r (fun m => ∃ x, x < 5 ∧ bt st x = true ∧ bt (a_edges x) m = true) → post r) : wpX_reached post (nI (gm_P g), nI L, f_good, f_empty, f_used, f_known, f_firstRow, f_firstFar, f_columns, f_endless, f_derived, a_left, a_right, a_size, a_text, a_ends, a_trees, a_heights, a_chosen, a_nodes, a_values, a_far, a_op, a_constant, a_wanted, a_sum, a_edges) st := by
  have key : ∀ d k acc, k + d = 5 → cp_St acc (fun m => ∃ x, x < k ∧ bt st x = true ∧ bt (a_edges x) m = true) → wX_reached_4 post st (nI (gm_P g)) (nI L) f_good f_empty f_used f_known f_firstRow f_firstFar f_columns f_endless f_derived a_left a_right a_size a_text a_ends a_trees a_heights a_chosen a_nodes a_values a_far a_op a_constant a_wanted a_sum a_edges (d + 1) acc (nI k) := by
    intro d
    induction d with
    | zero =>
      intro k acc hk ha
      rw [wX_reached_4]
      exact pk_le 5 k (fun _ => h acc (by rw [show k = 5 by omega] at ha; exact ha)) (fun z => absurd z (by omega))
    | succ d ih =>
      intro k acc hk ha
      rw [wX_reached_4]
      refine pk_le 5 k (fun z => absurd z (by omega)) (fun _ => br_bit (by omega) (fun z => nm_r (nI_1 _) (ih (k + 1) acc (by omega) (cp_St_i ha fun m _ => ⟨fun ⟨x, h1, h2⟩ => ⟨x, by omega, h2⟩, fun ⟨x, h1, h2, h3⟩ => ⟨x, ?_, h2, h3⟩⟩))) (fun z => ?_))
      · rcases Nat.lt_or_ge x k with y | y
        · exact y
        · have : x = k := by omega
          subst this; exact absurd h2 z
      · rw [nI_clamp (show k < 2 ^ 31 by omega)]
        refine ⟨vp_in_nI (by omega) (by omega), nm_e (nm_r (nI_1 _) (ih (k + 1) _ (by omega) (cp_St_i (cp_St_or ha (cp_St_b _)) fun m _ => ⟨fun q => ?_, fun ⟨x, h1, h2, h3⟩ => ?_⟩)))⟩
        · rcases q with ⟨x, h1, h2⟩ | q
          · exact ⟨x, by omega, h2⟩
          · exact ⟨k, by omega, z, q⟩
        · rcases Nat.lt_or_ge x k with y | y
          · exact Or.inl ⟨x, y, h2, h3⟩
          · have : x = k := by omega
            subst this; exact Or.inr h3
  unfold wpX_reached
  exact ⟨6, key 5 0 0 rfl (cp_St_i cp_St_0 fun m _ => ⟨fun z => z.elim, fun ⟨x, h1, _⟩ => absurd h1 (by omega)⟩)⟩
theorem xs_fE_79 {post : SX → Prop} (ok : gm_ok g) (hT : ∀ n, n < 5 → cp_St (a_edges n) (xk_TC (xk_Ed g xk_all i j) n)) (h : ∀ fe, cp_St fe (fun n => ¬ gm_F g n i j) → post (nI (gm_P g), nI L, f_good, f_empty, f_used, f_known, f_firstRow, f_firstFar, f_columns, fe, f_derived, a_left, a_right, a_size, a_text, a_ends, a_trees, a_heights, a_chosen, a_nodes, a_values, a_far, a_op, a_constant, a_wanted, a_sum, a_edges)) :
    ∀ d n fe, n + d = 5 → cp_St fe (fun x => xk_E1 g i j x ∨ (x < n ∧ ∃ m, m < 5 ∧ xk_E1 g i j m ∧ xk_TC (xk_Ed g xk_all i j) x m)) → wX_findEndless_79 post (nI (gm_P g)) (nI L) f_good f_empty f_used f_known f_firstRow f_firstFar f_columns f_derived a_left a_right a_size a_text a_ends a_trees a_heights a_chosen a_nodes a_values a_far a_op a_constant a_wanted a_sum a_edges (d + 1) (nI n) fe := by
  intro d
  induction d with
  | zero =>
    intro n fe hn hf
    rw [wX_findEndless_79]
    refine pk_le 5 n (fun _ => h fe (cp_St_i hf fun x _ => ?_)) (fun z => absurd z (by omega))
    rw [← xk_EX_iff ok]
    unfold xk_EX
    constructor
    · rintro (z | ⟨_, z⟩)
      · exact Or.inl z
      · exact Or.inr z
    · rintro (z | ⟨m, h1, h2, h3⟩)
      · exact Or.inl z
      · exact Or.inr ⟨by have := (xk_TC_5 ok h3).1; omega, m, h1, h2, h3⟩
  | succ d ih =>
    intro n fe hn hf
    rw [wX_findEndless_79]
    refine pk_le 5 n (fun z => absurd z (by omega)) (fun _ => ?_)
    rw [nI_clamp (show n < 2 ^ 31 by omega)]
    have hx : ((a_edges n) &&& fe) = 0 ↔ ¬ ∃ m, m < 5 ∧ xk_E1 g i j m ∧ xk_TC (xk_Ed g xk_all i j) n m := by
      rw [cp_St_z (cp_St_and (hT n (by omega)) hf)]
      constructor
      · rintro z ⟨m, h1, h2, h3⟩
        exact z m (by omega) ⟨h3, Or.inl h2⟩
      · rintro z m hm ⟨h1, h2⟩
        have h5 := xk_TC_5 ok h1
        rcases h2 with h2 | ⟨_, y, q1, q2, q3⟩
        · exact z ⟨m, h5.2, h2, h1⟩
        · exact z ⟨y, q1, q2, xk_TC_t h5.2 h1 q3⟩
    refine ⟨vp_in_nI (by omega) (by omega), br_i hx (fun z => nm_r (nI_1 _) (ih (n + 1) fe (by omega) (cp_St_i hf fun x _ => ⟨fun q => q.imp id fun q => ⟨by omega, q.2⟩, fun q => q.imp id fun q => ⟨?_, q.2⟩⟩))) (fun z => nm_e (nm_r (nI_1 _) (ih (n + 1) _ (by omega) (cp_St_i (cp_St_or hf (cp_St_1 (n := n) (by omega))) fun x _ => ⟨fun q => ?_, fun q => ?_⟩))))⟩
    · rcases Nat.lt_or_ge x n with y | y
      · exact y
      · have : x = n := by omega
        subst this; exact absurd q.2 z
    · rcases q with (q | q) | q
      · exact Or.inl q
      · exact Or.inr ⟨by omega, q.2⟩
      · subst q; exact Or.inr ⟨by omega, Classical.not_not.mp z⟩
    · rcases q with q | q
      · exact Or.inl (Or.inl q)
      · rcases Nat.lt_or_ge x n with y | y
        · exact Or.inl (Or.inr ⟨y, q.2⟩)
        · exact Or.inr (by omega)
theorem xs_fE_47 {post : SX → Prop} (ok : gm_ok g) (hT : ∀ n, n < 5 → cp_St (a_edges n) (xk_TC (xk_Ed g xk_all i j) n)) (h : ∀ fe, cp_St fe (fun n => ¬ gm_F g n i j) → post (nI (gm_P g), nI L, f_good, f_empty, f_used, f_known, f_firstRow, f_firstFar, f_columns, fe, f_derived, a_left, a_right, a_size, a_text, a_ends, a_trees, a_heights, a_chosen, a_nodes, a_values, a_far, a_op, a_constant, a_wanted, a_sum, a_edges)) :
    ∀ d n fe, n + d = 5 → cp_St fe (fun x => xk_Ba g xk_all i j x ∨ (x < n ∧ xk_TC (xk_Ed g xk_all i j) x x)) → wX_findEndless_47 post (nI (gm_P g)) (nI L) f_good f_empty f_used f_known f_firstRow f_firstFar f_columns f_derived a_left a_right a_size a_text a_ends a_trees a_heights a_chosen a_nodes a_values a_far a_op a_constant a_wanted a_sum a_edges (d + 1) (nI n) fe := by
  intro d
  induction d with
  | zero =>
    intro n fe hn hf
    rw [wX_findEndless_47]
    refine pk_le 5 n (fun _ => ⟨6, xs_fE_79 ok hT h 5 0 fe rfl (cp_St_i hf fun x _ => ?_)⟩) (fun z => absurd z (by omega))
    unfold xk_E1
    constructor
    · rintro (z | z)
      · exact Or.inl (Or.inl z)
      · exact Or.inl (Or.inr z.2)
    · rintro ((z | z) | z)
      · exact Or.inl z
      · exact Or.inr ⟨by have := (xk_TC_5 ok z).1; omega, z⟩
      · exact absurd z.1 (by omega)
  | succ d ih =>
    intro n fe hn hf
    rw [wX_findEndless_47]
    refine pk_le 5 n (fun z => absurd z (by omega)) (fun _ => ?_)
    rw [nI_clamp (show n < 2 ^ 31 by omega)]
    refine ⟨vp_in_nI (by omega) (by omega), nm_e (nm_r (nI_1 _) (ih (n + 1) _ (by omega) (cp_St_i (cp_St_or hf (cp_St_and (hT n (by omega)) (cp_St_1 (n := n) (by omega)))) fun x _ => ⟨fun q => ?_, fun q => ?_⟩)))⟩
    · rcases q with (q | q) | ⟨q, e⟩
      · exact Or.inl q
      · exact Or.inr ⟨by omega, q.2⟩
      · subst e; exact Or.inr ⟨by omega, q⟩
    · rcases q with q | q
      · exact Or.inl (Or.inl q)
      · rcases Nat.lt_or_ge x n with y | y
        · exact Or.inl (Or.inr ⟨y, q.2⟩)
        · have : x = n := by omega
          subst this; exact Or.inr ⟨q.2, rfl⟩
/-- the closure of the edges -/
def xk_I2 (g : gm_G) (i j r x2 : Nat) (ae : Nat → Int32) : Prop := ∀ n m, n < 5 → m < 32 → (bt (ae n) m = true → xk_TC (xk_Ed g xk_all i j) n m) ∧ (xk_R (xk_Ed g xk_all i j) (if n < x2 then r + 1 else r) n m → bt (ae n) m = true)
theorem xs_fE_9 {post : SX → Prop} {J : Int32 → (Nat → Int32) → (Nat → Int32) → (Nat → Int32) → (Nat → Int32) → (Nat → Int32) → (Nat → Int32) → (Nat → Int32) → (Nat → Int32) → (Nat → Int32) → (Nat → Int64) → (Nat → Int32) → (Nat → Int32) → (Nat → Int32) → (Nat → Int32) → (Nat → Int64) → (Nat → Int32) → Prop} {r : Nat} (ok : gm_ok g) (hJ : ∀ ae, xk_I2 g i j (r + 1) 0 ae → J (nI (r + 1)) a_left a_right a_size a_text a_ends a_trees a_heights a_chosen a_nodes a_values a_far a_op a_constant a_wanted a_sum ae) :
    ∀ d n ae, n + d = 5 → xk_I2 g i j r n ae → wX_findEndless_9 post J (nI r) (nI (gm_P g)) (nI L) f_good f_empty f_used f_known f_firstRow f_firstFar f_columns f_endless f_derived (d + 1) (nI n) a_left a_right a_size a_text a_ends a_trees a_heights a_chosen a_nodes a_values a_far a_op a_constant a_wanted a_sum ae := by
  intro d
  induction d with
  | zero =>
    intro n ae hn hI
    rw [wX_findEndless_9]
    refine pk_le 5 n (fun _ => nm_r (nI_1 _) (hJ ae fun x m hx hm => ⟨(hI x m hx hm).1, fun h => (hI x m hx hm).2 ?_⟩)) (fun z => absurd z (by omega))
    rw [if_pos (show x < n by omega)]
    rw [if_neg (show ¬ x < 0 by omega)] at h
    exact h
  | succ d ih =>
    intro n ae hn hI
    rw [wX_findEndless_9]
    refine pk_le 5 n (fun z => absurd z (by omega)) (fun _ => ?_)
    rw [nI_clamp (show n < 2 ^ 31 by omega)]
    refine ⟨vp_in_nI (by omega) (by omega), vp_in_nI (by omega) (by omega), xs_reached fun q hq => ⟨vp_in_nI (by omega) (by omega), nm_e (nm_r (nI_1 _) (ih (n + 1) _ (by omega) fun x m hx hm => ?_))⟩⟩
    by_cases e : x = n
    · subst e
      rw [pk_us, b_or, Bool.or_eq_true, hq m hm]
      refine ⟨fun h => ?_, fun h => ?_⟩
      · rcases h with h | ⟨y, hy, h1, h2⟩
        · exact (hI x m hx hm).1 h
        · exact xk_TC_t hy ((hI x y hx (by omega)).1 h1) ((hI y m hy hm).1 h2)
      · rw [if_pos (show x < x + 1 by omega)] at h
        rcases h with h | ⟨y, hy, h1, h2⟩
        · refine Or.inl ((hI x m hx hm).2 ?_)
          rw [if_neg (show ¬ x < x by omega)]; exact h
        · refine Or.inr ⟨y, hy, (hI x y hx (by omega)).2 ?_, (hI y m hy hm).2 ?_⟩
          · rw [if_neg (show ¬ x < x by omega)]; exact h1
          · exact xk_R_mono (k := 0) h2 (by omega)
    · rw [pk_un e]
      refine ⟨(hI x m hx hm).1, fun h => (hI x m hx hm).2 ?_⟩
      by_cases y : x < n
      · rw [if_pos y]; rw [if_pos (show x < n + 1 by omega)] at h; exact h
      · rw [if_neg y]; rw [if_neg (show ¬ x < n + 1 by omega)] at h; exact h
theorem xs_fE_2 {post : SX → Prop} (ok : gm_ok g) (hB : cp_St f_endless (xk_Ba g xk_all i j)) (h : ∀ fe ae, cp_St fe (fun n => ¬ gm_F g n i j) → (∀ n, n < 5 → cp_St (ae n) (xk_TC (xk_Ed g xk_all i j) n)) → post (nI (gm_P g), nI L, f_good, f_empty, f_used, f_known, f_firstRow, f_firstFar, f_columns, fe, f_derived, a_left, a_right, a_size, a_text, a_ends, a_trees, a_heights, a_chosen, a_nodes, a_values, a_far, a_op, a_constant, a_wanted, a_sum, ae)) :
    ∀ d r ae, r + d = 5 → xk_I2 g i j r 0 ae → wX_findEndless_2 post (nI (gm_P g)) (nI L) f_good f_empty f_used f_known f_firstRow f_firstFar f_columns f_endless f_derived (d + 1) (nI r) a_left a_right a_size a_text a_ends a_trees a_heights a_chosen a_nodes a_values a_far a_op a_constant a_wanted a_sum ae := by
  intro d
  induction d with
  | zero =>
    intro r ae hr hI
    have hT : ∀ n, n < 5 → cp_St (ae n) (xk_TC (xk_Ed g xk_all i j) n) := fun n hn m hm => ⟨(hI n m hn hm).1, fun z => (hI n m hn hm).2 (by
      rw [if_neg (show ¬ n < 0 by omega), show r = 5 by omega]
      exact xk_R_5 (xk_TC_5 ok z).2 z)⟩
    rw [wX_findEndless_2]
    refine pk_le 5 r (fun _ => ⟨6, xs_fE_47 ok hT (fun fe hf => h fe ae hf hT) 5 0 f_endless rfl (cp_St_i hB fun x _ => ⟨Or.inl, fun z => z.resolve_right fun y => absurd y.1 (by omega)⟩)⟩) (fun z => absurd z (by omega))
  | succ d ih =>
    intro r ae hr hI
    rw [wX_findEndless_2]
    exact pk_le 5 r (fun z => absurd z (by omega)) (fun _ => ⟨6, xs_fE_9 ok (fun ae' hI' => ih (r + 1) ae' (by omega) hI') 5 0 ae rfl hI⟩)
theorem xs_findEndless {post : SX → Prop} (ok : gm_ok g) (hI : xk_I1 g i j xk_all f_endless a_edges) (h : ∀ fe ae, cp_St fe (fun n => ¬ gm_F g n i j) → (∀ n, n < 5 → cp_St (ae n) (xk_TC (xk_Ed g xk_all i j) n)) → post (nI (gm_P g), nI L, f_good, f_empty, f_used, f_known, f_firstRow, f_firstFar, f_columns, fe, f_derived, a_left, a_right, a_size, a_text, a_ends, a_trees, a_heights, a_chosen, a_nodes, a_values, a_far, a_op, a_constant, a_wanted, a_sum, ae)) : wpX_findEndless post (nI (gm_P g), nI L, f_good, f_empty, f_used, f_known, f_firstRow, f_firstFar, f_columns, f_endless, f_derived, a_left, a_right, a_size, a_text, a_ends, a_trees, a_heights, a_chosen, a_nodes, a_values, a_far, a_op, a_constant, a_wanted, a_sum, a_edges) := by
  unfold wpX_findEndless
  refine ⟨6, xs_fE_2 ok hI.1 h 5 0 a_edges rfl fun n m hn hm => ⟨fun z => xk_TC_1 ((hI.2 n hn m hm).mp z), fun z => (hI.2 n hn m hm).mpr ?_⟩⟩
  rw [if_neg (show ¬ n < 0 by omega)] at z
  exact z
theorem xk_ne_iff (ok : gm_ok g) (hT : ∀ n, n < 5 → cp_St (a_edges n) (xk_TC (xk_Ed g xk_all i j) n)) : (((((a_edges 0) ||| (a_edges 1)) ||| (a_edges 2)) ||| (a_edges 3)) ||| (a_edges 4)) = 0 ↔ xk_NE g i j := by
  rw [cp_St_z (cp_St_or (cp_St_or (cp_St_or (cp_St_or (hT 0 (by omega)) (hT 1 (by omega))) (hT 2 (by omega))) (hT 3 (by omega))) (hT 4 (by omega)))]
  constructor
  · intro z n m he
    have h5 := xk_Ed_5 ok he
    have t := xk_TC_1 (E := xk_Ed g xk_all i j) he
    refine z m (by omega) ?_
    rcases (by omega : n = 0 ∨ n = 1 ∨ n = 2 ∨ n = 3 ∨ n = 4) with rfl | rfl | rfl | rfl | rfl
    · exact Or.inl (Or.inl (Or.inl (Or.inl t)))
    · exact Or.inl (Or.inl (Or.inl (Or.inr t)))
    · exact Or.inl (Or.inl (Or.inr t))
    · exact Or.inl (Or.inr t)
    · exact Or.inr t
  · intro z m _ q
    have K : ∀ n, ¬ xk_TC (xk_Ed g xk_all i j) n m := fun n t => by
      rcases xk_TC_f t with y | ⟨x, _, y, _⟩
      · exact z _ _ y
      · exact z _ _ y
    rcases q with (((q | q) | q) | q) | q
    · exact K _ q
    · exact K _ q
    · exact K _ q
    · exact K _ q
    · exact K _ q
end
end
section
/-! pure part 7: one pass of counting over a span -/
theorem sm_add1 {f h : Nat → Nat} {k0 t : Nat} (he : ∀ k, k ≠ k0 → h k = f k) (h0 : h k0 = f k0 + t) : ∀ {N : Nat}, k0 < N → sm_S h N = sm_S f N + t
  | 0, z => by omega
  | N + 1, z => by
    simp only [sm_S]
    rcases Nat.lt_or_ge k0 N with y | y
    · rw [sm_add1 he h0 y, he N (by omega)]; omega
    · have e : k0 = N := by omega
      subst e
      rw [sm_eq (f := h) (h := f) (fun k hk => he k (by omega)), h0]; omega
theorem cp_cap {s x y z : Nat} : min (min 1000000000 s + min (x * y) 1000000000 * z) 1000000000 = min 1000000000 (s + x * y * z) := by
  rcases Nat.eq_zero_or_pos z with h | h
  · subst h; simp only [Nat.mul_zero, Nat.add_zero]; omega
  · rcases Nat.lt_or_ge (x * y) 1000000000 with k | k
    · rw [Nat.min_eq_left (show x * y ≤ 1000000000 by omega)]
      omega
    · rw [Nat.min_eq_right k]
      have a : 1000000000 * 1 ≤ 1000000000 * z := Nat.mul_le_mul_left _ h
      have b : x * y * 1 ≤ x * y * z := Nat.mul_le_mul_left _ h
      omega
section
variable {g : gm_G} {f : Nat → Nat → Nat → Nat} {i j k p u v n m r x : Nat} {S S' : Nat → Nat → Nat → Prop}
noncomputable def xk_SS (g : gm_G) (f : Nat → Nat → Nat → Nat) (i j n : Nat) (S : Nat → Nat → Nat → Prop) : Nat :=
  sm_S (fun p => sm_S (fun u => sm_S (fun v => cp_b (S p u v) * (if gm_l g p = n then gm_tm g f p i u v j else 0)) (j + 1)) (j + 1)) (gm_P g)
theorem xk_SS_0 : xk_SS g f i j n (fun _ _ _ => False) = 0 :=
  sm_zero fun p _ => sm_zero fun u _ => sm_zero fun v _ => by rw [cp_b_f (fun z => z), Nat.zero_mul]
theorem xk_SS_all : min 1000000000 (xk_SS g f i j n xk_all) = gm_Ms g f n i j := by
  unfold xk_SS gm_Ms
  apply congrArg (min 1000000000)
  refine sm_eq fun p _ => ?_
  unfold gm_tp
  by_cases hl : gm_l g p = n
  · simp only [hl, if_true]
    exact sm_eq fun u _ => sm_eq fun v _ => by rw [cp_b_t (show xk_all p u v from trivial), Nat.one_mul]
  · simp only [hl, if_false]
    exact sm_zero fun u _ => sm_zero fun v _ => by rw [Nat.mul_zero]
theorem xk_SS_cong (h : ∀ p u v, p < gm_P g → gm_Dv g (gm_D g) p i u v j → (S p u v ↔ S' p u v)) : xk_SS g f i j n S = xk_SS g f i j n S' := by
  refine sm_eq fun p hp => sm_eq fun u _ => sm_eq fun v _ => ?_
  rcases Classical.em (gm_Dv g (gm_D g) p i u v j) with w | w
  · rw [cp_b_iff (h p u v hp w)]
  · rw [gm_tm_0 w, ite_self, Nat.mul_zero, Nat.mul_zero]
theorem xk_SS_add (hp : p < gm_P g) (hk : k ≤ j) (hm : m ≤ j) : xk_SS g f i j n (xk_Dn p k (m + 1)) = xk_SS g f i j n (xk_Dn p k m) + (if gm_l g p = n then gm_tm g f p i k m j else 0) := by
  refine sm_add1 (k0 := p) (fun q hq => ?_) ?_ hp
  · refine sm_eq fun u _ => sm_eq fun v _ => ?_
    rw [cp_b_iff (show xk_Dn p k (m + 1) q u v ↔ xk_Dn p k m q u v by unfold xk_Dn; omega)]
  · refine sm_add1 (k0 := k) (fun u hu => ?_) ?_ (by omega)
    · refine sm_eq fun v _ => ?_
      rw [cp_b_iff (show xk_Dn p k (m + 1) p u v ↔ xk_Dn p k m p u v by unfold xk_Dn; omega)]
    · refine sm_add1 (k0 := m) (fun v hv => ?_) ?_ (by omega)
      · rw [cp_b_iff (show xk_Dn p k (m + 1) p k v ↔ xk_Dn p k m p k v by unfold xk_Dn; omega)]
      · rw [cp_b_t (show xk_Dn p k (m + 1) p k m by unfold xk_Dn; omega), cp_b_f (show ¬ xk_Dn p k m p k m by unfold xk_Dn; omega)]
        omega
/-- heights of the parts of a division -/
noncomputable def xk_Hp (g : gm_G) (c a b : Nat) : Nat := if 10 ≤ c then gm_Ht g (c - 10) a b else 0
noncomputable def xk_Hd (g : gm_G) (p i u v j : Nat) : Nat := max (max (xk_Hp g (gm_s g (3 * p)) i u) (xk_Hp g (gm_s g (3 * p + 1)) u v)) (xk_Hp g (gm_s g (3 * p + 2)) v j)
def xk_cnt (hv : Nat → Nat) : Nat := sm_S (fun n => if hv n = 0 then 0 else 1) 5
theorem xk_cnt_5 (hv : Nat → Nat) : xk_cnt hv ≤ 5 := by
  have : xk_cnt hv ≤ sm_S (fun _ => 1) 5 := sm_le fun k _ => by
    show (if hv k = 0 then 0 else 1) ≤ 1
    by_cases z : hv k = 0
    · rw [if_pos z]; omega
    · rw [if_neg z]; omega
  rwa [sm_one] at this
def xk_up (hv : Nat → Nat) (n x : Nat) : Nat → Nat := fun m => if m = n then x else hv m
theorem xk_up_s {hv : Nat → Nat} : xk_up hv n x n = x := if_pos rfl
theorem xk_up_n {hv : Nat → Nat} (h : m ≠ n) : xk_up hv n x m = hv m := if_neg h
theorem xk_cnt_up {hv : Nat → Nat} (hn : n < 5) (hx : x ≠ 0) : (hv n = 0 → xk_cnt (xk_up hv n x) = xk_cnt hv + 1) ∧ (hv n ≠ 0 → xk_cnt (xk_up hv n x) = xk_cnt hv) := by
  refine ⟨fun h0 => sm_add1 (k0 := n) (fun k hk => ?_) ?_ hn, fun h0 => sm_eq fun k _ => ?_⟩
  · rw [xk_up_n hk]
  · rw [xk_up_s, if_neg hx, if_pos h0]
  · by_cases e : k = n
    · subst e; rw [xk_up_s, if_neg hx, if_neg h0]
    · rw [xk_up_n e]
def xk_HF (g : gm_G) (i j : Nat) : (Nat → Nat → Prop) := fun n x => x = gm_Ht g n i j
def xk_Hv (g : gm_G) (NE : Prop) (i j r : Nat) (S : Nat → Nat → Nat → Prop) (hv : Nat → Nat) : Prop :=
  (∀ n, n < 5 → hv n = 0 ∨ (0 < gm_Ht g n i j ∧ gm_Ht g n i j ≤ hv n)) ∧ (∀ n, n < 5 → hv n ≤ 5 * (j - i) + xk_cnt hv) ∧
  (∀ n, n < 5 → 0 < gm_Ht g n i j → xk_C NE (fun n => gm_Ht g n i j) r n → hv n = gm_Ht g n i j) ∧
  (∀ p u v, S p u v → p < gm_P g → gm_Dv g (gm_D g) p i u v j → (∀ m, xk_Wh g p i u v j m → xk_C NE (fun n => gm_Ht g n i j) r m) → hv (gm_l g p) ≠ 0 ∧ hv (gm_l g p) ≤ xk_Hd g p i u v j + 1)
theorem xk_Hv_cong {NE : Prop} {hv : Nat → Nat} (hS : ∀ p u v, p < gm_P g → gm_Dv g (gm_D g) p i u v j → (S p u v ↔ S' p u v)) (h : xk_Hv g NE i j r S hv) : xk_Hv g NE i j r S' hv :=
  ⟨h.1, h.2.1, h.2.2.1, fun p u v h1 h2 h3 h4 => h.2.2.2 p u v ((hS p u v h2 h3).mpr h1) h2 h3 h4⟩
/-- what the array of heights holds -/
noncomputable def xk_hN (g : gm_G) (i j : Nat) (hv : Nat → Nat) (n a b : Nat) : Nat := if a = i ∧ b = j then hv n else gm_Ht g n a b
def xk_fl (hN : Nat → Nat → Nat → Nat) (c a b : Nat) : Nat := if 10 ≤ c then hN (c - 10) a b else 0
def xk_df (hN : Nat → Nat → Nat → Nat) (c a b : Nat) : Prop := 10 ≤ c → hN (c - 10) a b ≠ 0
/-- one part: where it is right -/
theorem xk_part {NE : Prop} {hv : Nat → Nat} {c a b : Nat} (ok : gm_ok g) (h : xk_Hv g NE i j r S hv) (hc : c < 15) (ha : i ≤ a) (hab : a ≤ b) (hb : b ≤ j) (hs : gm_Sp g (gm_D g) c a b) :
    (xk_df (xk_hN g i j hv) c a b → gm_Sp g (gm_T g (xk_fl (xk_hN g i j hv) c a b)) c a b ∧ xk_fl (xk_hN g i j hv) c a b ≤ 5 * (j - i) + xk_cnt hv) ∧
    ((10 ≤ c → a = i → b = j → xk_C NE (fun n => gm_Ht g n i j) r (c - 10)) → xk_df (xk_hN g i j hv) c a b ∧ xk_fl (xk_hN g i j hv) c a b = xk_Hp g c a b) := by
  unfold xk_df xk_fl xk_hN xk_Hp
  by_cases h10 : 10 ≤ c
  · simp only [if_pos h10]
    have hD := (gm_Sp_n h10).mp hs
    have hpos := gm_D_iff.mp hD
    by_cases w : a = i ∧ b = j
    · simp only [if_pos w]
      obtain ⟨rfl, rfl⟩ := w
      refine ⟨fun hd => ⟨(gm_Sp_n h10).mpr (gm_T_iff.mpr ?_), h.2.1 _ (by omega)⟩, fun hC => ?_⟩
      · rcases h.1 (c - 10) (by omega) with z | z
        · exact absurd z (hd h10)
        · exact z
      · have := h.2.2.1 (c - 10) (by omega) hpos (hC h10 rfl rfl)
        exact ⟨fun _ => by omega, this⟩
    · simp only [if_neg w]
      refine ⟨fun hd => ⟨(gm_Sp_n h10).mpr (gm_T_iff.mpr ⟨hpos, Nat.le_refl _⟩), ?_⟩, fun _ => ⟨fun _ => by omega, by first | trivial | omega⟩⟩
      have := gm_Ht_bd ok (b - a + 1) a b hab (by omega) (c - 10)
      omega
  · simp only [if_neg h10]
    refine ⟨fun _ => ⟨gm_Sp_mono (fun z => absurd z h10) hs, by omega⟩, fun _ => ⟨fun z => absurd z h10, by first | trivial | omega⟩⟩
theorem xk_Wh_E {E : Nat → Nat → Nat → Prop} (hd : gm_Dv g E p i u v j) (h : xk_Wh g p i u v j m) : E m i j := by
  obtain ⟨h1, h2, h3, a, b, d⟩ := hd
  rcases h with ⟨e, rfl⟩ | ⟨e, rfl, rfl⟩ | ⟨e, rfl⟩
  · have := (gm_Sp_n (by omega)).mp a
    rwa [e, Nat.add_sub_cancel] at this
  · have := (gm_Sp_n (by omega)).mp b
    rwa [e, Nat.add_sub_cancel] at this
  · have := (gm_Sp_n (by omega)).mp d
    rwa [e, Nat.add_sub_cancel] at this
noncomputable def xk_Fm (g : gm_G) (hN : Nat → Nat → Nat → Nat) (p i u v j : Nat) : Nat := max (max (xk_fl hN (gm_s g (3 * p)) i u) (xk_fl hN (gm_s g (3 * p + 1)) u v)) (xk_fl hN (gm_s g (3 * p + 2)) v j)
def xk_dF (g : gm_G) (hN : Nat → Nat → Nat → Nat) (p i u v j : Nat) : Prop := xk_df hN (gm_s g (3 * p)) i u ∧ xk_df hN (gm_s g (3 * p + 1)) u v ∧ xk_df hN (gm_s g (3 * p + 2)) v j
theorem xk_Hv_step {NE : Prop} {hv : Nat → Nat} (ok : gm_ok g) (hp : p < gm_P g) (hd : gm_Dv g (gm_D g) p i k m j) (h : xk_Hv g NE i j r (xk_Dn p k m) hv) :
    (xk_dF g (xk_hN g i j hv) p i k m j → xk_Fm g (xk_hN g i j hv) p i k m j ≤ 5 * (j - i) + xk_cnt hv) ∧
    (xk_dF g (xk_hN g i j hv) p i k m j → (hv (gm_l g p) = 0 ∨ xk_Fm g (xk_hN g i j hv) p i k m j + 1 < hv (gm_l g p)) → xk_Hv g NE i j r (xk_Dn p k (m + 1)) (xk_up hv (gm_l g p) (xk_Fm g (xk_hN g i j hv) p i k m j + 1))) ∧
    (¬ (xk_dF g (xk_hN g i j hv) p i k m j ∧ (hv (gm_l g p) = 0 ∨ xk_Fm g (xk_hN g i j hv) p i k m j + 1 < hv (gm_l g p))) → xk_Hv g NE i j r (xk_Dn p k (m + 1)) hv) := by
  have c0 : gm_s g (3 * p) < 15 := gm_ok_15 ok hp (show 0 < 3 by omega)
  have c1 := gm_ok_15 ok hp (show 1 < 3 by omega)
  have c2 := gm_ok_15 ok hp (show 2 < 3 by omega)
  have hl5 := gm_ok_l ok hp
  obtain ⟨h1, h2, h3, sa, sb, sc⟩ := hd
  have A := xk_part ok h c0 (Nat.le_refl i) h1 (by omega) sa
  have B := xk_part ok h c1 h1 h2 (by omega) sb
  have C := xk_part ok h c2 (by omega) h3 (Nat.le_refl j) sc
  have Q : (∀ x, xk_Wh g p i k m j x → xk_C NE (fun n => gm_Ht g n i j) r x) → xk_dF g (xk_hN g i j hv) p i k m j ∧ xk_Fm g (xk_hN g i j hv) p i k m j = xk_Hd g p i k m j := by
    intro hW
    have a := A.2 (fun z _ e => hW _ (Or.inl ⟨by omega, e⟩))
    have b := B.2 (fun z e1 e2 => hW _ (Or.inr (Or.inl ⟨by omega, e1, e2⟩)))
    have c := C.2 (fun z e _ => hW _ (Or.inr (Or.inr ⟨by omega, e⟩)))
    refine ⟨⟨a.1, b.1, c.1⟩, ?_⟩
    unfold xk_Fm xk_Hd
    rw [a.2, b.2, c.2]
  have R : xk_dF g (xk_hN g i j hv) p i k m j → xk_Fm g (xk_hN g i j hv) p i k m j ≤ 5 * (j - i) + xk_cnt hv := by
    rintro ⟨da, db, dc⟩
    have a := (A.1 da).2
    have b := (B.1 db).2
    have c := (C.1 dc).2
    unfold xk_Fm
    omega
  refine ⟨R, fun hdf hc => ?_, fun hn => ⟨h.1, h.2.1, h.2.2.1, fun p' u v h4 h5 h6 h7 => ?_⟩⟩
  · have hR := R hdf
    obtain ⟨da, db, dc⟩ := hdf
    have hT : gm_Dv g (gm_T g (xk_Fm g (xk_hN g i j hv) p i k m j)) p i k m j :=
      ⟨h1, h2, h3, gm_Sp_mono (fun _ t => gm_T_mono t (by unfold xk_Fm; omega)) (A.1 da).1, gm_Sp_mono (fun _ t => gm_T_mono t (by unfold xk_Fm; omega)) (B.1 db).1, gm_Sp_mono (fun _ t => gm_T_mono t (by unfold xk_Fm; omega)) (C.1 dc).1⟩
    have hHt := gm_Ht_mk hp hT
    have hcn := xk_cnt_up (hv := hv) hl5 (show xk_Fm g (xk_hN g i j hv) p i k m j + 1 ≠ 0 by omega)
    have hcle : xk_cnt hv ≤ xk_cnt (xk_up hv (gm_l g p) (xk_Fm g (xk_hN g i j hv) p i k m j + 1)) := by
      by_cases z : hv (gm_l g p) = 0
      · have := hcn.1 z; omega
      · have := hcn.2 z; omega
    refine ⟨fun n hn => ?_, fun n hn => ?_, fun n hn h0 hC => ?_, fun p' u v h4 h5 h6 h7 => ?_⟩
    · by_cases e : n = gm_l g p
      · subst e; rw [xk_up_s]; exact Or.inr hHt
      · rw [xk_up_n e]; exact h.1 n hn
    · by_cases e : n = gm_l g p
      · subst e
        rw [xk_up_s]
        rcases hc with z | z
        · have := hcn.1 z; omega
        · have := h.2.1 _ hn; omega
      · rw [xk_up_n e]
        have := h.2.1 n hn
        omega
    · by_cases e : n = gm_l g p
      · subst e
        have := h.2.2.1 _ hn h0 hC
        rcases hc with z | z <;> omega
      · rw [xk_up_n e]; exact h.2.2.1 n hn h0 hC
    · by_cases e : p' = p ∧ u = k ∧ v = m
      · obtain ⟨rfl, rfl, rfl⟩ := e
        rw [xk_up_s]
        have := (Q h7).2
        exact ⟨by omega, by omega⟩
      · have old := h.2.2.2 p' u v (by unfold xk_Dn at h4 ⊢; omega) h5 h6 h7
        by_cases e2 : gm_l g p' = gm_l g p
        · rw [e2, xk_up_s]
          rw [e2] at old
          rcases hc with z | z
          · exact absurd z old.1
          · exact ⟨by omega, by omega⟩
        · rw [xk_up_n e2]; exact old
  · by_cases e : p' = p ∧ u = k ∧ v = m
    · obtain ⟨rfl, rfl, rfl⟩ := e
      obtain ⟨q1, q2⟩ := Q h7
      refine ⟨fun z => hn ⟨q1, Or.inl z⟩, ?_⟩
      rw [← q2]
      exact Nat.le_of_not_lt fun z => hn ⟨q1, Or.inr z⟩
    · exact h.2.2.2 p' u v (by unfold xk_Dn at h4 ⊢; omega) h5 h6 h7
theorem xk_Hv_end {hv : Nat → Nat} (ok : gm_ok g) (h : xk_Hv g (xk_NE g i j) i j r xk_all hv) : xk_Hv g (xk_NE g i j) i j (r + 1) (fun _ _ _ => False) hv := by
  refine ⟨h.1, h.2.1, fun n hn h0 hC => ?_, fun p u v z => z.elim⟩
  obtain ⟨p, hp, hl, u, v, hd⟩ := gm_Ht_inv h0
  have hd' := gm_Dv_TD hd
  have key := h.2.2.2 p u v trivial hp hd' (fun m hw => by
    have t := gm_TH (xk_Wh_E hd hw) h0
    exact xk_C_s hC ⟨p, u, v, trivial, hp, hl, hd', hw⟩ (xk_Wh_5 ok hp hw) t.1 t.2)
  rw [hl] at key
  have hH : ∀ c a b, gm_Sp g (gm_T g (gm_Ht g n i j - 1)) c a b → xk_Hp g c a b ≤ gm_Ht g n i j - 1 := by
    intro c a b hs
    unfold xk_Hp
    by_cases z : 10 ≤ c
    · rw [if_pos z]
      have := gm_TH ((gm_Sp_n z).mp hs) h0
      omega
    · rw [if_neg z]; omega
  have ha := hH _ _ _ hd.2.2.2.1
  have hb := hH _ _ _ hd.2.2.2.2.1
  have hc := hH _ _ _ hd.2.2.2.2.2
  have hdd : xk_Hd g p i u v j ≤ gm_Ht g n i j - 1 := by unfold xk_Hd; omega
  rcases h.1 n hn with z | z
  · exact absurd z key.1
  · omega
/-- the numbers of trees after a pass -/
def xk_Xv (g : gm_G) (i j r : Nat) (x : Nat → Nat) : Prop := ∀ n, n < 5 → gm_F g n i j → x n ≤ 1000000000 ∧ (xk_C (xk_NE g i j) (fun n => gm_fl g n i j) r n → x n = gm_M g n i j)
noncomputable def xk_xN (g : gm_G) (i j : Nat) (x : Nat → Nat) (n a b : Nat) : Nat := if a = i ∧ b = j then x n else gm_M g n a b
theorem xk_Xv_step {x : Nat → Nat} (ok : gm_ok g) (h : xk_Xv g i j r x) : xk_Xv g i j (r + 1) (fun n => gm_Ms g (xk_xN g i j x) n i j) := by
  intro n hn hf
  refine ⟨gm_Ms_le _, fun hC => ?_⟩
  show gm_Ms g (xk_xN g i j x) n i j = gm_M g n i j
  rw [gm_M_eq hf]
  refine gm_Ms_eq fun p u v hp hl hd => ?_
  have K : ∀ c a b, 10 ≤ c → ((a = i ∧ b = j) → xk_Wh g p i u v j (c - 10)) → xk_xN g i j x (c - 10) a b = gm_M g (c - 10) a b := by
    intro c a b h10 hw
    unfold xk_xN
    by_cases w : a = i ∧ b = j
    · rw [if_pos w]
      have hw' := hw w
      have t := xk_Wh_F hf hp hl hd hw'
      obtain ⟨rfl, rfl⟩ := w
      exact (h _ (xk_Wh_5 ok hp hw') t.1).2 (xk_C_s hC ⟨p, u, v, trivial, hp, hl, hd, hw'⟩ (xk_Wh_5 ok hp hw') t.1 t.2)
    · rw [if_neg w]
  exact ⟨fun h10 => K _ _ _ h10 fun w => Or.inl ⟨by omega, w.2⟩, fun h10 => K _ _ _ h10 fun w => Or.inr (Or.inl ⟨by omega, w.1, w.2⟩), fun h10 => K _ _ _ h10 fun w => Or.inr (Or.inr ⟨by omega, w.1⟩)⟩
end
end
section
/-! X: count, and a counting pass -/
theorem cp_1e9 : (1000000000 : Int64) = lN 1000000000 := rfl
def xk_mv (a : Nat → Int32) (c i j : Nat) : Int64 := if 10 ≤ c then (a (55 * i + 11 * (c - 10) + j)).toInt64 else 1
def xk_c9 (x : Int64) : Int64 := if x ≤ 1000000000 then x else 1000000000
theorem xk_c9_N {x : Nat} (h : x < 2 ^ 63) : xk_c9 (lN x) = lN (min x 1000000000) := by
  unfold xk_c9
  rw [cp_1e9]
  by_cases z : x ≤ 1000000000
  · rw [if_pos ((pk_lLE h (by omega)).mpr z), Nat.min_eq_left z]
  · rw [if_neg (fun y => z ((pk_lLE h (by omega)).mp y)), Nat.min_eq_right (by omega)]
theorem cp_mulle {x y a b : Nat} (h : x ≤ a) (k : y ≤ b) : x * y ≤ a * b := Nat.mul_le_mul h k
section
variable {g : gm_G} {L : Nat} {f_good f_empty f_used f_known f_firstRow f_firstFar f_columns f_endless f_derived : Int32} {a_left a_right a_size a_text a_ends a_trees a_heights a_chosen a_nodes a_far a_op a_constant a_wanted a_edges : Nat → Int32} {a_values a_sum : Nat → Int64} {c i j p n k m a b i0 : Nat}
theorem xs_flatN {post : Int32 → Prop} {x : Nat} (G : cp_G g L a_right a_size a_text) (hc : c < 15) (ha : a ≤ L) (hb : b ≤ L) (hx : 10 ≤ c → a_heights (55 * a + 11 * (c - 10) + b) = nI x) (hx2 : x < 2 ^ 31)
    (h1 : (10 ≤ c → x ≠ 0) → post (nI (if 10 ≤ c then x else 0))) (h0 : ¬ (10 ≤ c → x ≠ 0) → post (-1)) : wpX_flat post (nI (gm_P g), nI L, f_good, f_empty, f_used, f_known, f_firstRow, f_firstFar, f_columns, f_endless, f_derived, a_left, a_right, a_size, a_text, a_ends, a_trees, a_heights, a_chosen, a_nodes, a_values, a_far, a_op, a_constant, a_wanted, a_sum, a_edges) (cp_Sy c) (nI a) (nI b) := by
  refine xs_flat G hc ha hb ?_
  by_cases h10 : 10 ≤ c
  · rw [if_pos h10] at h1 ⊢
    rw [hx h10]
    by_cases z : x = 0
    · rw [if_pos (by subst z; decide)]
      exact h0 fun y => y h10 z
    · rw [if_neg (nI_nle (by omega) hx2)]
      exact h1 fun _ => z
  · rw [if_neg h10] at h1 ⊢
    exact h1 fun z => absurd z h10
theorem xs_count {post : SX → Prop} {hN : Nat → Nat → Nat → Nat} (G : cp_G g L a_right a_size a_text) (hl : xk_L g a_left) (hp : p < gm_P g) (hik : i ≤ k) (hkm : k ≤ m) (hmj : m ≤ j) (hjL : j ≤ L)
    (hh : ∀ n a b, n < 5 → i ≤ a → a ≤ b → b ≤ j → a_heights (55 * a + 11 * n + b) = nI (hN n a b) ∧ hN n a b ≤ 60)
    (h1 : xk_dF g hN p i k m j → (hN (gm_l g p) i j = 0 ∨ xk_Fm g hN p i k m j + 1 < hN (gm_l g p) i j) → post (nI (gm_P g), nI L, f_good, f_empty, f_used, f_known, f_firstRow, f_firstFar, f_columns, f_endless, f_derived, a_left, a_right, a_size, a_text, a_ends, a_trees, upd a_heights (55 * i + 11 * gm_l g p + j) (nI (xk_Fm g hN p i k m j + 1)), a_chosen, a_nodes, a_values, a_far, a_op, a_constant, a_wanted, vp_updL a_sum (gm_l g p) (xk_c9 (a_sum (gm_l g p) + xk_c9 (xk_mv a_trees (gm_s g (3 * p)) i k * xk_mv a_trees (gm_s g (3 * p + 1)) k m) * xk_mv a_trees (gm_s g (3 * p + 2)) m j)), a_edges))
    (h0 : ¬ (xk_dF g hN p i k m j ∧ (hN (gm_l g p) i j = 0 ∨ xk_Fm g hN p i k m j + 1 < hN (gm_l g p) i j)) → post (nI (gm_P g), nI L, f_good, f_empty, f_used, f_known, f_firstRow, f_firstFar, f_columns, f_endless, f_derived, a_left, a_right, a_size, a_text, a_ends, a_trees, a_heights, a_chosen, a_nodes, a_values, a_far, a_op, a_constant, a_wanted, vp_updL a_sum (gm_l g p) (xk_c9 (a_sum (gm_l g p) + xk_c9 (xk_mv a_trees (gm_s g (3 * p)) i k * xk_mv a_trees (gm_s g (3 * p + 1)) k m) * xk_mv a_trees (gm_s g (3 * p + 2)) m j)), a_edges)) :
    wpX_count post (nI (gm_P g), nI L, f_good, f_empty, f_used, f_known, f_firstRow, f_firstFar, f_columns, f_endless, f_derived, a_left, a_right, a_size, a_text, a_ends, a_trees, a_heights, a_chosen, a_nodes, a_values, a_far, a_op, a_constant, a_wanted, a_sum, a_edges) (nI p) (nI i) (nI k) (nI m) (nI j) := by
  have h12 := cp_G_P G
  have hL := cp_G_L G
  have ok := cp_G_ok G
  have c0 : gm_s g (3 * p) < 15 := gm_ok_15 ok hp (show 0 < 3 by omega)
  have c1 := gm_ok_15 ok hp (show 1 < 3 by omega)
  have c2 := gm_ok_15 ok hp (show 2 < 3 by omega)
  have hl5 := gm_ok_l ok hp
  -- the heights
  have hlast : ∀ z x y, xk_dF g hN p i k m j → xk_Fm g hN p i k m j = max x y → x ≤ 60 → y ≤ 60 → z = xk_c9 (a_sum (gm_l g p) + xk_c9 (xk_mv a_trees (gm_s g (3 * p)) i k * xk_mv a_trees (gm_s g (3 * p + 1)) k m) * xk_mv a_trees (gm_s g (3 * p + 2)) m j) → wX_count_183 post (nI p) (nI i) (nI j) (nI x) (nI y) (nI (gm_P g)) (nI L) f_good f_empty f_used f_known f_firstRow f_firstFar f_columns f_endless f_derived a_left a_right a_size a_text a_ends a_trees a_heights a_chosen a_nodes a_values a_far a_op a_constant a_wanted (vp_updL a_sum (gm_l g p) z) a_edges := by
    intro z x y hdf hF hx hy hz
    subst hz
    have w194 : ∀ f, xk_Fm g hN p i k m j = f → f ≤ 60 → wX_count_194 post (nI p) (nI i) (nI j) (nI f) (nI (gm_P g)) (nI L) f_good f_empty f_used f_known f_firstRow f_firstFar f_columns f_endless f_derived a_left a_right a_size a_text a_ends a_trees a_heights a_chosen a_nodes a_values a_far a_op a_constant a_wanted (vp_updL a_sum (gm_l g p) (xk_c9 (a_sum (gm_l g p) + xk_c9 (xk_mv a_trees (gm_s g (3 * p)) i k * xk_mv a_trees (gm_s g (3 * p + 1)) k m) * xk_mv a_trees (gm_s g (3 * p + 2)) m j))) a_edges := by
      intro f hf hf6
      have hcell := hh (gm_l g p) i j hl5 (Nat.le_refl _) (by omega) (Nat.le_refl _)
      unfold wX_count_194
      rw [nI_clamp (show p < 2 ^ 31 by omega), hl p hp, ix_55]
      refine ⟨vp_in_nI (by omega) (by omega), nm_e ?_⟩
      rw [nI_clamp (show 55 * i + 11 * gm_l g p + j < 2 ^ 31 by omega), hcell.1]
      have put : (hN (gm_l g p) i j = 0 ∨ xk_Fm g hN p i k m j + 1 < hN (gm_l g p) i j) → wX_count_237 post (nI f) (nI (55 * i + 11 * gm_l g p + j)) (nI (gm_P g)) (nI L) f_good f_empty f_used f_known f_firstRow f_firstFar f_columns f_endless f_derived a_left a_right a_size a_text a_ends a_trees a_heights a_chosen a_nodes a_values a_far a_op a_constant a_wanted (vp_updL a_sum (gm_l g p) (xk_c9 (a_sum (gm_l g p) + xk_c9 (xk_mv a_trees (gm_s g (3 * p)) i k * xk_mv a_trees (gm_s g (3 * p + 1)) k m) * xk_mv a_trees (gm_s g (3 * p + 2)) m j))) a_edges := by
        intro hc
        unfold wX_count_237
        rw [nI_clamp (show 55 * i + 11 * gm_l g p + j < 2 ^ 31 by omega), nI_1, cp_n8 (cp_t8 (f + 1) (by omega)), ← hf]
        exact ⟨vp_in_nI (by omega) (by omega), nm_e (h1 hdf hc)⟩
      refine ⟨vp_in_nI (by omega) (by omega), pk_eq (hN (gm_l g p) i j) 0 (fun e => put (Or.inl e)) (fun e => ⟨vp_in_nI (by omega) (by omega), pk_le (hN (gm_l g p) i j) (f + 1) (fun q => h0 fun w => ?_) (fun q => put (Or.inr (by omega))) (hy := nI_1 f)⟩)⟩
      rcases w.2 with w | w <;> omega
    unfold wX_count_183
    refine pk_le y x (fun q => w194 x ?_ hx) (fun q => w194 y ?_ hy)
    · rw [hF]; omega
    · rw [hF]; omega
  have w122 : ∀ z, z = xk_c9 (a_sum (gm_l g p) + xk_c9 (xk_mv a_trees (gm_s g (3 * p)) i k * xk_mv a_trees (gm_s g (3 * p + 1)) k m) * xk_mv a_trees (gm_s g (3 * p + 2)) m j) → wX_count_122 post (nI p) (nI i) (nI k) (nI m) (nI j) (cp_Sy (gm_s g (3 * p))) (cp_Sy (gm_s g (3 * p + 1))) (cp_Sy (gm_s g (3 * p + 2))) z (nI (gm_l g p)) (nI (gm_P g)) (nI L) f_good f_empty f_used f_known f_firstRow f_firstFar f_columns f_endless f_derived a_left a_right a_size a_text a_ends a_trees a_heights a_chosen a_nodes a_values a_far a_op a_constant a_wanted a_sum a_edges := by
    intro z hz
    have H0 := fun h10 : 10 ≤ gm_s g (3 * p) => hh (gm_s g (3 * p) - 10) i k (by omega) (by omega) (by omega) (by omega)
    have H1 := fun h10 : 10 ≤ gm_s g (3 * p + 1) => hh (gm_s g (3 * p + 1) - 10) k m (by omega) (by omega) (by omega) (by omega)
    have H2 := fun h10 : 10 ≤ gm_s g (3 * p + 2) => hh (gm_s g (3 * p + 2) - 10) m j (by omega) (by omega) (by omega) (by omega)
    have F : ∀ c a b, (10 ≤ c → a_heights (55 * a + 11 * (c - 10) + b) = nI (hN (c - 10) a b) ∧ hN (c - 10) a b ≤ 60) → xk_fl hN c a b ≤ 60 := by
      intro c a b hq
      unfold xk_fl
      by_cases h10 : 10 ≤ c
      · rw [if_pos h10]; exact (hq h10).2
      · rw [if_neg h10]; omega
    have F0 := F _ _ _ H0
    have F1 := F _ _ _ H1
    have F2 := F _ _ _ H2
    have nod : ¬ xk_dF g hN p i k m j → post (nI (gm_P g), nI L, f_good, f_empty, f_used, f_known, f_firstRow, f_firstFar, f_columns, f_endless, f_derived, a_left, a_right, a_size, a_text, a_ends, a_trees, a_heights, a_chosen, a_nodes, a_values, a_far, a_op, a_constant, a_wanted, vp_updL a_sum (gm_l g p) z, a_edges) := fun hn => by
      rw [hz]
      exact h0 fun w => hn w.1
    have X31 : ∀ c a b, (10 ≤ c → a_heights (55 * a + 11 * (c - 10) + b) = nI (hN (c - 10) a b) ∧ hN (c - 10) a b ≤ 60) → ∃ x, x < 2 ^ 31 ∧ (10 ≤ c → x = hN (c - 10) a b) := by
      intro c a b hq
      by_cases h10 : 10 ≤ c
      · exact ⟨_, by have := (hq h10).2; omega, fun _ => rfl⟩
      · exact ⟨0, by omega, fun z => absurd z h10⟩
    obtain ⟨x0, hx0, e0⟩ := X31 _ _ _ H0
    obtain ⟨x1, hx1, e1⟩ := X31 _ _ _ H1
    obtain ⟨x2, hx2, e2⟩ := X31 _ _ _ H2
    have E : ∀ c a b x, (10 ≤ c → x = hN (c - 10) a b) → (if 10 ≤ c then x else 0) = xk_fl hN c a b := by
      intro c a b x hq
      unfold xk_fl
      by_cases h10 : 10 ≤ c
      · rw [if_pos h10, if_pos h10, hq h10]
      · rw [if_neg h10, if_neg h10]
    have Q : ∀ c a b x, (10 ≤ c → x = hN (c - 10) a b) → ((10 ≤ c → x ≠ 0) ↔ xk_df hN c a b) := by
      intro c a b x hq
      unfold xk_df
      exact ⟨fun h q => hq q ▸ h q, fun h q => hq q ▸ h q⟩
    unfold wX_count_122
    rw [nI_clamp (show gm_l g p < 2 ^ 31 by omega)]
    refine ⟨vp_in_nI (by omega) (by omega), nm_e ?_⟩
    refine xs_flatN (x := x0) G c0 (by omega) (by omega) (fun h10 => by rw [e0 h10]; exact (H0 h10).1) hx0 (fun d0 => ?_) (fun d0 => ?_)
    · rw [E _ _ _ _ e0]
      refine xs_flatN (x := x1) G c1 (by omega) (by omega) (fun h10 => by rw [e1 h10]; exact (H1 h10).1) hx1 (fun d1 => ?_) (fun d1 => ?_)
      · rw [E _ _ _ _ e1]
        refine xs_flatN (x := x2) G c2 (by omega) (by omega) (fun h10 => by rw [e2 h10]; exact (H2 h10).1) hx2 (fun d2 => ?_) (fun d2 => ?_)
        · rw [E _ _ _ _ e2]
          have hdf : xk_dF g hN p i k m j := ⟨(Q _ _ _ _ e0).mp d0, (Q _ _ _ _ e1).mp d1, (Q _ _ _ _ e2).mp d2⟩
          refine br_f (nI_pos (by omega)) (br_f (nI_pos (by omega)) (br_t (nI_pos' (by omega)) (pk_le (xk_fl hN (gm_s g (3 * p + 1)) k m) (xk_fl hN (gm_s g (3 * p)) i k) (fun q => hlast z _ _ hdf ?_ F0 F2 hz) (fun q => hlast z _ _ hdf ?_ F1 F2 hz))))
          · unfold xk_Fm; omega
          · unfold xk_Fm; omega
        · exact br_f (nI_pos (by omega)) (br_f (nI_pos (by omega)) (br_f (by decide) (nod fun w => d2 ((Q _ _ _ _ e2).mpr w.2.2))))
      · exact xs_flatN (x := x2) G c2 (by omega) (by omega) (fun h10 => by rw [e2 h10]; exact (H2 h10).1) hx2 (fun d2 => br_f (nI_pos (by omega)) (br_t (by decide) (nod fun w => d1 ((Q _ _ _ _ e1).mpr w.2.1)))) (fun d2 => br_f (nI_pos (by omega)) (br_t (by decide) (nod fun w => d1 ((Q _ _ _ _ e1).mpr w.2.1))))
    · have fin : post (nI (gm_P g), nI L, f_good, f_empty, f_used, f_known, f_firstRow, f_firstFar, f_columns, f_endless, f_derived, a_left, a_right, a_size, a_text, a_ends, a_trees, a_heights, a_chosen, a_nodes, a_values, a_far, a_op, a_constant, a_wanted, vp_updL a_sum (gm_l g p) z, a_edges) := nod fun w => d0 ((Q _ _ _ _ e0).mpr w.1)
      exact xs_flatN (x := x1) G c1 (by omega) (by omega) (fun h10 => by rw [e1 h10]; exact (H1 h10).1) hx1 (fun d1 => xs_flatN (x := x2) G c2 (by omega) (by omega) (fun h10 => by rw [e2 h10]; exact (H2 h10).1) hx2 (fun d2 => br_t (by decide) fin) (fun d2 => br_t (by decide) fin)) (fun d1 => xs_flatN (x := x2) G c2 (by omega) (by omega) (fun h10 => by rw [e2 h10]; exact (H2 h10).1) hx2 (fun d2 => br_t (by decide) fin) (fun d2 => br_t (by decide) fin))
  have w68 : ∀ t, t = xk_c9 (xk_mv a_trees (gm_s g (3 * p)) i k * xk_mv a_trees (gm_s g (3 * p + 1)) k m) → wX_count_68 post (nI p) (nI i) (nI k) (nI m) (nI j) (cp_Sy (gm_s g (3 * p))) (cp_Sy (gm_s g (3 * p + 1))) (cp_Sy (gm_s g (3 * p + 2))) t (nI (gm_P g)) (nI L) f_good f_empty f_used f_known f_firstRow f_firstFar f_columns f_endless f_derived a_left a_right a_size a_text a_ends a_trees a_heights a_chosen a_nodes a_values a_far a_op a_constant a_wanted a_sum a_edges := by
    intro t ht
    subst ht
    unfold wX_count_68
    rw [nI_clamp (show p < 2 ^ 31 by omega), hl p hp, nI_clamp (show gm_l g p < 2 ^ 31 by omega)]
    refine ⟨vp_in_nI (by omega) (by omega), vp_in_nI (by omega) (by omega), xs_many G c2 (by omega) (by omega) (nm_e ⟨vp_in_nI (by omega) (by omega), br_c (fun q => w122 _ ?_) (fun q => w122 _ ?_)⟩)⟩
    · exact (if_pos q).symm
    · exact (if_neg q).symm
  unfold wpX_count
  dsimp only
  rw [ix_31, ix_32, ix_3, nI_clamp (show 3 * p + 1 < 2 ^ 31 by omega), nI_clamp (show 3 * p + 2 < 2 ^ 31 by omega), nI_clamp (show 3 * p < 2 ^ 31 by omega), cp_G_rt G hp (show 1 < 3 by omega), cp_G_rt G hp (show 2 < 3 by omega), cp_G_r0 G hp]
  refine ⟨vp_in_nI (by omega) (by omega), nm_e ⟨vp_in_nI (by omega) (by omega), nm_e ⟨vp_in_nI (by omega) (by omega), nm_e (xs_many G c0 (by omega) (by omega) (xs_many G c1 (by omega) (by omega) (nm_e (br_c (fun q => w68 _ ?_) (fun q => w68 _ ?_)))))⟩⟩⟩
  · exact (if_pos q).symm
  · exact (if_neg q).symm
end
end
section
/-! X: the counting passes over a span -/
def xk_I0 (g : gm_G) (i j r : Nat) (x : Nat → Nat) (ah0 : Nat → Int32) (S : Nat → Nat → Nat → Prop) (ah : Nat → Int32) (az : Nat → Int64) : Prop :=
  (∃ hv, xk_Hv g (xk_NE g i j) i j r S hv ∧ ∀ n, n < 5 → ah (55 * i + 11 * n + j) = nI (hv n)) ∧ (∀ y, (∀ n, n < 5 → y ≠ 55 * i + 11 * n + j) → ah y = ah0 y) ∧
  (∀ n, n < 5 → gm_F g n i j → az n = lN (min 1000000000 (xk_SS g (xk_xN g i j x) i j n S)))
def xk_HA (g : gm_G) (ah : Nat → Int32) (n a b : Nat) : Prop := ah (55 * a + 11 * n + b) = nI (gm_Ht g n a b)
theorem xk_I0_cong {g : gm_G} {i j r : Nat} {x : Nat → Nat} {ah0 ah : Nat → Int32} {az : Nat → Int64} {S S' : Nat → Nat → Nat → Prop} (hS : ∀ p u v, p < gm_P g → gm_Dv g (gm_D g) p i u v j → (S p u v ↔ S' p u v)) (h : xk_I0 g i j r x ah0 S ah az) : xk_I0 g i j r x ah0 S' ah az := by
  obtain ⟨⟨hv, h1, h2⟩, h3, h4⟩ := h
  exact ⟨⟨hv, xk_Hv_cong hS h1, h2⟩, h3, fun n hn hf => by rw [h4 n hn hf, xk_SS_cong hS]⟩
theorem xk_sum1 {s x y z : Nat} (hx : x ≤ 1000000000) (hy : y ≤ 1000000000) (hz : z ≤ 1000000000) : xk_c9 (lN (min 1000000000 s) + xk_c9 (lN x * lN y) * lN z) = lN (min 1000000000 (s + x * y * z)) := by
  have a := cp_mulle hx hy
  rw [lN_mul, xk_c9_N (by omega), lN_mul, lN_add]
  have b := cp_mulle (Nat.min_le_right (x * y) 1000000000) hz
  rw [xk_c9_N (by omega), cp_cap]
section
variable {g : gm_G} {L : Nat} {f_good f_empty f_used f_known f_firstRow f_firstFar f_columns f_endless f_derived : Int32} {a_left a_right a_size a_text a_ends a_trees a_heights a_chosen a_nodes a_far a_op a_constant a_wanted a_edges : Nat → Int32} {a_values a_sum : Nat → Int64} {c i j p n k m a b i0 r : Nat} {x : Nat → Nat} {ah0 at0 : Nat → Int32}
theorem xk_mvN (hT : xk_Sub i j (xk_Tv g a_trees)) (hx : ∀ n, n < 5 → gm_F g n i j → a_trees (55 * i + 11 * n + j) = nI (x n)) (hX : xk_Xv g i j r x) (hc : c < 15) (ha : i ≤ a) (hab : a ≤ b) (hb : b ≤ j) (hf : gm_Sf (gm_F g) c a b) :
    xk_mv a_trees c a b = lN (gm_Mp (xk_xN g i j x) c a b) ∧ gm_Mp (xk_xN g i j x) c a b ≤ 1000000000 := by
  unfold xk_mv gm_Mp xk_xN
  by_cases h10 : 10 ≤ c
  · simp only [if_pos h10]
    by_cases w : a = i ∧ b = j
    · simp only [if_pos w]
      obtain ⟨rfl, rfl⟩ := w
      have := (hX (c - 10) (by omega) (hf h10)).1
      rw [hx (c - 10) (by omega) (hf h10)]
      exact ⟨nI_l (by omega), this⟩
    · simp only [if_neg w]
      have := gm_M_le (g := g) (n := c - 10) (i := a) (j := b)
      rw [(hT (c - 10) a b (by omega) ha hab hb (by omega)).1 (hf h10)]
      exact ⟨nI_l (by omega), this⟩
  · simp only [if_neg h10]
    exact ⟨rfl, by omega⟩
theorem xs_dRest0_3 {post : SX → Prop} (G : cp_G g L a_right a_size a_text) (hl : xk_L g a_left) (H : xk_Er g L a_ends i) (hjL : j ≤ L) (hT : xk_Sub i j (xk_Tv g a_trees)) (hx : ∀ n, n < 5 → gm_F g n i j → a_trees (55 * i + 11 * n + j) = nI (x n)) (hX : xk_Xv g i j r x) (hA : xk_Sub i j (xk_HA g ah0))
    (hp : p < gm_P g) (hik : i ≤ k) (hkj : k ≤ j) (hs : gm_Sp g (gm_D g) (gm_s g (3 * p)) i k)
    (hE : ∀ ah az, xk_I0 g i j r x ah0 (xk_Dn p k (j + 1)) ah az → post (nI (gm_P g), nI L, f_good, f_empty, f_used, f_known, f_firstRow, f_firstFar, f_columns, f_endless, f_derived, a_left, a_right, a_size, a_text, a_ends, a_trees, ah, a_chosen, a_nodes, a_values, a_far, a_op, a_constant, a_wanted, az, a_edges)) :
    ∀ d m ah az, m + d = j + 1 → k ≤ m → xk_I0 g i j r x ah0 (xk_Dn p k m) ah az → wX_divideRest_3 post (nI p) (nI i) (nI k) (nI j) 0 (d + 1) (nI m) (nI (gm_P g)) (nI L) f_good f_empty f_used f_known f_firstRow f_firstFar f_columns f_endless f_derived a_left a_right a_size a_text a_ends a_trees ah a_chosen a_nodes a_values a_far a_op a_constant a_wanted az a_edges := by
  have h12 := cp_G_P G
  have hL := cp_G_L G
  have ok := cp_G_ok G
  have c0 : gm_s g (3 * p) < 15 := gm_ok_15 ok hp (show 0 < 3 by omega)
  have c1 := gm_ok_15 ok hp (show 1 < 3 by omega)
  have c2 := gm_ok_15 ok hp (show 2 < 3 by omega)
  have hl5 := gm_ok_l ok hp
  intro d
  induction d with
  | zero =>
    intro m ah az hm hkm hI
    rw [wX_divideRest_3]
    exact pk_lt j m (fun _ => hE ah az (by rw [show m = j + 1 by omega] at hI; exact hI)) (fun h => absurd h (by omega))
  | succ d ih =>
    intro m ah az hm hkm hI
    have skip : ¬ (gm_Sp g (gm_D g) (gm_s g (3 * p + 1)) k m ∧ gm_Sp g (gm_D g) (gm_s g (3 * p + 2)) m j) → xk_I0 g i j r x ah0 (xk_Dn p k (m + 1)) ah az := fun hn => xk_I0_cong (fun p' u v _ hd => by
      have hne : p' = p → u = k → v ≠ m := fun e1 e2 e3 => hn (by subst e1; subst e2; subst e3; exact ⟨hd.2.2.2.2.1, hd.2.2.2.2.2⟩)
      unfold xk_Dn; omega) hI
    rw [wX_divideRest_3]
    refine pk_lt j m (fun h => absurd h (by omega)) (fun _ => ?_)
    rw [ix_31, ix_32, ix_3, nI_clamp (show 3 * p + 1 < 2 ^ 31 by omega), nI_clamp (show 3 * p + 2 < 2 ^ 31 by omega), nI_clamp (show 3 * p < 2 ^ 31 by omega), nI_clamp (show p < 2 ^ 31 by omega), cp_G_rt G hp (show 1 < 3 by omega), cp_G_rt G hp (show 2 < 3 by omega), cp_G_r0 G hp, hl p hp]
    refine ⟨vp_in_nI (by omega) (by omega), xs_spansD G H c1 hik (by omega) (by omega) (fun s1 => br_f (by decide) ⟨vp_in_nI (by omega) (by omega), xs_spansD G H c2 (by omega) (by omega) (by omega) (fun s2 => br_f (by decide) (br_t rfl ?_)) (fun s2 => br_t rfl (nm_r (nI_1 _) (ih (m + 1) ah az (by omega) (by omega) (skip fun z => s2 z.2))))⟩) (fun s1 => br_t rfl (nm_r (nI_1 _) (ih (m + 1) ah az (by omega) (by omega) (skip fun z => s1 z.1))))⟩
    have hd : gm_Dv g (gm_D g) p i k m j := ⟨hik, hkm, by omega, hs, s1, s2⟩
    obtain ⟨⟨hv, hv1, hv2⟩, hfr, hsum⟩ := hI
    have stp := xk_Hv_step ok hp hd hv1
    have hcn := xk_cnt_5 hv
    have idx : ∀ n a b, n < 5 → a ≤ 10 → b ≤ 10 → (a ≠ i ∨ b ≠ j) → ∀ q, q < 5 → 55 * a + 11 * n + b ≠ 55 * i + 11 * q + j := by
      intro n a b h1 h2 h3 h4 q h5; omega
    have hh : ∀ n a b, n < 5 → i ≤ a → a ≤ b → b ≤ j → ah (55 * a + 11 * n + b) = nI (xk_hN g i j hv n a b) ∧ xk_hN g i j hv n a b ≤ 60 := by
      intro n a b h1 h2 h3 h4
      unfold xk_hN
      by_cases w : a = i ∧ b = j
      · rw [if_pos w]
        obtain ⟨rfl, rfl⟩ := w
        have := hv1.2.1 n h1
        exact ⟨hv2 n h1, by omega⟩
      · rw [if_neg w]
        have := gm_Ht_B (g := g) (n := n) (i := a) (j := b) ok (by omega)
        exact ⟨(hfr _ (idx n a b h1 (by omega) (by omega) (by omega))).trans (hA n a b h1 h2 h3 h4 (by omega)), by omega⟩
    have hsum' : ∀ n, n < 5 → gm_F g n i j → vp_updL az (gm_l g p) (xk_c9 (az (gm_l g p) + xk_c9 (xk_mv a_trees (gm_s g (3 * p)) i k * xk_mv a_trees (gm_s g (3 * p + 1)) k m) * xk_mv a_trees (gm_s g (3 * p + 2)) m j)) n = lN (min 1000000000 (xk_SS g (xk_xN g i j x) i j n (xk_Dn p k (m + 1)))) := by
      intro n hn hf
      rw [xk_SS_add hp hkj (by omega)]
      by_cases e : n = gm_l g p
      · subst e
        rw [pk_uLs, if_pos rfl, gm_tm_1 hd, hsum _ hn hf]
        obtain ⟨f0, f1, f2⟩ := gm_F_inv hf hp rfl hd
        obtain ⟨m0, l0⟩ := xk_mvN hT hx hX c0 (Nat.le_refl i) hik hkj (fun z => (f0 z).1)
        obtain ⟨m1, l1⟩ := xk_mvN hT hx hX c1 hik hkm (show m ≤ j by omega) (fun z => (f1 z).1)
        obtain ⟨m2, l2⟩ := xk_mvN hT hx hX c2 (show i ≤ m by omega) (show m ≤ j by omega) (Nat.le_refl j) (fun z => (f2 z).1)
        rw [m0, m1, m2]
        exact xk_sum1 l0 l1 l2
      · rw [pk_uLn e, if_neg (fun z => e z.symm), Nat.add_zero]
        exact hsum n hn hf
    have hself : xk_hN g i j hv (gm_l g p) i j = hv (gm_l g p) := if_pos ⟨rfl, rfl⟩
    refine xs_count (hN := xk_hN g i j hv) G hl hp hik hkm (by omega) hjL hh (fun hdf hc => ?_) (fun hn => ?_)
    · rw [hself] at hc
      refine nm_r (nI_1 _) (ih (m + 1) _ _ (by omega) (by omega) ⟨⟨_, stp.2.1 hdf hc, fun n hn => ?_⟩, fun y hy => ?_, hsum'⟩)
      · by_cases e : n = gm_l g p
        · subst e; rw [pk_us, xk_up_s]
        · rw [pk_un (by omega), xk_up_n e]; exact hv2 n hn
      · rw [pk_un (hy _ hl5)]; exact hfr y hy
    · rw [hself] at hn
      exact nm_r (nI_1 _) (ih (m + 1) _ _ (by omega) (by omega) ⟨⟨hv, stp.2.2 hn, hv2⟩, hfr, hsum'⟩)
theorem xs_divide0 {post : SX → Prop} (G : cp_G g L a_right a_size a_text) (hl : xk_L g a_left) (H : xk_Er g L a_ends i) (hij : i ≤ j) (hjL : j ≤ L) (hder : cp_St f_derived (fun n => n < 5 ∧ gm_D g n i j))
    (hT : xk_Sub i j (xk_Tv g a_trees)) (hx : ∀ n, n < 5 → gm_F g n i j → a_trees (55 * i + 11 * n + j) = nI (x n)) (hX : xk_Xv g i j r x) (hA : xk_Sub i j (xk_HA g ah0))
    (h0 : xk_I0 g i j r x ah0 (fun _ _ _ => False) a_heights a_sum)
    (hE : ∀ ah az, xk_I0 g i j r x ah0 xk_all ah az → post (nI (gm_P g), nI L, f_good, f_empty, f_used, f_known, f_firstRow, f_firstFar, f_columns, f_endless, f_derived, a_left, a_right, a_size, a_text, a_ends, a_trees, ah, a_chosen, a_nodes, a_values, a_far, a_op, a_constant, a_wanted, az, a_edges)) : wpX_divide post (nI (gm_P g), nI L, f_good, f_empty, f_used, f_known, f_firstRow, f_firstFar, f_columns, f_endless, f_derived, a_left, a_right, a_size, a_text, a_ends, a_trees, a_heights, a_chosen, a_nodes, a_values, a_far, a_op, a_constant, a_wanted, a_sum, a_edges) (nI i) (nI j) 0 := by
  refine xs_divide (I := fun S fe ah az ae => fe = f_endless ∧ ae = a_edges ∧ xk_I0 g i j r x ah0 S ah az) G hl H hij hjL hder (fun S S' fe ah az ae hS hI => ⟨hI.1, hI.2.1, xk_I0_cong hS hI.2.2⟩) (fun p k fe ah az ae post' hp hik hkj hs hI hE' => ?_) ⟨rfl, rfl, h0⟩ (fun fe ah az ae hI => ?_)
  · obtain ⟨rfl, rfl, hI⟩ := hI
    unfold wpX_divideRest
    exact ⟨j + 1 - k + 1, xs_dRest0_3 G hl H hjL hT hx hX hA hp hik hkj hs (fun ah' az' hI' => hE' _ ah' az' _ ⟨rfl, rfl, hI'⟩) (j + 1 - k) k ah az (by omega) (Nat.le_refl _) hI⟩
  · obtain ⟨rfl, rfl, hI⟩ := hI
    exact hE ah az hI
/-- after r rounds -/
def xk_RI (g : gm_G) (i j r : Nat) (ah0 at0 ah ta : Nat → Int32) : Prop :=
  (∃ hv, xk_Hv g (xk_NE g i j) i j r (fun _ _ _ => False) hv ∧ ∀ n, n < 5 → ah (55 * i + 11 * n + j) = nI (hv n)) ∧ (∀ y, (∀ n, n < 5 → y ≠ 55 * i + 11 * n + j) → ah y = ah0 y) ∧
  (∃ x, xk_Xv g i j r x ∧ ∀ n, n < 5 → gm_F g n i j → ta (55 * i + 11 * n + j) = nI (x n)) ∧ (∀ n, n < 5 → ¬ gm_F g n i j → 0 < r → ta (55 * i + 11 * n + j) = -3) ∧ (∀ y, (∀ n, n < 5 → y ≠ 55 * i + 11 * n + j) → ta y = at0 y)
theorem xs_span_229 {post : SX → Prop} {J : Int32 → Int32 → Int32 → Int32 → Int32 → Int32 → Int32 → Int32 → Int32 → Int32 → Int32 → Int32 → (Nat → Int32) → (Nat → Int32) → (Nat → Int32) → (Nat → Int32) → (Nat → Int32) → (Nat → Int32) → (Nat → Int32) → (Nat → Int32) → (Nat → Int32) → (Nat → Int64) → (Nat → Int32) → (Nat → Int32) → (Nat → Int32) → (Nat → Int32) → (Nat → Int64) → (Nat → Int32) → Prop} {x3 : Int32} (hi : i ≤ 10) (hj : j ≤ 10) (hfe : cp_St f_endless (fun n => ¬ gm_F g n i j)) {x' : Nat → Nat} (hx' : ∀ n, n < 5 → x' n ≤ 1000000000) (hs : ∀ n, n < 5 → gm_F g n i j → a_sum n = lN (x' n))
    (hJ : ∀ ta, (∀ n, n < 5 → gm_F g n i j → ta (55 * i + 11 * n + j) = nI (x' n)) → (∀ n, n < 5 → ¬ gm_F g n i j → ta (55 * i + 11 * n + j) = -3) → (∀ y, (∀ n, n < 5 → y ≠ 55 * i + 11 * n + j) → ta y = at0 y) → J (nI (r + 1)) (nI (gm_P g)) (nI L) f_good f_empty f_used f_known f_firstRow f_firstFar f_columns f_endless f_derived a_left a_right a_size a_text a_ends ta a_heights a_chosen a_nodes a_values a_far a_op a_constant a_wanted a_sum a_edges) :
    ∀ d q ta, q + d = 5 → (∀ n, n < q → gm_F g n i j → ta (55 * i + 11 * n + j) = nI (x' n)) → (∀ n, n < q → ¬ gm_F g n i j → ta (55 * i + 11 * n + j) = -3) → (∀ y, (∀ n, n < 5 → y ≠ 55 * i + 11 * n + j) → ta y = at0 y) →
    wX_span_229 post J (nI i) (nI j) x3 (nI r) (nI (gm_P g)) (nI L) f_good f_empty f_used f_known f_firstRow f_firstFar f_columns f_endless f_derived (d + 1) (nI q) a_left a_right a_size a_text a_ends ta a_heights a_chosen a_nodes a_values a_far a_op a_constant a_wanted a_sum a_edges := by
  intro d
  induction d with
  | zero =>
    intro q ta hq h1 h2 h3
    rw [wX_span_229]
    exact pk_le 5 q (fun _ => nm_r (nI_1 _) (hJ ta (fun n hn => h1 n (by omega)) (fun n hn => h2 n (by omega)) h3)) (fun z => absurd z (by omega))
  | succ d ih =>
    intro q ta hq h1 h2 h3
    have go : ∀ w, (gm_F g q i j → w = nI (x' q)) → (¬ gm_F g q i j → w = -3) → wX_span_229 post J (nI i) (nI j) x3 (nI r) (nI (gm_P g)) (nI L) f_good f_empty f_used f_known f_firstRow f_firstFar f_columns f_endless f_derived (d + 1) (nI (q + 1)) a_left a_right a_size a_text a_ends (upd ta (55 * i + 11 * q + j) w) a_heights a_chosen a_nodes a_values a_far a_op a_constant a_wanted a_sum a_edges := by
      intro w hw1 hw2
      refine ih (q + 1) _ (by omega) (fun n hn hf => ?_) (fun n hn hf => ?_) (fun y hy => ?_)
      · by_cases e : n = q
        · subst e; rw [pk_us]; exact hw1 hf
        · rw [pk_un (by omega)]; exact h1 n (by omega) hf
      · by_cases e : n = q
        · subst e; rw [pk_us]; exact hw2 hf
        · rw [pk_un (by omega)]; exact h2 n (by omega) hf
      · rw [pk_un (hy q (by omega))]; exact h3 y hy
    rw [wX_span_229]
    refine pk_le 5 q (fun z => absurd z (by omega)) (fun _ => br_bit (by omega) (fun z => ?_) (fun z => ?_))
    · have hf : gm_F g q i j := Classical.byContradiction fun w => z ((hfe q (by omega)).mpr w)
      rw [ix_55, nI_clamp (show 55 * i + 11 * q + j < 2 ^ 31 by omega), nI_clamp (show q < 2 ^ 31 by omega)]
      exact ⟨vp_in_nI (by omega) (by omega), vp_in_nI (by omega) (by omega), nm_e (nm_r (nI_1 _) (go _ (fun _ => by rw [hs q (by omega) hf, lN_i]) (fun w => absurd hf w)))⟩
    · have hf := (hfe q (by omega)).mp z
      rw [ix_55, nI_clamp (show 55 * i + 11 * q + j < 2 ^ 31 by omega)]
      exact ⟨vp_in_nI (by omega) (by omega), nm_e (nm_r (nI_1 _) (go _ (fun w => absurd w hf) (fun _ => rfl)))⟩
theorem xs_span_199 {post : SX → Prop} {J : Int32 → Int32 → Int32 → Int32 → Int32 → Int32 → Int32 → Int32 → Int32 → Int32 → Int32 → Int32 → (Nat → Int32) → (Nat → Int32) → (Nat → Int32) → (Nat → Int32) → (Nat → Int32) → (Nat → Int32) → (Nat → Int32) → (Nat → Int32) → (Nat → Int32) → (Nat → Int64) → (Nat → Int32) → (Nat → Int32) → (Nat → Int32) → (Nat → Int32) → (Nat → Int64) → (Nat → Int32) → Prop} {x3 : Int32} (G : cp_G g L a_right a_size a_text) (hl : xk_L g a_left) (H : xk_Er g L a_ends i) (hij : i ≤ j) (hjL : j ≤ L) (hder : cp_St f_derived (fun n => n < 5 ∧ gm_D g n i j)) (hfe : cp_St f_endless (fun n => ¬ gm_F g n i j))
    (hT : xk_Sub i j (xk_Tv g at0)) (hA : xk_Sub i j (xk_HA g ah0)) (hR : xk_RI g i j r ah0 at0 a_heights a_trees)
    (hJ : ∀ ah ta az, xk_RI g i j (r + 1) ah0 at0 ah ta → J (nI (r + 1)) (nI (gm_P g)) (nI L) f_good f_empty f_used f_known f_firstRow f_firstFar f_columns f_endless f_derived a_left a_right a_size a_text a_ends ta ah a_chosen a_nodes a_values a_far a_op a_constant a_wanted az a_edges) :
    ∀ d q az, q + d = 5 → (∀ n, n < q → az n = 0) → wX_span_199 post J (nI i) (nI j) x3 (nI r) (nI (gm_P g)) (nI L) f_good f_empty f_used f_known f_firstRow f_firstFar f_columns f_endless f_derived (d + 1) (nI q) a_left a_right a_size a_text a_ends a_trees a_heights a_chosen a_nodes a_values a_far a_op a_constant a_wanted az a_edges := by
  have hL := cp_G_L G
  intro d
  induction d with
  | zero =>
    intro q az hq hz
    obtain ⟨⟨hv, hv1, hv2⟩, hfr, ⟨x, hX, hx⟩, hm3, hfr2⟩ := hR
    have hT' : xk_Sub i j (xk_Tv g a_trees) := fun n a b h1 h2 h3 h4 h5 => by
      have t := hT n a b h1 h2 h3 h4 h5
      unfold xk_Tv at t ⊢
      rw [hfr2 _ (fun q hq => by omega)]
      exact t
    rw [wX_span_199]
    refine pk_le 5 q (fun _ => xs_divide0 (x := x) (ah0 := ah0) (r := r) G hl H hij hjL hder hT' hx hX hA ⟨⟨hv, hv1, hv2⟩, hfr, fun n hn _ => ?_⟩ (fun ah az' hI => ⟨6, ?_⟩)) (fun z => absurd z (by omega))
    · rw [hz n (by omega), xk_SS_0]; rfl
    · obtain ⟨⟨hv', hv1', hv2'⟩, hfr', hsum⟩ := hI
      refine xs_span_229 (r := r) (at0 := at0) (x' := fun n => gm_Ms g (xk_xN g i j x) n i j) (by omega) (by omega) hfe (fun n _ => gm_Ms_le _) (fun n hn hf => ?_) (fun ta h1 h2 h3 => hJ ah ta az' ⟨⟨hv', xk_Hv_end (cp_G_ok G) hv1', hv2'⟩, hfr', ⟨_, xk_Xv_step (cp_G_ok G) hX, h1⟩, fun n hn hf _ => h2 n hn hf, h3⟩) 5 0 a_trees rfl (fun n hn => absurd hn (by omega)) (fun n hn => absurd hn (by omega)) hfr2
      rw [hsum n hn hf, xk_SS_all]
  | succ d ih =>
    intro q az hq hz
    rw [wX_span_199]
    refine pk_le 5 q (fun z => absurd z (by omega)) (fun _ => ?_)
    rw [nI_clamp (show q < 2 ^ 31 by omega)]
    refine ⟨vp_in_nI (by omega) (by omega), nm_e (nm_r (nI_1 _) (ih (q + 1) _ (by omega) fun n hn => ?_))⟩
    by_cases e : n = q
    · subst e; exact pk_uLs
    · rw [pk_uLn e]; exact hz n (by omega)
theorem xs_span_190 {post : SX → Prop} {R : Nat} (hR5 : R ≤ 5) (G : cp_G g L a_right a_size a_text) (hl : xk_L g a_left) (H : xk_Er g L a_ends i) (hij : i ≤ j) (hjL : j ≤ L) (hder : cp_St f_derived (fun n => n < 5 ∧ gm_D g n i j)) (hfe : cp_St f_endless (fun n => ¬ gm_F g n i j))
    (hT : xk_Sub i j (xk_Tv g at0)) (hA : xk_Sub i j (xk_HA g ah0))
    (hE : ∀ ah ta az, xk_RI g i j R ah0 at0 ah ta → ∃ n292 : Nat, wX_span_292 post (nI i) (nI j) (nI R) n292 0 (nI (gm_P g)) (nI L) f_good f_empty f_used f_known f_firstRow f_firstFar f_columns f_endless f_derived a_left a_right a_size a_text a_ends ta ah a_chosen a_nodes a_values a_far a_op a_constant a_wanted az a_edges) :
    ∀ d r ah ta az, r + d = R → xk_RI g i j r ah0 at0 ah ta → wX_span_190 post (nI i) (nI j) (nI R) (d + 1) (nI r) (nI (gm_P g)) (nI L) f_good f_empty f_used f_known f_firstRow f_firstFar f_columns f_endless f_derived a_left a_right a_size a_text a_ends ta ah a_chosen a_nodes a_values a_far a_op a_constant a_wanted az a_edges := by
  intro d
  induction d with
  | zero =>
    intro r ah ta az hr hI
    rw [wX_span_190]
    exact pk_le R r (fun _ => hE ah ta az (by rw [show r = R by omega] at hI; exact hI)) (fun z => absurd z (by omega))
  | succ d ih =>
    intro r ah ta az hr hI
    rw [wX_span_190]
    exact pk_le R r (fun z => absurd z (by omega)) (fun _ => ⟨6, xs_span_199 G hl H hij hjL hder hfe hT hA hI (fun ah' ta' az' hI' => ih (r + 1) ah' ta' az' (by omega) hI') 5 0 az rfl (fun n hn => absurd hn (by omega))⟩)
end
end
section
/-! X: cut, choose -/
theorem cp_pl {k : Nat} (h : k < 2 ^ 30) : nI k + (-1) < nI k := by
  cases k with
  | zero => decide
  | succ k => rw [pk_m1]; exact nI_lt (by omega) (by omega)
theorem cp_ch : ∀ p, p < 12 → ∀ k, k < 11 → ∀ m, m < 11 → (nI p ||| (nI k <<< ((4 : Int32) &&& 31))) ||| (nI m <<< ((8 : Int32) &&& 31)) = nI (p + 16 * k + 256 * m) := by decide +kernel
theorem cp_ch0 : ∀ p, p < 12 → ∀ k, k < 11 → ∀ m, m < 11 → nI (p + 16 * k + 256 * m) &&& 15 = nI p := by decide +kernel
theorem cp_ch1 : ∀ p, p < 12 → ∀ k, k < 11 → ∀ m, m < 11 → (nI (p + 16 * k + 256 * m) >>> ((4 : Int32) &&& 31)) &&& 15 = nI k := by decide +kernel
theorem cp_ch2 : ∀ p, p < 12 → ∀ k, k < 11 → ∀ m, m < 11 → nI (p + 16 * k + 256 * m) >>> ((8 : Int32) &&& 31) = nI m := by decide +kernel
section
variable {g : gm_G} {L : Nat} {f_good f_empty f_used f_known f_firstRow f_firstFar f_columns f_endless f_derived : Int32} {a_left a_right a_size a_text a_ends a_trees a_heights a_chosen a_nodes a_far a_op a_constant a_wanted a_edges : Nat → Int32} {a_values a_sum : Nat → Int64} {c i j p n k m a b i0 r hi : Nat}
/-- heights of all parts of the span, and of the span itself -/
def xk_HW (g : gm_G) (i j : Nat) (ah : Nat → Int32) : Prop := ∀ n a b, n < 5 → i ≤ a → a ≤ b → b ≤ j → xk_HA g ah n a b
theorem xs_flatT {post : Int32 → Prop} (G : cp_G g L a_right a_size a_text) (hH : xk_HW g i j a_heights) (hjL : j ≤ L) (hc : c < 15) (ha : i ≤ a) (hab : a ≤ b) (hb : b ≤ j) (hs : gm_Sp g (gm_D g) c a b)
    (h : ∀ x, x ≤ 55 → (x ≤ hi ↔ gm_Sp g (gm_T g hi) c a b) → post (nI x)) : wpX_flat post (nI (gm_P g), nI L, f_good, f_empty, f_used, f_known, f_firstRow, f_firstFar, f_columns, f_endless, f_derived, a_left, a_right, a_size, a_text, a_ends, a_trees, a_heights, a_chosen, a_nodes, a_values, a_far, a_op, a_constant, a_wanted, a_sum, a_edges) (cp_Sy c) (nI a) (nI b) := by
  have hL := cp_G_L G
  have hB := gm_Ht_B (g := g) (n := c - 10) (i := a) (j := b) (cp_G_ok G) (by omega)
  refine xs_flatN (x := gm_Ht g (c - 10) a b) G hc (by omega) (by omega) (fun h10 => hH (c - 10) a b (by omega) ha hab hb) (by omega) (fun _ => h _ ?_ ?_) (fun z => absurd ?_ z)
  · by_cases h10 : 10 ≤ c
    · rw [if_pos h10]; exact hB
    · rw [if_neg h10]; omega
  · by_cases h10 : 10 ≤ c
    · rw [if_pos h10, gm_Sp_n h10, gm_T_iff]
      have := gm_D_iff.mp ((gm_Sp_n h10).mp hs)
      exact ⟨fun z => ⟨this, z⟩, fun z => z.2⟩
    · rw [if_neg h10]
      exact ⟨fun _ => gm_Sp_mono (fun z => absurd z h10) hs, fun _ => by omega⟩
  · intro h10
    have := gm_D_iff.mp ((gm_Sp_n h10).mp hs)
    omega
theorem gm_SpTD (h : gm_Sp g (gm_T g hi) c a b) : gm_Sp g (gm_D g) c a b := gm_Sp_mono (fun _ t => gm_TD t) h
theorem xs_cut {post : Int32 → Prop} (G : cp_G g L a_right a_size a_text) (H : xk_Er g L a_ends i) (hH : xk_HW g i j a_heights) (hjL : j ≤ L) (hp : p < gm_P g) (hik : i ≤ k) (hkj : k ≤ j) (hhi : hi ≤ 60) (hs : gm_Sp g (gm_D g) (gm_s g (3 * p)) i k)
    (h1 : ∀ m, gm_Dv g (gm_T g hi) p i k m j → (∀ m', gm_Dv g (gm_T g hi) p i k m' j → m' ≤ m) → post (nI m)) (h0 : (∀ m, ¬ gm_Dv g (gm_T g hi) p i k m j) → post (-1)) : wpX_cut post (nI (gm_P g), nI L, f_good, f_empty, f_used, f_known, f_firstRow, f_firstFar, f_columns, f_endless, f_derived, a_left, a_right, a_size, a_text, a_ends, a_trees, a_heights, a_chosen, a_nodes, a_values, a_far, a_op, a_constant, a_wanted, a_sum, a_edges) (nI p) (nI i) (nI k) (nI j) (nI hi) := by
  have h12 := cp_G_P G
  have hL := cp_G_L G
  have ok := cp_G_ok G
  have c0 : gm_s g (3 * p) < 15 := gm_ok_15 ok hp (show 0 < 3 by omega)
  have c1 := gm_ok_15 ok hp (show 1 < 3 by omega)
  have c2 := gm_ok_15 ok hp (show 2 < 3 by omega)
  have lp : gm_Sp g (gm_T g hi) (gm_s g (3 * p)) i k → ∀ d m1, k + d = m1 → m1 ≤ j + 1 → (∀ m', m1 ≤ m' → ¬ gm_Dv g (gm_T g hi) p i k m' j) → wX_cut_53 post (nI k) (nI j) (nI hi) (cp_Sy (gm_s g (3 * p + 1))) (cp_Sy (gm_s g (3 * p + 2))) (nI (gm_P g)) (nI L) f_good f_empty f_used f_known f_firstRow f_firstFar f_columns f_endless f_derived a_left a_right a_size a_text a_ends a_trees a_heights a_chosen a_nodes a_values a_far a_op a_constant a_wanted a_sum a_edges (d + 1) (nI m1 + (-1)) := by
    intro hst d
    induction d with
    | zero =>
      intro m1 hm hm2 hn
      rw [wX_cut_53]
      have e : m1 = k := by omega
      subst e
      refine br_t (cp_pl (by omega)) (h0 fun m hd => ?_)
      exact hn m hd.2.1 hd
    | succ d ih =>
      intro m1 hm hm2 hn
      obtain ⟨m, rfl⟩ : ∃ m, m1 = m + 1 := ⟨m1 - 1, by omega⟩
      have next : ¬ gm_Dv g (gm_T g hi) p i k m j → wX_cut_53 post (nI k) (nI j) (nI hi) (cp_Sy (gm_s g (3 * p + 1))) (cp_Sy (gm_s g (3 * p + 2))) (nI (gm_P g)) (nI L) f_good f_empty f_used f_known f_firstRow f_firstFar f_columns f_endless f_derived a_left a_right a_size a_text a_ends a_trees a_heights a_chosen a_nodes a_values a_far a_op a_constant a_wanted a_sum a_edges (d + 1) (nI m + (-1)) := fun hx => ih m (by omega) (by omega) fun m' hm' => by
        rcases Nat.lt_or_ge m m' with z | z
        · exact hn m' z
        · have : m' = m := by omega
          subst this; exact hx
      rw [pk_m1, wX_cut_53]
      refine pk_lt m k (fun z => absurd z (by omega)) (fun _ => xs_spansD G H c1 hik (by omega) (by omega) (fun s1 => br_f (by decide) (xs_spansD G H c2 (by omega) (by omega) (by omega) (fun s2 => br_f (by decide) (xs_flatT (hi := hi) G hH hjL c1 hik (by omega) (by omega) s1 fun x hx ex => pk_lt hi x (fun z => nm_e (next fun hd => ?_)) (fun z => xs_flatT (hi := hi) G hH hjL c2 (by omega) (by omega) (Nat.le_refl j) s2 fun y hy ey => pk_lt hi y (fun w => nm_e (next fun hd => ?_)) (fun w => h1 m ⟨hik, by omega, by omega, hst, ex.mp z, ey.mp w⟩ fun m' hd' => ?_)))) (fun s2 => br_t rfl (nm_e (next fun hd => s2 (gm_SpTD hd.2.2.2.2.2)))))) (fun s1 => br_t rfl (nm_e (next fun hd => s1 (gm_SpTD hd.2.2.2.2.1)))))
      · have := ex.mpr hd.2.2.2.2.1; omega
      · have := ey.mpr hd.2.2.2.2.2; omega
      · exact Nat.le_of_not_lt fun q => hn m' q hd'
  unfold wpX_cut
  dsimp only
  rw [ix_31, ix_32, ix_3, nI_clamp (show 3 * p + 1 < 2 ^ 31 by omega), nI_clamp (show 3 * p + 2 < 2 ^ 31 by omega), nI_clamp (show 3 * p < 2 ^ 31 by omega), cp_G_rt G hp (show 1 < 3 by omega), cp_G_rt G hp (show 2 < 3 by omega), cp_G_r0 G hp]
  refine ⟨vp_in_nI (by omega) (by omega), nm_e ⟨vp_in_nI (by omega) (by omega), nm_e ⟨vp_in_nI (by omega) (by omega), nm_e (xs_flatT (hi := hi) G hH hjL c0 (Nat.le_refl i) hik hkj hs fun x hx ex => pk_le x hi (fun z => ⟨j + 1 - k + 1, ?_⟩) (fun z => h0 fun m hd => ?_))⟩⟩⟩
  · have := lp (ex.mp z) (j + 1 - k) (j + 1) (by omega) (Nat.le_refl _) (fun m' hm' hd => by have := hd.2.2.1; omega)
    rw [pk_m1] at this
    exact this
  · have := ex.mpr hd.2.2.2.1; omega
theorem xs_choose {post : SX → Prop} (G : cp_G g L a_right a_size a_text) (hl : xk_L g a_left) (H : xk_Er g L a_ends i) (hH : xk_HW g i j a_heights) (hij : i ≤ j) (hjL : j ≤ L) (hn : n < 5) (h0 : 0 < gm_Ht g n i j)
    (h : ∀ p u v, gm_IsC g n i j p u v → post (nI (gm_P g), nI L, f_good, f_empty, f_used, f_known, f_firstRow, f_firstFar, f_columns, f_endless, f_derived, a_left, a_right, a_size, a_text, a_ends, a_trees, a_heights, upd a_chosen (55 * i + 11 * n + j) (nI (p + 16 * u + 256 * v)), a_nodes, a_values, a_far, a_op, a_constant, a_wanted, a_sum, a_edges)) : wpX_choose post (nI (gm_P g), nI L, f_good, f_empty, f_used, f_known, f_firstRow, f_firstFar, f_columns, f_endless, f_derived, a_left, a_right, a_size, a_text, a_ends, a_trees, a_heights, a_chosen, a_nodes, a_values, a_far, a_op, a_constant, a_wanted, a_sum, a_edges) (nI n) (nI i) (nI j) := by
  have h12 := cp_G_P G
  have hL := cp_G_L G
  have ok := cp_G_ok G
  have hB := gm_Ht_B (g := g) (n := n) (i := i) (j := j) ok (by omega)
  have lp : ∀ p, p < gm_P g → gm_l g p = n → (∀ p' u v, p' < p → gm_l g p' = n → ¬ gm_Dv g (gm_T g (gm_Ht g n i j - 1)) p' i u v j) → ∀ J : Int32 → Prop, ((∀ u v, ¬ gm_Dv g (gm_T g (gm_Ht g n i j - 1)) p i u v j) → J (nI (p + 1))) → ∀ d k1, i + d = k1 → k1 ≤ j + 1 → (∀ u v, k1 ≤ u → ¬ gm_Dv g (gm_T g (gm_Ht g n i j - 1)) p i u v j) →
      wX_choose_42 post J (nI n) (nI i) (nI j) (nI (55 * i + 11 * n + j)) (nI p) (nI (gm_P g)) (nI L) f_good f_empty f_used f_known f_firstRow f_firstFar f_columns f_endless f_derived a_left a_right a_size a_text a_ends a_trees a_heights a_chosen a_nodes a_values a_far a_op a_constant a_wanted a_sum a_edges (d + 1) (nI k1 + (-1)) := by
    intro p hp hlp hbef J hJ d
    have c0 : gm_s g (3 * p) < 15 := gm_ok_15 ok hp (show 0 < 3 by omega)
    induction d with
    | zero =>
      intro k1 hk hk2 hx
      rw [wX_choose_42]
      have e : k1 = i := by omega
      subst e
      exact br_t (cp_pl (by omega)) (nm_r (nI_1 _) (hJ fun u v hd => hx u v hd.1 hd))
    | succ d ih =>
      intro k1 hk hk2 hx
      obtain ⟨k, rfl⟩ : ∃ k, k1 = k + 1 := ⟨k1 - 1, by omega⟩
      have next : (∀ v, ¬ gm_Dv g (gm_T g (gm_Ht g n i j - 1)) p i k v j) → wX_choose_42 post J (nI n) (nI i) (nI j) (nI (55 * i + 11 * n + j)) (nI p) (nI (gm_P g)) (nI L) f_good f_empty f_used f_known f_firstRow f_firstFar f_columns f_endless f_derived a_left a_right a_size a_text a_ends a_trees a_heights a_chosen a_nodes a_values a_far a_op a_constant a_wanted a_sum a_edges (d + 1) (nI k + (-1)) := fun hy => ih k (by omega) (by omega) fun u v hu => by
        rcases Nat.lt_or_ge k u with z | z
        · exact hx u v z
        · have : u = k := by omega
          subst this; exact hy v
      rw [pk_m1, wX_choose_42]
      refine pk_lt k i (fun z => absurd z (by omega)) (fun _ => ?_)
      rw [ix_3, nI_clamp (show 3 * p < 2 ^ 31 by omega), cp_G_r0 G hp, nI_clamp (show 55 * i + 11 * n + j < 2 ^ 31 by omega), hH n i j hn (Nat.le_refl _) hij (Nat.le_refl _), show nI (gm_Ht g n i j) - 1 = nI (gm_Ht g n i j - 1) from pk_sub (b := 1) h0]
      refine ⟨vp_in_nI (by omega) (by omega), xs_spansD G H c0 (Nat.le_refl _) (by omega) (by omega) (fun hs => br_f (by decide) ⟨vp_in_nI (by omega) (by omega), xs_cut G H hH hjL hp (by omega) (by omega) (by omega) hs (fun m hd hmx => ?_) (fun hno => ?_)⟩) (fun hs => br_t rfl ?_)⟩
      · have h3 := hd.2.2.1
        unfold wX_choose_90
        rw [nI_clamp (show 55 * i + 11 * n + j < 2 ^ 31 by omega), cp_ch p (by omega) k (by omega) m (by omega), cp_n16 (cp_t16 (by omega))]
        refine br_t (nI_pos' (by omega)) ⟨vp_in_nI (by omega) (by omega), nm_e (h p k m ⟨hp, hlp, hd, hbef, fun u' v' hd' => ?_⟩)⟩
        rcases Nat.lt_or_ge k u' with z | z
        · exact absurd hd' (hx u' v' z)
        · rcases Nat.lt_or_ge u' k with w | w
          · exact Or.inl w
          · have : u' = k := by omega
            subst this; exact Or.inr ⟨rfl, hmx v' hd'⟩
      · unfold wX_choose_90
        exact br_f (by decide) (nm_e (next hno))
      · unfold wX_choose_90
        exact br_f (by decide) (nm_e (next fun v hd => hs (gm_SpTD hd.2.2.2.1)))
  have lp2 : ∀ d p, p + d = gm_P g → (∀ p' u v, p' < p → gm_l g p' = n → ¬ gm_Dv g (gm_T g (gm_Ht g n i j - 1)) p' i u v j) → wX_choose_16 post (nI n) (nI i) (nI j) (nI (55 * i + 11 * n + j)) (nI (gm_P g)) (nI L) f_good f_empty f_used f_known f_firstRow f_firstFar f_columns f_endless f_derived a_left a_right a_size a_text a_ends a_trees a_heights a_chosen a_nodes a_values a_far a_op a_constant a_wanted a_sum a_edges (d + 1) (nI p) := by
    intro d
    induction d with
    | zero =>
      intro p hp hbef
      obtain ⟨q, hq, hlq, u, v, hd⟩ := gm_Ht_inv h0
      exact absurd hd (hbef q u v (by omega) hlq)
    | succ d ih =>
      intro p hp hbef
      have hp' : p < gm_P g := by omega
      have hl5 := gm_ok_l ok hp'
      rw [wX_choose_16]
      refine pk_le (gm_P g) p (fun z => absurd z (by omega)) (fun _ => ?_)
      rw [nI_clamp (show p < 2 ^ 31 by omega), hl p hp']
      refine ⟨vp_in_nI (by omega) (by omega), pk_eq (gm_l g p) n (fun e => ⟨j + 1 - i + 1, ?_⟩) (fun e => nm_r (nI_1 _) (ih (p + 1) (by omega) fun p' u v hlt hl' => ?_))⟩
      · have := lp p hp' e hbef (wX_choose_16 post (nI n) (nI i) (nI j) (nI (55 * i + 11 * n + j)) (nI (gm_P g)) (nI L) f_good f_empty f_used f_known f_firstRow f_firstFar f_columns f_endless f_derived a_left a_right a_size a_text a_ends a_trees a_heights a_chosen a_nodes a_values a_far a_op a_constant a_wanted a_sum a_edges (d + 1)) (fun hno => ih (p + 1) (by omega) fun p' u v hlt hl' => by
          rcases Nat.lt_or_ge p' p with z | z
          · exact hbef p' u v z hl'
          · have : p' = p := by omega
            subst this; exact hno u v) (j + 1 - i) (j + 1) (by omega) (Nat.le_refl _) (fun u v hu hd => by have := hd.2.1; have := hd.2.2.1; omega)
        rw [pk_m1] at this
        exact this
      · rcases Nat.lt_or_ge p' p with z | z
        · exact hbef p' u v z hl'
        · have : p' = p := by omega
          subst this; exact absurd hl' e
  unfold wpX_choose
  exact nm_r ix_55 ⟨gm_P g + 1, lp2 (gm_P g) 0 (by omega) (fun p' u v hlt => absurd hlt (by omega))⟩
end
end
section
/-! X: act, build -/
section
variable {g : gm_G} {L : Nat} {f_good f_empty f_used f_known f_firstRow f_firstFar f_columns f_endless f_derived : Int32} {a_left a_right a_size a_text a_ends a_trees a_heights a_chosen a_nodes a_far a_op a_constant a_wanted a_edges : Nat → Int32} {a_values a_sum : Nat → Int64} {c i j p n k m a b i0 r u v : Nat} {op : Nat → Nat} {cn : Nat → Int32}
theorem xs_act {post : Int64 → Prop} {x y z : Int64} {o s : Nat} (hp : p < 12) (ho : o ≤ 7) (hs : s ≤ 3) (ha : a_op p = nI o) (hz : a_size p = nI s) (h : post (cp_act o s (a_constant p).toInt64 x y z)) : wpX_act post (nI (gm_P g), nI L, f_good, f_empty, f_used, f_known, f_firstRow, f_firstFar, f_columns, f_endless, f_derived, a_left, a_right, a_size, a_text, a_ends, a_trees, a_heights, a_chosen, a_nodes, a_values, a_far, a_op, a_constant, a_wanted, a_sum, a_edges) (nI p) x y z := by
  have last : o = 7 → ((nI s = 0 → post (a_constant p).toInt64) ∧ (¬ nI s = 0 → ((x ≤ (a_constant p).toInt64 → post x) ∧ (¬ x ≤ (a_constant p).toInt64 → ((nI s = 1 → post x) ∧ (¬ nI s = 1 → ((nI s = 2 → post y) ∧ (¬ nI s = 2 → post z)))))))) := by
    intro e
    subst e
    unfold cp_act at h
    simp only [show ¬ (7 : Nat) = 0 by omega, show ¬ (7 : Nat) = 1 by omega, show ¬ (7 : Nat) = 2 by omega, show ¬ (7 : Nat) = 3 by omega, show ¬ (7 : Nat) = 4 by omega, show ¬ (7 : Nat) = 5 by omega, show ¬ (7 : Nat) = 6 by omega, if_false] at h
    refine pk_eq s 0 (fun e => ?_) (fun e => br_c (fun q => ?_) (fun q => pk_eq s 1 (fun e1 => ?_) (fun e1 => pk_eq s 2 (fun e2 => ?_) (fun e2 => ?_))))
    · rw [if_pos e] at h; exact h
    · rw [if_neg e, if_pos (Or.inl q)] at h; exact h
    · rw [if_neg e, if_pos (Or.inr e1)] at h; exact h
    · rw [if_neg e, if_neg (fun w => w.elim q e1), if_pos e2] at h; exact h
    · rw [if_neg e, if_neg (fun w => w.elim q e1), if_neg e2] at h; exact h
  unfold wpX_act
  dsimp only
  rw [nI_clamp (show p < 2 ^ 31 by omega), ha, hz]
  refine ⟨vp_in_nI (by omega) (by omega), nm_e ⟨vp_in_nI (by omega) (by omega), nm_e ⟨vp_in_nI (by omega) (by omega), nm_e (br_f (nI_pos (by omega)) (pk_lt 6 o (fun e => last (by omega)) (fun e => pk_eq o 0 (fun e0 => ?_) (fun e0 => pk_eq o 1 (fun e1 => ?_) (fun e1 => pk_eq o 2 (fun e2 => ?_) (fun e2 => pk_eq o 3 (fun e3 => ?_) (fun e3 => pk_eq o 4 (fun e4 => ?_) (fun e4 => pk_eq o 5 (fun e5 => ?_) (fun e5 => pk_eq o 6 (fun e6 => ?_) (fun e6 => ?_))))))))))⟩⟩⟩
  · subst e0; exact h
  · subst e1; exact h
  · subst e2
    unfold cp_act at h
    simp only [show ¬ (2 : Nat) = 0 by omega, show ¬ (2 : Nat) = 1 by omega, if_false, if_true] at h
    have w103 : ∀ q1 q2 : Int64, post ((q2 * q1) * (if 2 < s then z else 1)) → wX_act_103 post z (nI s) q1 q2 (nI (gm_P g)) (nI L) f_good f_empty f_used f_known f_firstRow f_firstFar f_columns f_endless f_derived a_left a_right a_size a_text a_ends a_trees a_heights a_chosen a_nodes a_values a_far a_op a_constant a_wanted a_sum a_edges := by
      intro q1 q2 hq
      unfold wX_act_103
      refine pk_le s 2 (fun w => ?_) (fun w => ?_)
      · rw [if_neg (show ¬ 2 < s by omega)] at hq; exact hq
      · rw [if_pos (show 2 < s by omega)] at hq; exact hq
    have w90 : ∀ q1 q2 : Int64, post (((q2 * q1) * (if 1 < s then y else 1)) * (if 2 < s then z else 1)) → wX_act_90 post y z (nI s) q1 q2 (nI (gm_P g)) (nI L) f_good f_empty f_used f_known f_firstRow f_firstFar f_columns f_endless f_derived a_left a_right a_size a_text a_ends a_trees a_heights a_chosen a_nodes a_values a_far a_op a_constant a_wanted a_sum a_edges := by
      intro q1 q2 hq
      unfold wX_act_90
      refine pk_le s 1 (fun w => w103 _ _ ?_) (fun w => w103 _ _ ?_)
      · rw [if_neg (show ¬ 1 < s by omega)] at hq; exact hq
      · rw [if_pos (show 1 < s by omega)] at hq; exact hq
    refine pk_le s 0 (fun w => w90 _ _ ?_) (fun w => w90 _ _ ?_)
    · rw [if_neg (show ¬ 0 < s by omega)] at h; exact h
    · rw [if_pos (show 0 < s by omega)] at h; exact h
  · subst e3; exact h
  · subst e4
    unfold cp_act at h
    simp only [show ¬ (4 : Nat) = 0 by omega, show ¬ (4 : Nat) = 1 by omega, show ¬ (4 : Nat) = 2 by omega, show ¬ (4 : Nat) = 3 by omega, if_false, if_true] at h
    have st : ∀ (N k : Nat) (acc : Int64), k ≤ 3 → (s ≤ k → post acc) → (k < s → wX_act_132 post x y z (nI s) (nI (gm_P g)) (nI L) f_good f_empty f_used f_known f_firstRow f_firstFar f_columns f_endless f_derived a_left a_right a_size a_text a_ends a_trees a_heights a_chosen a_nodes a_values a_far a_op a_constant a_wanted a_sum a_edges N (10 * acc + (if k = 0 then x else if k = 1 then y else z)) (nI (k + 1))) → wX_act_132 post x y z (nI s) (nI (gm_P g)) (nI L) f_good f_empty f_used f_known f_firstRow f_firstFar f_columns f_endless f_derived a_left a_right a_size a_text a_ends a_trees a_heights a_chosen a_nodes a_values a_far a_op a_constant a_wanted a_sum a_edges (N + 1) acc (nI k) := by
      intro N k acc hk h1 h2
      rw [wX_act_132]
      refine pk_le s k (fun w => h1 w) (fun w => pk_eq k 0 (fun e => nm_e (nm_r (nI_1 _) ?_)) (fun e => pk_eq k 1 (fun e1 => nm_e (nm_r (nI_1 _) ?_)) (fun e1 => nm_e (nm_r (nI_1 _) ?_))))
      · have := h2 w; rw [if_pos e] at this; exact this
      · have := h2 w; rw [if_neg e, if_pos e1] at this; exact this
      · have := h2 w; rw [if_neg e, if_neg e1] at this; exact this
    refine ⟨4, st 3 0 _ (by omega) (fun w => ?_) (fun w => st 2 1 _ (by omega) (fun w1 => ?_) (fun w1 => st 1 2 _ (by omega) (fun w2 => ?_) (fun w2 => st 0 3 _ (by omega) (fun w3 => ?_) (fun w3 => absurd w3 (by omega)))))⟩
    · rw [if_pos (show s = 0 by omega)] at h; exact h
    · rw [if_neg (show ¬ s = 0 by omega), if_pos (show s = 1 by omega)] at h; exact h
    · rw [if_neg (show ¬ s = 0 by omega), if_neg (show ¬ s = 1 by omega), if_pos (show s = 2 by omega)] at h; exact h
    · rw [if_neg (show ¬ s = 0 by omega), if_neg (show ¬ s = 1 by omega), if_neg (show ¬ s = 2 by omega)] at h; exact h
  · subst e5
    unfold cp_act at h
    simp only [show ¬ (5 : Nat) = 0 by omega, show ¬ (5 : Nat) = 1 by omega, show ¬ (5 : Nat) = 2 by omega, show ¬ (5 : Nat) = 3 by omega, show ¬ (5 : Nat) = 4 by omega, if_false, if_true] at h
    have w212 : ∀ q : Int64, post (if 2 < s ∧ ¬ z ≤ q then z else q) → wX_act_212 post z q (nI s) (nI (gm_P g)) (nI L) f_good f_empty f_used f_known f_firstRow f_firstFar f_columns f_endless f_derived a_left a_right a_size a_text a_ends a_trees a_heights a_chosen a_nodes a_values a_far a_op a_constant a_wanted a_sum a_edges := by
      intro q hq
      unfold wX_act_212
      refine pk_le s 2 (fun w => ?_) (fun w => br_c (fun w1 => ?_) (fun w1 => ?_))
      · rw [if_neg (fun t => absurd t.1 (by omega))] at hq; exact hq
      · rw [if_neg (fun t => t.2 w1)] at hq; exact hq
      · rw [if_pos ⟨w, w1⟩] at hq; exact hq
    have w194 : ∀ q : Int64, post (if 2 < s ∧ ¬ z ≤ (if 1 < s ∧ ¬ y ≤ q then y else q) then z else (if 1 < s ∧ ¬ y ≤ q then y else q)) → wX_act_194 post y z q (nI s) (nI (gm_P g)) (nI L) f_good f_empty f_used f_known f_firstRow f_firstFar f_columns f_endless f_derived a_left a_right a_size a_text a_ends a_trees a_heights a_chosen a_nodes a_values a_far a_op a_constant a_wanted a_sum a_edges := by
      intro q hq
      unfold wX_act_194
      refine pk_le s 1 (fun w => w212 _ ?_) (fun w => br_c (fun w1 => w212 _ ?_) (fun w1 => w212 _ ?_))
      · rw [if_neg (show ¬ (1 < s ∧ ¬ y ≤ q) from fun t => absurd t.1 (by omega))] at hq; exact hq
      · rw [if_neg (show ¬ (1 < s ∧ ¬ y ≤ q) from fun t => t.2 w1)] at hq; exact hq
      · rw [if_pos (show (1 < s ∧ ¬ y ≤ q) from ⟨w, w1⟩)] at hq; exact hq
    refine pk_le s 0 (fun w => w194 _ ?_) (fun w => br_c (fun w1 => w194 _ ?_) (fun w1 => w194 _ ?_))
    · rw [if_neg (show ¬ (0 < s ∧ ¬ x ≤ (a_constant p).toInt64) from fun t => absurd t.1 (by omega))] at h; exact h
    · rw [if_neg (show ¬ (0 < s ∧ ¬ x ≤ (a_constant p).toInt64) from fun t => t.2 w1)] at h; exact h
    · rw [if_pos (show (0 < s ∧ ¬ x ≤ (a_constant p).toInt64) from ⟨w, w1⟩)] at h; exact h
  · subst e6
    unfold cp_act at h
    simp only [show ¬ (6 : Nat) = 0 by omega, show ¬ (6 : Nat) = 1 by omega, show ¬ (6 : Nat) = 2 by omega, show ¬ (6 : Nat) = 3 by omega, show ¬ (6 : Nat) = 4 by omega, show ¬ (6 : Nat) = 5 by omega, if_false, if_true] at h
    refine pk_eq s 0 (fun w => ?_) (fun w => nm_e (br_c (fun w1 => ?_) (fun w1 => ⟨w1, ?_⟩)))
    · rw [if_pos w] at h; exact h
    · rw [if_neg w, if_pos w1] at h; exact h
    · rw [if_neg w, if_neg w1] at h; exact h
  · exact absurd e6 (by omega)
/-- ops and constants -/
def xk_O (g : gm_G) (op : Nat → Nat) (cn : Nat → Int32) (a_op a_constant : Nat → Int32) : Prop := ∀ p, p < gm_P g → op p ≤ 7 ∧ a_op p = nI (op p) ∧ a_constant p = cn p
def xk_Pt (g : gm_G) (Q : Nat → Nat → Nat → Prop) (p i u v j : Nat) : Prop := gm_Sf Q (gm_s g (3 * p)) i u ∧ gm_Sf Q (gm_s g (3 * p + 1)) u v ∧ gm_Sf Q (gm_s g (3 * p + 2)) v j
def xk_Nv (g : gm_G) (an : Nat → Int32) (n a b : Nat) : Prop := an (55 * a + 11 * n + b) = nI (min (gm_N g n a b) 1000000001)
def xk_Vv (g : gm_G) (op : Nat → Nat) (cn : Nat → Int32) (av : Nat → Int64) (n a b : Nat) : Prop := av (55 * a + 11 * n + b) = gm_V g op cn n a b
theorem xk_np {c a b : Nat} (h : gm_Sf (xk_Nv g a_nodes) c a b) : ((if 10 ≤ c then a_nodes (55 * a + 11 * (c - 10) + b) else 0) : Int32).toInt64 = lN (min (gm_Np (gm_N g) c a b) 1000000001) := by
  unfold gm_Np
  by_cases h10 : 10 ≤ c
  · rw [if_pos h10, if_pos h10, h h10, nI_l (by omega)]
  · rw [if_neg h10, if_neg h10]; rfl
theorem xk_wp {c a b : Nat} (h : gm_Sf (xk_Vv g op cn a_values) c a b) : gm_Wp (fun n i j => a_values (55 * i + 11 * n + j)) c a b = gm_Wp (gm_V g op cn) c a b := gm_Wp_eq fun h10 => h h10
theorem xs_build {post : SX → Prop} (G : cp_G g L a_right a_size a_text) (O : xk_O g op cn a_op a_constant) (hij : i ≤ j) (hjL : j ≤ L) (hn : n < 5) (h0 : 0 < gm_Ht g n i j) (hC : gm_IsC g n i j p u v) (hch : a_chosen (55 * i + 11 * n + j) = nI (p + 16 * u + 256 * v))
    (h : ∀ vn vv, (xk_Pt g (xk_Nv g a_nodes) p i u v j → vn = nI (min (gm_N g n i j) 1000000001)) → (xk_Pt g (xk_Vv g op cn a_values) p i u v j → vv = gm_V g op cn n i j) → post (nI (gm_P g), nI L, f_good, f_empty, f_used, f_known, f_firstRow, f_firstFar, f_columns, f_endless, f_derived, a_left, a_right, a_size, a_text, a_ends, a_trees, a_heights, a_chosen, upd a_nodes (55 * i + 11 * n + j) vn, vp_updL a_values (55 * i + 11 * n + j) vv, a_far, a_op, a_constant, a_wanted, a_sum, a_edges)) : wpX_build post (nI (gm_P g), nI L, f_good, f_empty, f_used, f_known, f_firstRow, f_firstFar, f_columns, f_endless, f_derived, a_left, a_right, a_size, a_text, a_ends, a_trees, a_heights, a_chosen, a_nodes, a_values, a_far, a_op, a_constant, a_wanted, a_sum, a_edges) (nI n) (nI i) (nI j) := by
  have h12 := cp_G_P G
  have hL := cp_G_L G
  have ok := cp_G_ok G
  have hp : p < gm_P g := hC.1
  have hd := hC.2.2.1
  have hu := hd.1; have hv := hd.2.1; have hvj := hd.2.2.1
  have c0 : gm_s g (3 * p) < 15 := gm_ok_15 ok hp (show 0 < 3 by omega)
  have c1 := gm_ok_15 ok hp (show 1 < 3 by omega)
  have c2 := gm_ok_15 ok hp (show 2 < 3 by omega)
  have w148 : ∀ vn, (xk_Pt g (xk_Nv g a_nodes) p i u v j → vn = nI (min (gm_N g n i j) 1000000001)) → wX_build_148 post (nI i) (nI j) (nI (55 * i + 11 * n + j)) (nI p) (nI u) (nI v) (cp_Sy (gm_s g (3 * p))) (cp_Sy (gm_s g (3 * p + 1))) (cp_Sy (gm_s g (3 * p + 2))) vn (nI (55 * i + 11 * n + j)) (nI (gm_P g)) (nI L) f_good f_empty f_used f_known f_firstRow f_firstFar f_columns f_endless f_derived a_left a_right a_size a_text a_ends a_trees a_heights a_chosen a_nodes a_values a_far a_op a_constant a_wanted a_sum a_edges := by
    intro vn hvn
    have E : ∀ vv, vv = gm_Vs g op cn (fun n i j => a_values (55 * i + 11 * n + j)) p i u v j → post (nI (gm_P g), nI L, f_good, f_empty, f_used, f_known, f_firstRow, f_firstFar, f_columns, f_endless, f_derived, a_left, a_right, a_size, a_text, a_ends, a_trees, a_heights, a_chosen, upd a_nodes (55 * i + 11 * n + j) vn, vp_updL a_values (55 * i + 11 * n + j) vv, a_far, a_op, a_constant, a_wanted, a_sum, a_edges) := by
      intro vv hvv
      refine h vn vv hvn (fun hP => ?_)
      rw [hvv, gm_V_eq hC h0]
      exact gm_Vs_eq (fun z => hP.1 z) (fun z => hP.2.1 z) (fun z => hP.2.2 z)
    unfold wX_build_148
    rw [nI_clamp (show 55 * i + 11 * n + j < 2 ^ 31 by omega)]
    refine ⟨vp_in_nI (by omega) (by omega), nm_e (xs_worth G c0 (by omega) (by omega) (xs_worth G c1 (by omega) (by omega) (xs_worth G c2 (by omega) (by omega) (br_c (fun q0 => ⟨vp_in_nI (by omega) (by omega), nm_e (E _ ?_)⟩) (fun q0 => br_c (fun q1 => ⟨vp_in_nI (by omega) (by omega), nm_e (E _ ?_)⟩) (fun q1 => br_c (fun q2 => ⟨vp_in_nI (by omega) (by omega), nm_e (E _ ?_)⟩) (fun q2 => xs_act (by omega) (O p hp).1 (gm_sz_le g p) (O p hp).2.1 (cp_G_sz G hp) ⟨vp_in_nI (by omega) (by omega), nm_e (E _ ?_)⟩)))))))⟩
    · exact (if_pos (Or.inl q0)).symm
    · exact (if_pos (Or.inr (Or.inl q1))).symm
    · exact (if_pos (Or.inr (Or.inr q2))).symm
    · rw [(O p hp).2.2]
      exact (if_neg (fun w => w.elim q0 fun w => w.elim q1 q2)).symm
  unfold wpX_build
  dsimp only
  refine nm_r ix_55 ?_
  rw [nI_clamp (show 55 * i + 11 * n + j < 2 ^ 31 by omega), hch, cp_ch0 p (by omega) u (by omega) v (by omega), cp_ch1 p (by omega) u (by omega) v (by omega), cp_ch2 p (by omega) u (by omega) v (by omega)]
  refine ⟨vp_in_nI (by omega) (by omega), nm_e ⟨vp_in_nI (by omega) (by omega), nm_e ⟨vp_in_nI (by omega) (by omega), nm_e ?_⟩⟩⟩
  rw [ix_31, ix_32, ix_3, nI_clamp (show 3 * p + 1 < 2 ^ 31 by omega), nI_clamp (show 3 * p + 2 < 2 ^ 31 by omega), nI_clamp (show 3 * p < 2 ^ 31 by omega), cp_G_rt G hp (show 1 < 3 by omega), cp_G_rt G hp (show 2 < 3 by omega), cp_G_r0 G hp]
  have nod : xk_Pt g (xk_Nv g a_nodes) p i u v j → ((1 + ((if 10 ≤ gm_s g (3 * p) then a_nodes (55 * i + 11 * (gm_s g (3 * p) - 10) + u) else 0) : Int32).toInt64) + ((if 10 ≤ gm_s g (3 * p + 1) then a_nodes (55 * u + 11 * (gm_s g (3 * p + 1) - 10) + v) else 0) : Int32).toInt64) + ((if 10 ≤ gm_s g (3 * p + 2) then a_nodes (55 * v + 11 * (gm_s g (3 * p + 2) - 10) + j) else 0) : Int32).toInt64 = lN (1 + min (gm_Np (gm_N g) (gm_s g (3 * p)) i u) 1000000001 + min (gm_Np (gm_N g) (gm_s g (3 * p + 1)) u v) 1000000001 + min (gm_Np (gm_N g) (gm_s g (3 * p + 2)) v j) 1000000001) := by
    intro hP
    rw [xk_np hP.1, xk_np hP.2.1, xk_np hP.2.2, show (1 : Int64) = lN 1 from rfl, lN_add, lN_add, lN_add]
  refine ⟨vp_in_nI (by omega) (by omega), nm_e ⟨vp_in_nI (by omega) (by omega), nm_e ⟨vp_in_nI (by omega) (by omega), nm_e (xs_inside G c0 (by omega) (by omega) (xs_inside G c1 (by omega) (by omega) (xs_inside G c2 (by omega) (by omega) (nm_e (br_c (fun q => w148 _ fun hP => ?_) (fun q => w148 _ fun hP => ?_))))))⟩⟩⟩
  · rw [nod hP, cp_1e9, pk_lLE (by omega) (by omega)] at q
    rw [nod hP, lN_i, gm_N_eq hC h0]
    unfold gm_Ns
    exact congrArg nI (by omega)
  · rw [nod hP, cp_1e9, pk_lLE (by omega) (by omega)] at q
    rw [gm_N_eq hC h0]
    unfold gm_Ns
    rw [Nat.min_eq_right (by omega)]; rfl
end
end
section
/-! X: span, row, rowsTo -/
def xk_Cl (g : gm_G) (op : Nat → Nat) (cn : Nat → Int32) (ta ah ac an : Nat → Int32) (av : Nat → Int64) (n i j : Nat) : Prop :=
  xk_Tv g ta n i j ∧ xk_HA g ah n i j ∧
  (0 < gm_Ht g n i j → (∀ p u v, gm_IsC g n i j p u v → ac (55 * i + 11 * n + j) = nI (p + 16 * u + 256 * v)) ∧ xk_Nv g an n i j ∧ xk_Vv g op cn av n i j) ∧
  (gm_Ht g n i j = 0 → an (55 * i + 11 * n + j) = 0 ∧ av (55 * i + 11 * n + j) = cp_NONE)
/-- the cells behind row i, and those of row i before j -/
def xk_V (g : gm_G) (op : Nat → Nat) (cn : Nat → Int32) (L i j : Nat) (ta ah ac an : Nat → Int32) (av : Nat → Int64) : Prop :=
  ∀ n a b, n < 5 → i ≤ a → a ≤ b → b ≤ L → (i < a ∨ b < j) → xk_Cl g op cn ta ah ac an av n a b
def xk_Fr (i j : Nat) (a a0 : Nat → Int32) : Prop := ∀ y, (∀ n, n < 5 → y ≠ 55 * i + 11 * n + j) → a y = a0 y
def xk_FL (i j : Nat) (a a0 : Nat → Int64) : Prop := ∀ y, (∀ n, n < 5 → y ≠ 55 * i + 11 * n + j) → a y = a0 y
section
variable {g : gm_G} {L : Nat} {op : Nat → Nat} {cn : Nat → Int32} {ta ah ac an ta0 ah0 ac0 an0 : Nat → Int32} {av av0 : Nat → Int64} {i j n a b q : Nat} {w : Int32} {wl : Int64}
theorem xk_Fr_r : xk_Fr i j ta ta := fun _ _ => rfl
theorem xk_FL_r : xk_FL i j av av := fun _ _ => rfl
theorem xk_Fr_u (h : xk_Fr i j ta ta0) (hq : q < 5) : xk_Fr i j (upd ta (55 * i + 11 * q + j) w) ta0 := fun y hy => by rw [pk_un (hy q hq)]; exact h y hy
theorem xk_FL_u (h : xk_FL i j av av0) (hq : q < 5) : xk_FL i j (vp_updL av (55 * i + 11 * q + j) wl) av0 := fun y hy => by rw [pk_uLn (hy q hq)]; exact h y hy
theorem xk_idx (hj : j ≤ 10) (hb : b ≤ 10) (h : i < a ∨ b < j) (hia : i ≤ a) (hn : n < 5) : ∀ q, q < 5 → 55 * a + 11 * n + b ≠ 55 * i + 11 * q + j := fun q hq => by omega
/-- a cell outside is kept -/
theorem xk_Cl_k (h : xk_Cl g op cn ta0 ah0 ac0 an0 av0 n a b) (hy : ∀ q, q < 5 → 55 * a + 11 * n + b ≠ 55 * i + 11 * q + j) (h1 : xk_Fr i j ta ta0) (h2 : xk_Fr i j ah ah0) (h3 : xk_Fr i j ac ac0) (h4 : xk_Fr i j an an0) (h5 : xk_FL i j av av0) : xk_Cl g op cn ta ah ac an av n a b := by
  unfold xk_Cl xk_Tv xk_HA xk_Nv xk_Vv at h ⊢
  rw [h1 _ hy, h2 _ hy, h3 _ hy, h4 _ hy, h5 _ hy]
  exact h
theorem xk_V_up (hL : L ≤ 10) (hj : j ≤ L) (h : xk_V g op cn L i j ta0 ah0 ac0 an0 av0) (h1 : xk_Fr i j ta ta0) (h2 : xk_Fr i j ah ah0) (h3 : xk_Fr i j ac ac0) (h4 : xk_Fr i j an an0) (h5 : xk_FL i j av av0)
    (hc : ∀ n, n < 5 → xk_Cl g op cn ta ah ac an av n i j) : xk_V g op cn L i (j + 1) ta ah ac an av := by
  intro n a b hn ha hab hb hd
  by_cases z : i < a ∨ b < j
  · exact xk_Cl_k (h n a b hn ha hab hb z) (xk_idx (by omega) (by omega) z ha hn) h1 h2 h3 h4 h5
  · have e1 : a = i := by omega
    have e2 : b = j := by omega
    subst e1; subst e2
    exact hc n hn
end
theorem cp_St_c {c : Prop} [Decidable c] {q : Nat} (hq : q < 32) : cp_St ((if c then (1 : Int32) else 0) <<< (nI q &&& 31)) (fun n => n = q ∧ c) := by
  by_cases h : c
  · rw [if_pos h]; exact cp_St_i (cp_St_1 hq) fun n _ => ⟨fun z => ⟨z, h⟩, fun z => z.1⟩
  · rw [if_neg h]
    intro i hi
    rw [b_shl q hq _ hi, b_0, Bool.and_false]
    exact ⟨fun z => absurd z (by decide), fun z => absurd z.2 h⟩
section
variable {g : gm_G} {L : Nat} {f_good f_empty f_used f_known f_firstRow f_firstFar f_columns f_endless f_derived : Int32} {a_left a_right a_size a_text a_ends a_trees a_heights a_chosen a_nodes a_far a_op a_constant a_wanted a_edges : Nat → Int32} {a_values a_sum : Nat → Int64} {c i j p n k m a b i0 r u v : Nat} {op : Nat → Nat} {cn : Nat → Int32} {ta0 ah0 ac0 an0 : Nat → Int32} {av0 : Nat → Int64}
/-- building: after r rounds, and q in the next -/
def xk_BI (g : gm_G) (op : Nat → Nat) (cn : Nat → Int32) (i j r q : Nat) (an : Nat → Int32) (av : Nat → Int64) : Prop :=
  ∀ n, n < 5 → (0 < gm_Ht g n i j → xk_C (xk_NE g i j) (fun n => gm_Ht g n i j) (if n < q then r + 1 else r) n → xk_Nv g an n i j ∧ xk_Vv g op cn av n i j) ∧ (gm_Ht g n i j = 0 → an (55 * i + 11 * n + j) = 0 ∧ av (55 * i + 11 * n + j) = cp_NONE)
theorem xs_span_336 {post : SX → Prop} {J : Int32 → Int32 → Int32 → Int32 → Int32 → Int32 → Int32 → Int32 → Int32 → Int32 → Int32 → Int32 → (Nat → Int32) → (Nat → Int32) → (Nat → Int32) → (Nat → Int32) → (Nat → Int32) → (Nat → Int32) → (Nat → Int32) → (Nat → Int32) → (Nat → Int32) → (Nat → Int64) → (Nat → Int32) → (Nat → Int32) → (Nat → Int32) → (Nat → Int32) → (Nat → Int64) → (Nat → Int32) → Prop} {x3 : Int32} (G : cp_G g L a_right a_size a_text) (O : xk_O g op cn a_op a_constant) (hij : i ≤ j) (hjL : j ≤ L) (hder : cp_St f_derived (fun n => n < 5 ∧ gm_D g n i j))
    (hsub : xk_Sub i j (fun n a b => 0 < gm_Ht g n a b → xk_Nv g an0 n a b ∧ xk_Vv g op cn av0 n a b))
    (hch : ∀ n, n < 5 → 0 < gm_Ht g n i j → ∀ p u v, gm_IsC g n i j p u v → a_chosen (55 * i + 11 * n + j) = nI (p + 16 * u + 256 * v))
    (hJ : ∀ an av, xk_BI g op cn i j (r + 1) 0 an av → xk_Fr i j an an0 → xk_FL i j av av0 → J (nI (r + 1)) (nI (gm_P g)) (nI L) f_good f_empty f_used f_known f_firstRow f_firstFar f_columns f_endless f_derived a_left a_right a_size a_text a_ends a_trees a_heights a_chosen an av a_far a_op a_constant a_wanted a_sum a_edges) :
    ∀ d q an av, q + d = 5 → xk_BI g op cn i j r q an av → xk_Fr i j an an0 → xk_FL i j av av0 → wX_span_336 post J (nI i) (nI j) x3 (nI r) (d + 1) (nI q) (nI (gm_P g)) (nI L) f_good f_empty f_used f_known f_firstRow f_firstFar f_columns f_endless f_derived a_left a_right a_size a_text a_ends a_trees a_heights a_chosen an av a_far a_op a_constant a_wanted a_sum a_edges := by
  have hL := cp_G_L G
  have ok := cp_G_ok G
  intro d
  induction d with
  | zero =>
    intro q an av hq hI hf1 hf2
    rw [wX_span_336]
    refine pk_le 5 q (fun _ => nm_r (nI_1 _) (hJ an av (fun n hn => ⟨fun h0 hC => (hI n hn).1 h0 ?_, (hI n hn).2⟩) hf1 hf2)) (fun z => absurd z (by omega))
    rw [if_pos (show n < q by omega)]
    rw [if_neg (show ¬ n < 0 by omega)] at hC
    exact hC
  | succ d ih =>
    intro q an av hq hI hf1 hf2
    have old : ∀ n, n < 5 → n ≠ q → (if n < q + 1 then r + 1 else r) = (if n < q then r + 1 else r) := fun n _ hne => by
      by_cases z : n < q
      · rw [if_pos z, if_pos (show n < q + 1 by omega)]
      · rw [if_neg z, if_neg (show ¬ n < q + 1 by omega)]
    rw [wX_span_336]
    refine pk_le 5 q (fun z => absurd z (by omega)) (fun _ => br_bit (by omega) (fun z => nm_r (nI_1 _) (ih (q + 1) an av (by omega) (fun n hn => ?_) hf1 hf2)) (fun z => ?_))
    · by_cases e : n = q
      · subst e
        have hz : gm_Ht g n i j = 0 := by
          refine Classical.byContradiction fun w => z ((hder n (by omega)).mpr ⟨by omega, gm_D_iff.mpr (by omega)⟩)
        exact ⟨fun h0 => absurd h0 (by omega), (hI n hn).2⟩
      · rw [old n hn e]; exact hI n hn
    · have hD := ((hder q (by omega)).mp z).2
      have h0 := gm_D_iff.mp hD
      have hC := gm_C_is h0
      have parts : ∀ (Q Q0 : Nat → Nat → Nat → Prop), xk_Sub i j (fun n a b => 0 < gm_Ht g n a b → Q n a b) → (∀ m, m < 5 → 0 < gm_Ht g m i j → xk_C (xk_NE g i j) (fun n => gm_Ht g n i j) r m → Q m i j) → xk_C (xk_NE g i j) (fun n => gm_Ht g n i j) (r + 1) q → xk_Pt g Q (gm_C g q i j).1 i (gm_C g q i j).2.1 (gm_C g q i j).2.2 j := by
        intro Q _ hs hw hCq
        obtain ⟨hp, hl, hd, -⟩ := hC
        have K : ∀ c a b, c < 15 → i ≤ a → a ≤ b → b ≤ j → gm_Sp g (gm_T g (gm_Ht g q i j - 1)) c a b → (10 ≤ c → a = i → b = j → xk_Wh g (gm_C g q i j).1 i (gm_C g q i j).2.1 (gm_C g q i j).2.2 j (c - 10)) → gm_Sf Q c a b := by
          intro c a b hc h1 h2 h3 hsp hwh h10
          have t := gm_TH ((gm_Sp_n h10).mp hsp) h0
          by_cases w : i < a ∨ b < j
          · exact hs (c - 10) a b (by omega) h1 h2 h3 w t.1
          · have e1 : a = i := by omega
            have e2 : b = j := by omega
            subst e1; subst e2
            exact hw (c - 10) (by omega) t.1 (xk_C_s hCq ⟨_, _, _, trivial, hp, hl, gm_Dv_TD hd, hwh h10 rfl rfl⟩ (by omega) t.1 t.2)
        have c0 : gm_s g (3 * (gm_C g q i j).1) < 15 := gm_ok_15 ok hp (show 0 < 3 by omega)
        have c1 := gm_ok_15 ok hp (show 1 < 3 by omega)
        have c2 := gm_ok_15 ok hp (show 2 < 3 by omega)
        obtain ⟨h1, h2, h3, sa, sb, sc⟩ := hd
        exact ⟨K _ _ _ c0 (Nat.le_refl _) h1 (by omega) sa (fun z _ e => Or.inl ⟨by omega, e⟩), K _ _ _ c1 h1 h2 (by omega) sb (fun z e1 e2 => Or.inr (Or.inl ⟨by omega, e1, e2⟩)), K _ _ _ c2 (by omega) h3 (Nat.le_refl _) sc (fun z e _ => Or.inr (Or.inr ⟨by omega, e⟩))⟩
      have up : ∀ m, xk_C (xk_NE g i j) (fun n => gm_Ht g n i j) r m → xk_C (xk_NE g i j) (fun n => gm_Ht g n i j) (if m < q then r + 1 else r) m := fun m hm => by
        by_cases y : m < q
        · rw [if_pos y]; exact xk_C_m hm (by omega)
        · rw [if_neg y]; exact hm
      refine xs_build (op := op) (cn := cn) G O hij hjL (by omega) h0 hC (hch q (by omega) h0 _ _ _ hC) fun vn vv h1 h2 => nm_r (nI_1 _) (ih (q + 1) _ _ (by omega) (fun n hn => ?_) (xk_Fr_u hf1 (by omega)) (xk_FL_u hf2 (by omega)))
      by_cases e : n = q
      · subst e
        refine ⟨fun _ hCq => ?_, fun w => absurd w (by omega)⟩
        rw [if_pos (show n < n + 1 by omega)] at hCq
        unfold xk_Nv xk_Vv
        rw [pk_us, pk_uLs]
        refine ⟨h1 (parts (xk_Nv g an) (xk_Nv g an) (fun m a b q1 q2 q3 q4 q5 q6 => ?_) (fun m hm hpos hCm => ((hI m hm).1 hpos (up m hCm)).1) hCq), h2 (parts (xk_Vv g op cn av) (xk_Vv g op cn av) (fun m a b q1 q2 q3 q4 q5 q6 => ?_) (fun m hm hpos hCm => ((hI m hm).1 hpos (up m hCm)).2) hCq)⟩
        · have := (hsub m a b q1 q2 q3 q4 q5 q6).1
          unfold xk_Nv at this ⊢
          rw [hf1 _ (xk_idx (by omega) (by omega) q5 q2 q1)]; exact this
        · have := (hsub m a b q1 q2 q3 q4 q5 q6).2
          unfold xk_Vv at this ⊢
          rw [hf2 _ (xk_idx (by omega) (by omega) q5 q2 q1)]; exact this
      · rw [old n hn e]
        unfold xk_Nv xk_Vv
        rw [pk_un (by omega), pk_uLn (by omega)]
        exact hI n hn
theorem xs_span_327 {post : SX → Prop} {R : Nat} (hR5 : R ≤ 5) (G : cp_G g L a_right a_size a_text) (O : xk_O g op cn a_op a_constant) (hij : i ≤ j) (hjL : j ≤ L) (hder : cp_St f_derived (fun n => n < 5 ∧ gm_D g n i j))
    (hsub : xk_Sub i j (fun n a b => 0 < gm_Ht g n a b → xk_Nv g an0 n a b ∧ xk_Vv g op cn av0 n a b))
    (hch : ∀ n, n < 5 → 0 < gm_Ht g n i j → ∀ p u v, gm_IsC g n i j p u v → a_chosen (55 * i + 11 * n + j) = nI (p + 16 * u + 256 * v))
    (hE : ∀ an av, xk_BI g op cn i j R 0 an av → xk_Fr i j an an0 → xk_FL i j av av0 → post (nI (gm_P g), nI L, f_good, f_empty, f_used, f_known, f_firstRow, f_firstFar, f_columns, f_endless, f_derived, a_left, a_right, a_size, a_text, a_ends, a_trees, a_heights, a_chosen, an, av, a_far, a_op, a_constant, a_wanted, a_sum, a_edges)) :
    ∀ d r an av, r + d = R → xk_BI g op cn i j r 0 an av → xk_Fr i j an an0 → xk_FL i j av av0 → wX_span_327 post (nI i) (nI j) (nI R) (d + 1) (nI r) (nI (gm_P g)) (nI L) f_good f_empty f_used f_known f_firstRow f_firstFar f_columns f_endless f_derived a_left a_right a_size a_text a_ends a_trees a_heights a_chosen an av a_far a_op a_constant a_wanted a_sum a_edges := by
  intro d
  induction d with
  | zero =>
    intro r an av hr hI hf1 hf2
    rw [wX_span_327]
    exact pk_le R r (fun _ => hE an av (by rw [show r = R by omega] at hI; exact hI) hf1 hf2) (fun z => absurd z (by omega))
  | succ d ih =>
    intro r an av hr hI hf1 hf2
    rw [wX_span_327]
    exact pk_le R r (fun z => absurd z (by omega)) (fun _ => ⟨6, xs_span_336 G O hij hjL hder hsub hch (fun an' av' hI' hf1' hf2' => ih (r + 1) an' av' (by omega) hI' hf1' hf2') 5 0 an av rfl hI hf1 hf2⟩)
theorem xs_span_292 {post : SX → Prop} {x3 : Int32} (G : cp_G g L a_right a_size a_text) (hl : xk_L g a_left) (H : xk_Er g L a_ends i) (hH : xk_HW g i j a_heights) (hij : i ≤ j) (hjL : j ≤ L) (hder : cp_St f_derived (fun n => n < 5 ∧ gm_D g n i j))
    (hE : ∀ ac, (∀ n, n < 5 → 0 < gm_Ht g n i j → ∀ p u v, gm_IsC g n i j p u v → ac (55 * i + 11 * n + j) = nI (p + 16 * u + 256 * v)) → xk_Fr i j ac ac0 → ∃ n327 : Nat, wX_span_327 post (nI i) (nI j) x3 n327 0 (nI (gm_P g)) (nI L) f_good f_empty f_used f_known f_firstRow f_firstFar f_columns f_endless f_derived a_left a_right a_size a_text a_ends a_trees a_heights ac a_nodes a_values a_far a_op a_constant a_wanted a_sum a_edges) :
    ∀ d q ac, q + d = 5 → (∀ n, n < q → 0 < gm_Ht g n i j → ∀ p u v, gm_IsC g n i j p u v → ac (55 * i + 11 * n + j) = nI (p + 16 * u + 256 * v)) → xk_Fr i j ac ac0 → wX_span_292 post (nI i) (nI j) x3 (d + 1) (nI q) (nI (gm_P g)) (nI L) f_good f_empty f_used f_known f_firstRow f_firstFar f_columns f_endless f_derived a_left a_right a_size a_text a_ends a_trees a_heights ac a_nodes a_values a_far a_op a_constant a_wanted a_sum a_edges := by
  have hL := cp_G_L G
  intro d
  induction d with
  | zero =>
    intro q ac hq hI hf
    rw [wX_span_292]
    exact pk_le 5 q (fun _ => hE ac (fun n hn => hI n (by omega)) hf) (fun z => absurd z (by omega))
  | succ d ih =>
    intro q ac hq hI hf
    rw [wX_span_292]
    refine pk_le 5 q (fun z => absurd z (by omega)) (fun _ => br_bit (by omega) (fun z => nm_r (nI_1 _) (ih (q + 1) ac (by omega) (fun n hn h0 => ?_) hf)) (fun z => ?_))
    · by_cases e : n = q
      · subst e
        exact absurd ((hder n (by omega)).mpr ⟨by omega, gm_D_iff.mpr h0⟩) z
      · exact hI n (by omega) h0
    · have h0 := gm_D_iff.mp ((hder q (by omega)).mp z).2
      refine xs_choose G hl H hH hij hjL (by omega) h0 fun p u v hC => nm_r (nI_1 _) (ih (q + 1) _ (by omega) (fun n hn hn0 p' u' v' hC' => ?_) (xk_Fr_u hf (by omega)))
      by_cases e : n = q
      · subst e
        obtain ⟨rfl, rfl, rfl⟩ := gm_IsC_un hC hC'
        exact pk_us
      · rw [pk_un (by omega)]; exact hI n (by omega) hn0 p' u' v' hC'
/-- behind the first pass -/
theorem xs_span_big {post : SX → Prop} {R : Nat} (hR5 : R ≤ 5) (hR : ∀ (f : Nat → Nat) n, n < 5 → xk_C (xk_NE g i j) f R n) (G : cp_G g L a_right a_size a_text) (hl : xk_L g a_left) (O : xk_O g op cn a_op a_constant) (H : xk_Er g L a_ends i) (hij : i ≤ j) (hjL : j ≤ L) (hder : cp_St f_derived (fun n => n < 5 ∧ gm_D g n i j)) (hfe : cp_St f_endless (fun n => ¬ gm_F g n i j))
    (hV : xk_V g op cn L i j ta0 ah0 ac0 an0 av0) (ft : xk_Fr i j a_trees ta0) (fh : xk_Fr i j a_heights ah0) (fc : xk_Fr i j a_chosen ac0) (fn : xk_Fr i j a_nodes an0) (fv : xk_FL i j a_values av0)
    (z1 : ∀ n, n < 5 → a_trees (55 * i + 11 * n + j) = 0) (z2 : ∀ n, n < 5 → a_heights (55 * i + 11 * n + j) = 0) (z3 : ∀ n, n < 5 → a_nodes (55 * i + 11 * n + j) = 0) (z4 : ∀ n, n < 5 → a_values (55 * i + 11 * n + j) = cp_NONE)
    (h : ∀ ta ah ac an av az, xk_V g op cn L i (j + 1) ta ah ac an av → post (nI (gm_P g), nI L, f_good, f_empty, f_used, f_known, f_firstRow, f_firstFar, f_columns, f_endless, f_derived, a_left, a_right, a_size, a_text, a_ends, ta, ah, ac, an, av, a_far, a_op, a_constant, a_wanted, az, a_edges)) : ∃ n190 : Nat, wX_span_190 post (nI i) (nI j) (nI R) n190 0 (nI (gm_P g)) (nI L) f_good f_empty f_used f_known f_firstRow f_firstFar f_columns f_endless f_derived a_left a_right a_size a_text a_ends a_trees a_heights a_chosen a_nodes a_values a_far a_op a_constant a_wanted a_sum a_edges := by
  have hL := cp_G_L G
  have ok := cp_G_ok G
  have hT : xk_Sub i j (xk_Tv g ta0) := fun n a b q1 q2 q3 q4 q5 => (hV n a b q1 q2 q3 (by omega) q5).1
  have hA : xk_Sub i j (xk_HA g ah0) := fun n a b q1 q2 q3 q4 q5 => (hV n a b q1 q2 q3 (by omega) q5).2.1
  have hsub : xk_Sub i j (fun n a b => 0 < gm_Ht g n a b → xk_Nv g an0 n a b ∧ xk_Vv g op cn av0 n a b) := fun n a b q1 q2 q3 q4 q5 h0 => ((hV n a b q1 q2 q3 (by omega) q5).2.2.1 h0).2
  have R0 : 0 < R := by
    rcases Nat.eq_zero_or_pos R with e | e
    · subst e; exact absurd (hR (fun _ => 0) 0 (by omega)) xk_C_0
    · exact e
  refine ⟨R + 1, xs_span_190 (at0 := ta0) (ah0 := ah0) hR5 G hl H hij hjL hder hfe hT hA (fun ah ta az hI => ?_) R 0 a_heights a_trees a_sum (by omega) ⟨⟨fun _ => 0, ⟨fun n _ => Or.inl rfl, fun n _ => Nat.zero_le _, fun n _ _ hC => absurd hC xk_C_0, fun p u v w => w.elim⟩, z2⟩, fh, ⟨fun _ => 0, fun n _ _ => ⟨Nat.zero_le _, fun hC => absurd hC xk_C_0⟩, fun n hn _ => z1 n hn⟩, fun n _ _ w => absurd w (by omega), ft⟩⟩
  obtain ⟨⟨hv, hv1, hv2⟩, hfr, ⟨x, hX, hx⟩, hm3, hfr2⟩ := hI
  have hHi : ∀ n, n < 5 → xk_HA g ah n i j := fun n hn => by
    unfold xk_HA
    rw [hv2 n hn]
    rcases Nat.eq_zero_or_pos (gm_Ht g n i j) with e | e
    · rcases hv1.1 n hn with w | w
      · rw [w, e]
      · omega
    · rw [hv1.2.2.1 n hn e (hR _ n hn)]
  have hH : xk_HW g i j ah := fun n a b q1 q2 q3 q4 => by
    by_cases w : i < a ∨ b < j
    · have := hA n a b q1 q2 q3 q4 w
      unfold xk_HA at this ⊢
      rw [hfr _ (xk_idx (by omega) (by omega) w q2 q1)]; exact this
    · have e1 : a = i := by omega
      have e2 : b = j := by omega
      subst e1; subst e2
      exact hHi n q1
  have hTi : ∀ n, n < 5 → xk_Tv g ta n i j := fun n hn => ⟨fun hf => by rw [hx n hn hf, (hX n hn hf).2 (hR _ n hn)], fun hf => hm3 n hn hf R0⟩
  refine ⟨6, xs_span_292 (ac0 := ac0) G hl H hH hij hjL hder (fun ac hc1 hc2 => ⟨R + 1, xs_span_327 (an0 := an0) (av0 := av0) (op := op) (cn := cn) hR5 G O hij hjL hder hsub hc1 (fun an av hB f1 f2 => h ta ah ac an av az (xk_V_up hL hjL hV hfr2 hfr hc2 f1 f2 fun n hn => ⟨hTi n hn, hHi n hn, fun h0 => ⟨hc1 n hn h0, (hB n hn).1 h0 ?_⟩, (hB n hn).2⟩)) R 0 a_nodes a_values (by omega) (fun n hn => ⟨fun _ hC => absurd hC ?_, fun _ => ⟨z3 n hn, z4 n hn⟩⟩) fn fv⟩) 5 0 a_chosen rfl (fun n hn => absurd hn (by omega)) fc⟩
  · rw [if_neg (show ¬ n < 0 by omega)]; exact hR _ n hn
  · rw [if_neg (show ¬ n < 0 by omega)]; exact xk_C_0
theorem xs_span_12 {post : SX → Prop} (G : cp_G g L a_right a_size a_text) (hl : xk_L g a_left) (O : xk_O g op cn a_op a_constant) (H : xk_Er g L a_ends i) (hij : i ≤ j) (hjL : j ≤ L) (hfe : f_endless = 0)
    (hV : xk_V g op cn L i j ta0 ah0 a_chosen an0 av0)
    (h : ∀ fe fd ta ah ac an av az ae, xk_V g op cn L i (j + 1) ta ah ac an av → post (nI (gm_P g), nI L, f_good, f_empty, f_used, f_known, f_firstRow, f_firstFar, f_columns, fe, fd, a_left, a_right, a_size, a_text, a_ends, ta, ah, ac, an, av, a_far, a_op, a_constant, a_wanted, az, ae)) :
    ∀ d q fd ta ah an av ae, q + d = 5 → cp_St fd (fun n => n < q ∧ gm_D g n i j) → (∀ n, n < q → ta (55 * i + 11 * n + j) = 0 ∧ ah (55 * i + 11 * n + j) = 0 ∧ an (55 * i + 11 * n + j) = 0 ∧ av (55 * i + 11 * n + j) = cp_NONE ∧ ae n = 0) →
      xk_Fr i j ta ta0 → xk_Fr i j ah ah0 → xk_Fr i j an an0 → xk_FL i j av av0 → wX_span_12 post (nI i) (nI j) (nI (gm_P g)) (nI L) f_good f_empty f_used f_known f_firstRow f_firstFar f_columns f_endless (d + 1) (nI q) fd a_left a_right a_size a_text a_ends ta ah a_chosen an av a_far a_op a_constant a_wanted a_sum ae := by
  have hL := cp_G_L G
  have ok := cp_G_ok G
  intro d
  induction d with
  | zero =>
    intro q fd ta ah an av ae hq hder hz f1 f2 f3 f4
    rw [wX_span_12]
    have hq5 : q = 5 := by omega
    subst hq5
    refine pk_le 5 5 (fun _ => br_i (cp_St_z hder) (fun hno => ?_) (fun _ => ?_)) (fun z => absurd z (by omega))
    · refine h _ _ _ _ _ _ _ _ _ (xk_V_up hL hjL hV f1 f2 xk_Fr_r f3 f4 fun n hn => ?_)
      have hD : ¬ gm_D g n i j := fun w => hno n (by omega) ⟨hn, w⟩
      have hH0 : gm_Ht g n i j = 0 := Classical.byContradiction fun w => hD (gm_D_iff.mpr (by omega))
      have hM := gm_M_0 hD
      obtain ⟨y1, y2, y3, y4, -⟩ := hz n hn
      refine ⟨⟨fun _ => by rw [y1, hM.2]; rfl, fun w => absurd hM.1 w⟩, ?_, fun w => absurd w (by omega), fun _ => ⟨y3, y4⟩⟩
      unfold xk_HA
      rw [y2, hH0]; rfl
    · have hT' : xk_Sub i j (xk_Tv g ta) := fun n a b q1 q2 q3 q4 q5 => by
        have := (hV n a b q1 q2 q3 (by omega) q5).1
        unfold xk_Tv at this ⊢
        rw [f1 _ (xk_idx (by omega) (by omega) q5 q2 q1)]; exact this
      refine xs_divide1 G hl H hT' hij hjL hder hfe (fun n hn => (hz n hn).2.2.2.2) fun fe ae1 hI => xs_findEndless ok hI fun fe2 ae2 hF hTC => br_i (xk_ne_iff ok hTC) (fun hne => ?_) (fun hne => ?_)
      · exact xs_span_big (R := 1) (by omega) (fun f n _ => xk_C_1 hne) G hl O H hij hjL hder hF hV f1 f2 xk_Fr_r f3 f4 (fun n hn => (hz n hn).1) (fun n hn => (hz n hn).2.1) (fun n hn => (hz n hn).2.2.1) (fun n hn => (hz n hn).2.2.2.1) (fun ta ah ac an av az hV' => h _ _ ta ah ac an av az _ hV')
      · exact xs_span_big (R := 5) (by omega) (fun f n hn => xk_C_5 hn) G hl O H hij hjL hder hF hV f1 f2 xk_Fr_r f3 f4 (fun n hn => (hz n hn).1) (fun n hn => (hz n hn).2.1) (fun n hn => (hz n hn).2.2.1) (fun n hn => (hz n hn).2.2.2.1) (fun ta ah ac an av az hV' => h _ _ ta ah ac an av az _ hV')
  | succ d ih =>
    intro q fd ta ah an av ae hq hder hz f1 f2 f3 f4
    rw [wX_span_12]
    refine pk_le 5 q (fun z => absurd z (by omega)) (fun _ => ?_)
    rw [ix_55, ix_5, nI_clamp (show 55 * i + 11 * q + j < 2 ^ 31 by omega), nI_clamp (show q < 2 ^ 31 by omega), nI_clamp (show 5 * i + q < 2 ^ 31 by omega), cp_bit _ (show j < 32 by omega), cp_n8' (x := 0) (by decide)]
    refine ⟨vp_in_nI (by omega) (by omega), nm_e ⟨vp_in_nI (by omega) (by omega), nm_e ⟨vp_in_nI (by omega) (by omega), nm_e ⟨vp_in_nI (by omega) (by omega), nm_e ⟨vp_in_nI (by omega) (by omega), nm_e ⟨vp_in_nI (by omega) (by omega), nm_e (nm_r (nI_1 _) (ih (q + 1) _ _ _ _ _ _ (by omega) (cp_St_i (cp_St_or hder (cp_St_c (by omega))) fun n _ => ?_) (fun n hn => ?_) (xk_Fr_u f1 (by omega)) (xk_Fr_u f2 (by omega)) (xk_Fr_u f3 (by omega)) (xk_FL_u f4 (by omega))))⟩⟩⟩⟩⟩⟩
    · have e := xk_Er_E (n := q) (a := i) (b := j) G H (by omega) (Nat.le_refl _) (by omega) hjL
      unfold xk_E at e
      rw [e]
      constructor
      · rintro (w | ⟨rfl, w⟩)
        · exact ⟨by omega, w.2⟩
        · exact ⟨by omega, w⟩
      · rintro ⟨w1, w2⟩
        by_cases e : n = q
        · subst e; exact Or.inr ⟨rfl, w2⟩
        · exact Or.inl ⟨by omega, w2⟩
    · by_cases e : n = q
      · subst e
        rw [pk_us, pk_us, pk_us, pk_uLs, pk_us]
        exact ⟨rfl, rfl, rfl, rfl, rfl⟩
      · rw [pk_un (by omega), pk_un (by omega), pk_un (by omega), pk_uLn (by omega), pk_un e]
        exact hz n (by omega)
theorem xs_span {post : SX → Prop} (G : cp_G g L a_right a_size a_text) (hl : xk_L g a_left) (O : xk_O g op cn a_op a_constant) (H : xk_Er g L a_ends i) (hij : i ≤ j) (hjL : j ≤ L)
    (hV : xk_V g op cn L i j a_trees a_heights a_chosen a_nodes a_values)
    (h : ∀ fe fd ta ah ac an av az ae, xk_V g op cn L i (j + 1) ta ah ac an av → post (nI (gm_P g), nI L, f_good, f_empty, f_used, f_known, f_firstRow, f_firstFar, f_columns, fe, fd, a_left, a_right, a_size, a_text, a_ends, ta, ah, ac, an, av, a_far, a_op, a_constant, a_wanted, az, ae)) : wpX_span post (nI (gm_P g), nI L, f_good, f_empty, f_used, f_known, f_firstRow, f_firstFar, f_columns, f_endless, f_derived, a_left, a_right, a_size, a_text, a_ends, a_trees, a_heights, a_chosen, a_nodes, a_values, a_far, a_op, a_constant, a_wanted, a_sum, a_edges) (nI i) (nI j) := by
  unfold wpX_span
  exact ⟨6, xs_span_12 (f_endless := 0) G hl O H hij hjL rfl hV h 5 0 0 _ _ _ _ _ rfl (cp_St_i cp_St_0 fun n _ => ⟨fun z => z.elim, fun z => absurd z.1 (by omega)⟩) (fun n hn => absurd hn (by omega)) xk_Fr_r xk_Fr_r xk_Fr_r xk_FL_r⟩
theorem xs_row_109 {post : SX → Prop} (G : cp_G g L a_right a_size a_text) (hl : xk_L g a_left) (O : xk_O g op cn a_op a_constant) (H : xk_Er g L a_ends i) (hi : i ≤ L)
    (h : ∀ fe fd ta ah ac an av az ae, xk_V g op cn L i (L + 1) ta ah ac an av → post (nI (gm_P g), nI L, f_good, f_empty, f_used, f_known, f_firstRow, f_firstFar, f_columns, fe, fd, a_left, a_right, a_size, a_text, a_ends, ta, ah, ac, an, av, a_far, a_op, a_constant, a_wanted, az, ae)) :
    ∀ d j fe fd ta ah ac an av az ae, j + d = L + 1 → i ≤ j → xk_V g op cn L i j ta ah ac an av → wX_row_109 post (nI i) (d + 1) (nI j) (nI (gm_P g)) (nI L) f_good f_empty f_used f_known f_firstRow f_firstFar f_columns fe fd a_left a_right a_size a_text a_ends ta ah ac an av a_far a_op a_constant a_wanted az ae := by
  have hL := cp_G_L G
  intro d
  induction d with
  | zero =>
    intro j fe fd ta ah ac an av az ae hj hij hV
    rw [wX_row_109]
    exact pk_lt L j (fun _ => h _ _ _ _ _ _ _ _ _ (by rw [show j = L + 1 by omega] at hV; exact hV)) (fun z => absurd z (by omega))
  | succ d ih =>
    intro j fe fd ta ah ac an av az ae hj hij hV
    rw [wX_row_109]
    exact pk_lt L j (fun z => absurd z (by omega)) (fun _ => xs_span G hl O H hij (by omega) hV fun fe fd ta ah ac an av az ae hV' => nm_r (nI_1 _) (ih (j + 1) fe fd ta ah ac an av az ae (by omega) (by omega) hV'))
/-- rows from i0 on are right -/
def xk_RW (g : gm_G) (op : Nat → Nat) (cn : Nat → Int32) (L i0 : Nat) (a_ends ta ah ac an : Nat → Int32) (av : Nat → Int64) : Prop := xk_Er g L a_ends i0 ∧ ∀ n a b, n < 5 → i0 ≤ a → a ≤ b → b ≤ L → xk_Cl g op cn ta ah ac an av n a b
theorem xs_rowsTo_0 {post : SX → Prop} (G : cp_G g L a_right a_size a_text) (hl : xk_L g a_left) (O : xk_O g op cn a_op a_constant) (hi : i ≤ L)
    (h : ∀ f fe fd en ta ah ac an av az ae, f ≤ i → xk_RW g op cn L f en ta ah ac an av → post (nI (gm_P g), nI L, f_good, f_empty, f_used, f_known, nI f, f_firstFar, f_columns, fe, fd, a_left, a_right, a_size, a_text, en, ta, ah, ac, an, av, a_far, a_op, a_constant, a_wanted, az, ae)) :
    ∀ d f fe fd en ta ah ac an av az ae, f ≤ i + d → f ≤ L + 1 → xk_RW g op cn L f en ta ah ac an av → wX_rowsTo_0 post (nI i) (d + 1) (nI (gm_P g)) (nI L) f_good f_empty f_used f_known (nI f) f_firstFar f_columns fe fd a_left a_right a_size a_text en ta ah ac an av a_far a_op a_constant a_wanted az ae := by
  have hL := cp_G_L G
  intro d
  induction d with
  | zero =>
    intro f fe fd en ta ah ac an av az ae hf hfL hR
    rw [wX_rowsTo_0]
    exact pk_le f i (fun z => h _ _ _ _ _ _ _ _ _ _ _ z hR) (fun z => absurd z (by omega))
  | succ d ih =>
    intro f fe fd en ta ah ac an av az ae hf hfL hR
    rw [wX_rowsTo_0]
    refine pk_le f i (fun z => h _ _ _ _ _ _ _ _ _ _ _ z hR) (fun z => ?_)
    obtain ⟨k, rfl⟩ : ∃ k, f = k + 1 := ⟨f - 1, by omega⟩
    refine nm_r (nI_pred k) (xs_row G hl (by omega) hR.1 fun en' hE => ⟨L + 1 - k + 1, xs_row_109 (op := op) (cn := cn) G hl O hE (by omega) (fun fe fd ta ah ac an av az ae hV => ih k fe fd en' ta ah ac an av az ae (by omega) (by omega) ⟨hE, fun n a b q1 q2 q3 q4 => hV n a b q1 q2 q3 q4 (by omega)⟩) (L + 1 - k) k _ _ _ _ _ _ _ _ _ (by omega) (Nat.le_refl _) (fun n a b q1 q2 q3 q4 q5 => hR.2 n a b q1 (by omega) q3 q4)⟩)
theorem xs_rowsTo {post : SX → Prop} {f : Nat} (G : cp_G g L a_right a_size a_text) (hl : xk_L g a_left) (O : xk_O g op cn a_op a_constant) (hi : i ≤ L) (hf : f_firstRow = nI f) (hfL : f ≤ L + 1) (hR : xk_RW g op cn L f a_ends a_trees a_heights a_chosen a_nodes a_values)
    (h : ∀ f fe fd en ta ah ac an av az ae, f ≤ i → xk_RW g op cn L f en ta ah ac an av → post (nI (gm_P g), nI L, f_good, f_empty, f_used, f_known, nI f, f_firstFar, f_columns, fe, fd, a_left, a_right, a_size, a_text, en, ta, ah, ac, an, av, a_far, a_op, a_constant, a_wanted, az, ae)) : wpX_rowsTo post (nI (gm_P g), nI L, f_good, f_empty, f_used, f_known, f_firstRow, f_firstFar, f_columns, f_endless, f_derived, a_left, a_right, a_size, a_text, a_ends, a_trees, a_heights, a_chosen, a_nodes, a_values, a_far, a_op, a_constant, a_wanted, a_sum, a_edges) (nI i) := by
  subst hf
  unfold wpX_rowsTo
  exact ⟨f + 1, xs_rowsTo_0 G hl O hi h f f _ _ _ _ _ _ _ _ _ _ (by omega) hfL hR⟩
end
end
section
/-! X: distances -/
def xk_gr (fx : Nat → Nat → Nat → Nat) (n i j y : Nat) : Prop := y = fx n i j
theorem gm_Co_un {g : gm_G} {fx : Nat → Nat → Nat → Nat} {c i j x y : Nat} (h : gm_Co g (xk_gr fx) c i j x) (k : gm_Co g (xk_gr fx) c i j y) : x = y := by
  rcases h with ⟨a, h⟩ | ⟨a, h⟩ | ⟨a, h⟩ <;> rcases k with ⟨b, k⟩ | ⟨b, k⟩ | ⟨b, k⟩
  · unfold xk_gr at h k; omega
  · omega
  · omega
  · omega
  · omega
  · omega
  · omega
  · omega
  · exact gm_tc_un h k
/-- a table over all parts of a span -/
def xk_tb (af : Nat → Int32) (fx : Nat → Nat → Nat → Nat) (i j : Nat) : Prop := ∀ n a b, n < 5 → i ≤ a → a ≤ b → b ≤ j → af (55 * a + 11 * n + b) = nI (fx n a b) ∧ fx n a b ≤ 30000
section
variable {g : gm_G} {L : Nat} {f_good f_empty f_used f_known f_firstRow f_firstFar f_columns f_endless f_derived : Int32} {a_left a_right a_size a_text a_ends a_trees a_heights a_chosen a_nodes a_far a_op a_constant a_wanted a_edges : Nat → Int32} {a_values a_sum : Nat → Int64} {c i j p n k m a b i0 r u v : Nat} {fx : Nat → Nat → Nat → Nat}
theorem xs_off {post : Int32 → Prop} (G : cp_G g L a_right a_size a_text) (T : xk_tb a_far fx i j) (hjL : j ≤ L) (hc : c < 6 ∨ c = 9 ∨ (10 ≤ c ∧ c < 15)) (ha : i ≤ a) (hab : a ≤ b) (hb : b ≤ j)
    (h : ∀ x, gm_Co g (xk_gr fx) c a b x → x ≤ 30000 → post (nI x)) : wpX_off post (nI (gm_P g), nI L, f_good, f_empty, f_used, f_known, f_firstRow, f_firstFar, f_columns, f_endless, f_derived, a_left, a_right, a_size, a_text, a_ends, a_trees, a_heights, a_chosen, a_nodes, a_values, a_far, a_op, a_constant, a_wanted, a_sum, a_edges) (cp_Sy c) (nI a) (nI b) := by
  have hL := cp_G_L G
  have h15 : c < 15 := by omega
  have lp : c < 6 → a < b → ∀ d k, k + d = b → a ≤ k → (∀ k', a ≤ k' → k' < k → gm_t g k' ≠ c) → wX_off_44 post (cp_Sy c) (nI a) (nI b) (nI (gm_P g)) (nI L) f_good f_empty f_used f_known f_firstRow f_firstFar f_columns f_endless f_derived a_left a_right a_size a_text a_ends a_trees a_heights a_chosen a_nodes a_values a_far a_op a_constant a_wanted a_sum a_edges (d + 1) (nI k) := by
    intro hc6 hlt d
    induction d with
    | zero =>
      intro k hk hak hno
      rw [wX_off_44]
      refine pk_le b k (fun _ => ?_) (fun z => absurd z (by omega))
      rw [pk_sub hab]
      exact h _ (Or.inr (Or.inr ⟨by omega, Or.inr (Or.inr ⟨hlt, fun k' h1 h2 => hno k' h1 (by omega), rfl⟩)⟩)) (by omega)
    | succ d ih =>
      intro k hk hak hno
      rw [wX_off_44]
      refine pk_le b k (fun z => absurd z (by omega)) (fun _ => ?_)
      rw [nI_clamp (show k < 2 ^ 31 by omega), cp_G_tx G]
      refine ⟨vp_in_nI (by omega) (by omega), br_i (cp_tx (cp_G_t6 G) h15) (fun e => ?_) (fun e => nm_r (nI_1 _) (ih (k + 1) (by omega) (by omega) fun k' h1 h2 => ?_))⟩
      · rw [pk_sub hab, show nI (b - a) - 1 = nI (b - a - 1) from pk_sub (b := 1) (by omega)]
        exact h _ (Or.inr (Or.inr ⟨by omega, Or.inr (Or.inl ⟨hlt, ⟨k, hak, by omega, e⟩, by omega⟩)⟩)) (by omega)
      · rcases Nat.lt_or_ge k' k with z | z
        · exact hno k' h1 z
        · have : k' = k := by omega
          subst this; exact e
  unfold wpX_off
  refine br_i (cp_Sy_le9 h15) (fun h10 => br_i (cp_Sy_ge0 h15) (fun h9 => pk_eq a b (fun e => h 1 (Or.inr (Or.inr ⟨by omega, Or.inl ⟨e, rfl⟩⟩)) (by omega)) (fun e => ⟨b - a + 1, lp (by omega) (by omega) (b - a) a (by omega) (Nat.le_refl _) (fun k' h1 h2 => absurd h1 (by omega))⟩)) (fun h9 => ?_)) (fun h10 => ?_)
  · rw [pk_sub hab]
    exact h _ (Or.inr (Or.inl ⟨by omega, rfl⟩)) (by omega)
  · have t := T (c - 10) a b (by omega) ha hab hb
    rw [ix_55s (show 10 ≤ c by omega), nI_clamp (show 55 * a + 11 * (c - 10) + b < 2 ^ 31 by omega), t.1]
    exact ⟨vp_in_nI (by omega) (by omega), h _ (Or.inl ⟨by omega, rfl⟩) t.2⟩
/-- the least sum, at most 30000 -/
def xk_Nr (g : gm_G) (fx : Nat → Nat → Nat → Nat) (S : Nat → Nat → Prop) (p i j r : Nat) : Prop := r ≤ 30000 ∧ (r = 30000 ∨ gm_Cd g (xk_gr fx) p i j r) ∧ ∀ u v a b c, S u v → i ≤ u → u ≤ v → v ≤ j → gm_Co g (xk_gr fx) (gm_s g (3 * p)) i u a → gm_Co g (xk_gr fx) (gm_s g (3 * p + 1)) u v b → gm_Co g (xk_gr fx) (gm_s g (3 * p + 2)) v j c → r ≤ a + b + c
theorem xk_Nr_c {S S' : Nat → Nat → Prop} (h : xk_Nr g fx S p i j r) (hS : ∀ u v, i ≤ u → u ≤ v → v ≤ j → S' u v → S u v) : xk_Nr g fx S' p i j r := ⟨h.1, h.2.1, fun u v a b c h1 h2 h3 h4 h5 h6 h7 => h.2.2 u v a b c (hS u v h2 h3 h4 h1) h2 h3 h4 h5 h6 h7⟩
theorem xs_nearest {post : Int32 → Prop} (G : cp_G g L a_right a_size a_text) (T : xk_tb a_far fx i j) (hij : i ≤ j) (hjL : j ≤ L) (hp : p < gm_P g)
    (h : ∀ r, xk_Nr g fx (fun _ _ => True) p i j r → post (nI r)) : wpX_nearest post (nI (gm_P g), nI L, f_good, f_empty, f_used, f_known, f_firstRow, f_firstFar, f_columns, f_endless, f_derived, a_left, a_right, a_size, a_text, a_ends, a_trees, a_heights, a_chosen, a_nodes, a_values, a_far, a_op, a_constant, a_wanted, a_sum, a_edges) (nI p) (nI i) (nI j) := by
  have h12 := cp_G_P G
  have hL := cp_G_L G
  have ok := cp_G_ok G
  have c0 : gm_s g (3 * p) < 6 ∨ gm_s g (3 * p) = 9 ∨ (10 ≤ gm_s g (3 * p) ∧ gm_s g (3 * p) < 15) := gm_ok_s ok hp (show 0 < 3 by omega)
  have c1 := gm_ok_s ok hp (show 1 < 3 by omega)
  have c2 := gm_ok_s ok hp (show 2 < 3 by omega)
  have inner : ∀ (J : Int32 → Int32 → Prop) k x1, i ≤ k → k ≤ j → gm_Co g (xk_gr fx) (gm_s g (3 * p)) i k x1 → x1 ≤ 30000 → (∀ r, xk_Nr g fx (fun u _ => u < k + 1) p i j r → J (nI r) (nI (k + 1))) → ∀ d m r, m + d = j + 1 → k ≤ m → xk_Nr g fx (fun u v => u < k ∨ (u = k ∧ v < m)) p i j r → wX_nearest_45 post J (nI p) (nI i) (nI j) (nI k) (nI x1) (nI (gm_P g)) (nI L) f_good f_empty f_used f_known f_firstRow f_firstFar f_columns f_endless f_derived a_left a_right a_size a_text a_ends a_trees a_heights a_chosen a_nodes a_values a_far a_op a_constant a_wanted a_sum a_edges (d + 1) (nI r) (nI m) := by
    intro J k x1 hik hkj hx1 hx1b hJ d
    induction d with
    | zero =>
      intro m r hm hkm hI
      rw [wX_nearest_45]
      exact pk_lt j m (fun _ => nm_r (nI_1 _) (hJ r (xk_Nr_c hI fun u v h1 h2 h3 h4 => by omega))) (fun z => absurd z (by omega))
    | succ d ih =>
      intro m r hm hkm hI
      rw [wX_nearest_45]
      refine pk_lt j m (fun z => absurd z (by omega)) (fun _ => ?_)
      rw [ix_31, ix_32, nI_clamp (show 3 * p + 1 < 2 ^ 31 by omega), nI_clamp (show 3 * p + 2 < 2 ^ 31 by omega), cp_G_rt G hp (show 1 < 3 by omega), cp_G_rt G hp (show 2 < 3 by omega)]
      have hr := hI.1
      refine ⟨vp_in_nI (by omega) (by omega), xs_off G T hjL c1 hik hkm (by omega) fun x2 hx2 hx2b => ⟨vp_in_nI (by omega) (by omega), xs_off G T hjL c2 (by omega) (by omega) (Nat.le_refl j) fun x3 hx3 hx3b => nm_r (e' := nI (x1 + x2 + x3)) (by rw [nI_add, nI_add]) (pk_le r (x1 + x2 + x3) (fun z => nm_r (nI_1 _) (ih (m + 1) r (by omega) (by omega) ⟨hI.1, hI.2.1, fun u v a b c h1 h2 h3 h4 h5 h6 h7 => ?_⟩)) (fun z => nm_r (nI_1 _) (ih (m + 1) (x1 + x2 + x3) (by omega) (by omega) ⟨by omega, Or.inr ⟨k, m, x1, x2, x3, hik, hkm, by omega, hx1, hx2, hx3, rfl⟩, fun u v a b c h1 h2 h3 h4 h5 h6 h7 => ?_⟩)))⟩⟩
      · by_cases e : u = k ∧ v = m
        · obtain ⟨rfl, rfl⟩ := e
          rw [gm_Co_un h5 hx1, gm_Co_un h6 hx2, gm_Co_un h7 hx3]; exact z
        · exact hI.2.2 u v a b c (by omega) h2 h3 h4 h5 h6 h7
      · by_cases e : u = k ∧ v = m
        · obtain ⟨rfl, rfl⟩ := e
          rw [gm_Co_un h5 hx1, gm_Co_un h6 hx2, gm_Co_un h7 hx3]; exact Nat.le_refl _
        · have := hI.2.2 u v a b c (by omega) h2 h3 h4 h5 h6 h7
          omega
  have outer : ∀ d k r, k + d = j + 1 → i ≤ k → xk_Nr g fx (fun u _ => u < k) p i j r → wX_nearest_8 post (nI p) (nI i) (nI j) (nI (gm_P g)) (nI L) f_good f_empty f_used f_known f_firstRow f_firstFar f_columns f_endless f_derived a_left a_right a_size a_text a_ends a_trees a_heights a_chosen a_nodes a_values a_far a_op a_constant a_wanted a_sum a_edges (d + 1) (nI r) (nI k) := by
    intro d
    induction d with
    | zero =>
      intro k r hk hik hI
      rw [wX_nearest_8]
      exact pk_lt j k (fun _ => h r (xk_Nr_c hI fun u v h1 h2 h3 _ => by omega)) (fun z => absurd z (by omega))
    | succ d ih =>
      intro k r hk hik hI
      have hr := hI.1
      rw [wX_nearest_8]
      refine pk_lt j k (fun z => absurd z (by omega)) (fun _ => ?_)
      rw [ix_3, nI_clamp (show 3 * p < 2 ^ 31 by omega), cp_G_r0 G hp]
      refine ⟨vp_in_nI (by omega) (by omega), xs_off G T hjL c0 (Nat.le_refl _) hik (by omega) fun x1 hx1 hx1b => pk_lt x1 r (fun z => ⟨j + 1 - k + 1, inner _ k x1 hik (by omega) hx1 hx1b (fun r' hI' => ih (k + 1) r' (by omega) (by omega) hI') (j + 1 - k) k r (by omega) (Nat.le_refl _) (xk_Nr_c hI fun u v h1 h2 h3 h4 => by omega)⟩) (fun z => nm_r (nI_1 _) (ih (k + 1) r (by omega) (by omega) ⟨hI.1, hI.2.1, fun u v a b c h1 h2 h3 h4 h5 h6 h7 => ?_⟩))⟩
      by_cases e : u = k
      · subst e
        rw [gm_Co_un h5 hx1]; omega
      · exact hI.2.2 u v a b c (by omega) h2 h3 h4 h5 h6 h7
  unfold wpX_nearest
  exact ⟨j + 1 - i + 1, outer (j + 1 - i) i 30000 (by omega) (Nat.le_refl _) ⟨by omega, Or.inl rfl, fun u v a b c h1 h2 => absurd h1 (by omega)⟩⟩
/-- cells of distances -/
def xk_Fc (g : gm_G) (af : Nat → Int32) (n i j : Nat) : Prop := ∃ x, af (55 * i + 11 * n + j) = nI x ∧ gm_FX g n i j x
def xk_FV (g : gm_G) (L i j : Nat) (af : Nat → Int32) : Prop := ∀ n a b, n < 5 → i ≤ a → a ≤ b → b ≤ L → (i < a ∨ b < j) → xk_Fc g af n a b
/-- while a span is worked out: fw over the span itself -/
def xk_Fw (g : gm_G) (i j : Nat) (fw : Nat → Nat) (af : Nat → Int32) : Prop := ∀ n, n < 5 → af (55 * i + 11 * n + j) = nI (fw n) ∧ fw n ≤ 30000 ∧ (fw n = 30000 ∨ gm_Xe g n i j (fw n))
theorem xk_tb_ex {af af0 : Nat → Int32} {fw : Nat → Nat} (hL : L ≤ 10) (hjL : j ≤ L) (hV : xk_FV g L i j af0) (hf : xk_Fr i j af af0) (hw : xk_Fw g i j fw af) : ∃ fx, xk_tb af fx i j ∧ (∀ n, n < 5 → fx n i j = fw n) ∧ (∀ n a b, n < 5 → i ≤ a → a ≤ b → b ≤ j → (fx n a b = 30000 ∨ gm_Xe g n a b (fx n a b))) ∧ (∀ n a b, n < 5 → i ≤ a → a ≤ b → b ≤ j → (i < a ∨ b < j) → ∀ y, gm_Xe g n a b y → fx n a b ≤ y) := by
  have cell : ∀ n a b, n < 5 → i ≤ a → a ≤ b → b ≤ j → ∃ x, af (55 * a + 11 * n + b) = nI x ∧ x ≤ 30000 ∧ (a = i → b = j → x = fw n) ∧ (x = 30000 ∨ gm_Xe g n a b x) ∧ ((i < a ∨ b < j) → ∀ y, gm_Xe g n a b y → x ≤ y) := by
    intro n a b h1 h2 h3 h4
    by_cases w : i < a ∨ b < j
    · obtain ⟨x, e, q1, q2, q3⟩ := hV n a b h1 h2 h3 (by omega) w
      exact ⟨x, (hf _ (xk_idx (by omega) (by omega) w h2 h1)).trans e, q2, fun e1 e2 => absurd w (by omega), q1, fun _ => q3⟩
    · have e1 : a = i := by omega
      have e2 : b = j := by omega
      subst e1; subst e2
      obtain ⟨q1, q2, q3⟩ := hw n h1
      exact ⟨fw n, q1, q2, fun _ _ => rfl, q3, fun z => absurd z w⟩
  let fx : Nat → Nat → Nat → Nat := fun n a b => @dite _ (n < 5 ∧ i ≤ a ∧ a ≤ b ∧ b ≤ j) (Classical.propDecidable _) (fun h => Classical.choose (cell n a b h.1 h.2.1 h.2.2.1 h.2.2.2)) (fun _ => 0)
  have sp : ∀ n a b, n < 5 → i ≤ a → a ≤ b → b ≤ j → af (55 * a + 11 * n + b) = nI (fx n a b) ∧ fx n a b ≤ 30000 ∧ (a = i → b = j → fx n a b = fw n) ∧ (fx n a b = 30000 ∨ gm_Xe g n a b (fx n a b)) ∧ ((i < a ∨ b < j) → ∀ y, gm_Xe g n a b y → fx n a b ≤ y) := by
    intro n a b h1 h2 h3 h4
    have e : fx n a b = Classical.choose (cell n a b h1 h2 h3 h4) := dif_pos ⟨h1, h2, h3, h4⟩
    rw [e]
    exact Classical.choose_spec (cell n a b h1 h2 h3 h4)
  by_cases hij : i ≤ j
  · exact ⟨fx, fun n a b h1 h2 h3 h4 => ⟨(sp n a b h1 h2 h3 h4).1, (sp n a b h1 h2 h3 h4).2.1⟩, fun n hn => (sp n i j hn (Nat.le_refl _) hij (Nat.le_refl _)).2.2.1 rfl rfl, fun n a b h1 h2 h3 h4 => (sp n a b h1 h2 h3 h4).2.2.2.1, fun n a b h1 h2 h3 h4 h5 => (sp n a b h1 h2 h3 h4).2.2.2.2 h5⟩
  · exact ⟨fun n _ _ => fw n, fun n a b h1 h2 h3 h4 => absurd h2 (by omega), fun _ _ => rfl, fun n a b h1 h2 h3 h4 => absurd h2 (by omega), fun n a b h1 h2 h3 h4 => absurd h2 (by omega)⟩
/-- a sum below 30000 is a true cost -/
theorem xk_Cd_Xe (ok : gm_ok g) (hp : p < gm_P g) (hs : ∀ n a b, n < 5 → i ≤ a → a ≤ b → b ≤ j → (fx n a b = 30000 ∨ gm_Xe g n a b (fx n a b))) (h : gm_Cd g (xk_gr fx) p i j r) (hr : r < 30000) : gm_Xe g (gm_l g p) i j r := by
  obtain ⟨u, v, a, b, c, h1, h2, h3, h4, h5, h6, h7⟩ := h
  have c0 : gm_s g (3 * p) < 15 := gm_ok_15 ok hp (show 0 < 3 by omega)
  have c1 := gm_ok_15 ok hp (show 1 < 3 by omega)
  have c2 := gm_ok_15 ok hp (show 2 < 3 by omega)
  have K : ∀ {c a b x}, c < 15 → i ≤ a → a ≤ b → b ≤ j → gm_Co g (xk_gr fx) c a b x → x < 30000 → gm_Co g (gm_Xe g) c a b x := by
    rintro c a b x hc q1 q2 q3 (⟨z, e⟩ | z | z) hx
    · refine Or.inl ⟨z, ?_⟩
      unfold xk_gr at e
      rw [e]
      exact (hs (c - 10) a b (by omega) q1 q2 q3).resolve_left (by omega)
    · exact Or.inr (Or.inl z)
    · exact Or.inr (Or.inr z)
  exact gm_Xe_mk hp ⟨u, v, a, b, c, h1, h2, h3, K c0 (Nat.le_refl _) h1 (by omega) h4 (by omega), K c1 h1 h2 (by omega) h5 (by omega), K c2 (by omega) h3 (Nat.le_refl _) h6 (by omega), h7⟩
/-- closed: the span's cells are right -/
theorem xk_done (ok : gm_ok g) (hl : ∀ n a b, n < 5 → i ≤ a → a ≤ b → b ≤ j → (i < a ∨ b < j) → ∀ y, gm_Xe g n a b y → fx n a b ≤ y) (hc : ∀ p, p < gm_P g → ∀ x, gm_Cd g (xk_gr fx) p i j x → fx (gm_l g p) i j ≤ x) : ∀ {n y}, gm_Xe g n i j y → fx n i j ≤ y := by
  intro n y h
  refine gm_Xe_ind (Q := fun n a b y => a = i → b = j → fx n i j ≤ y) (fun p a b y hp hd ea eb => ?_) h rfl rfl
  subst ea; subst eb
  obtain ⟨u, v, x1, x2, x3, h1, h2, h3, h4, h5, h6, h7⟩ := hd
  have c0 : gm_s g (3 * p) < 15 := gm_ok_15 ok hp (show 0 < 3 by omega)
  have c1 := gm_ok_15 ok hp (show 1 < 3 by omega)
  have c2 := gm_ok_15 ok hp (show 2 < 3 by omega)
  have K : ∀ {c s t x}, c < 15 → a ≤ s → s ≤ t → t ≤ b → gm_Co g (fun n i j y => gm_Xe g n i j y ∧ (i = a → j = b → fx n a b ≤ y)) c s t x → ∃ x', x' ≤ x ∧ gm_Co g (xk_gr fx) c s t x' := by
    rintro c s t x hc q1 q2 q3 (⟨z, e⟩ | z | z)
    · refine ⟨fx (c - 10) s t, ?_, Or.inl ⟨z, rfl⟩⟩
      by_cases w : a < s ∨ t < b
      · exact hl (c - 10) s t (by omega) q1 q2 q3 w x e.1
      · have e1 : s = a := by omega
        have e2 : t = b := by omega
        subst e1; subst e2
        exact e.2 rfl rfl
    · exact ⟨x, Nat.le_refl _, Or.inr (Or.inl z)⟩
    · exact ⟨x, Nat.le_refl _, Or.inr (Or.inr z)⟩
  obtain ⟨y1, l1, k1⟩ := K c0 (Nat.le_refl _) h1 (by omega) h4
  obtain ⟨y2, l2, k2⟩ := K c1 h1 h2 (by omega) h5
  obtain ⟨y3, l3, k3⟩ := K c2 (by omega) h3 (Nat.le_refl _) h6
  have := hc p hp _ ⟨u, v, y1, y2, y3, h1, h2, h3, k1, k2, k3, rfl⟩
  omega
theorem xk_gr_m {fx fx' : Nat → Nat → Nat → Nat} (ok : gm_ok g) (hp : p < gm_P g) (hm : ∀ n a b, n < 5 → i ≤ a → a ≤ b → b ≤ j → fx' n a b ≤ fx n a b) (h : gm_Cd g (xk_gr fx) p i j r) : ∃ r', r' ≤ r ∧ gm_Cd g (xk_gr fx') p i j r' := by
  obtain ⟨u, v, x1, x2, x3, h1, h2, h3, h4, h5, h6, h7⟩ := h
  have c0 : gm_s g (3 * p) < 15 := gm_ok_15 ok hp (show 0 < 3 by omega)
  have c1 := gm_ok_15 ok hp (show 1 < 3 by omega)
  have c2 := gm_ok_15 ok hp (show 2 < 3 by omega)
  have K : ∀ {c s t x}, c < 15 → i ≤ s → s ≤ t → t ≤ j → gm_Co g (xk_gr fx) c s t x → ∃ x', x' ≤ x ∧ gm_Co g (xk_gr fx') c s t x' := by
    rintro c s t x hc q1 q2 q3 (⟨z, e⟩ | z | z)
    · refine ⟨fx' (c - 10) s t, ?_, Or.inl ⟨z, rfl⟩⟩
      unfold xk_gr at e
      rw [e]; exact hm (c - 10) s t (by omega) q1 q2 q3
    · exact ⟨x, Nat.le_refl _, Or.inr (Or.inl z)⟩
    · exact ⟨x, Nat.le_refl _, Or.inr (Or.inr z)⟩
  obtain ⟨y1, l1, k1⟩ := K c0 (Nat.le_refl _) h1 (by omega) h4
  obtain ⟨y2, l2, k2⟩ := K c1 h1 h2 (by omega) h5
  obtain ⟨y3, l3, k3⟩ := K c2 (by omega) h3 (Nat.le_refl _) h6
  exact ⟨y1 + y2 + y3, by omega, u, v, y1, y2, y3, h1, h2, h3, k1, k2, k3, rfl⟩
end
end
section
/-! X: reckon, distance -/
def xk_ft (f0 : Nat → Nat → Nat → Nat) (i j : Nat) (fw : Nat → Nat) (n a b : Nat) : Nat := if a = i ∧ b = j then fw n else f0 n a b
def xk_fs (g : gm_G) (af0 : Nat → Int32) (f0 : Nat → Nat → Nat → Nat) (n a b : Nat) : Prop := af0 (55 * a + 11 * n + b) = nI (f0 n a b) ∧ f0 n a b ≤ 30000 ∧ (f0 n a b = 30000 ∨ gm_Xe g n a b (f0 n a b)) ∧ ∀ y, gm_Xe g n a b y → f0 n a b ≤ y
section
variable {g : gm_G} {L : Nat} {f_good f_empty f_used f_known f_firstRow f_firstFar f_columns f_endless f_derived : Int32} {a_left a_right a_size a_text a_ends a_trees a_heights a_chosen a_nodes a_far a_op a_constant a_wanted a_edges : Nat → Int32} {a_values a_sum : Nat → Int64} {c i j p n k m a b i0 r u v : Nat} {f0 : Nat → Nat → Nat → Nat} {af0 : Nat → Int32} {fw0 : Nat → Nat}
theorem xk_ft_w {fw : Nat → Nat} : xk_ft f0 i j fw n i j = fw n := if_pos ⟨rfl, rfl⟩
theorem xk_ft_s {fw : Nat → Nat} (h : i < a ∨ b < j) (h1 : i ≤ a) : xk_ft f0 i j fw n a b = f0 n a b := if_neg (fun z => by omega)
theorem xk_ft_tb {fw : Nat → Nat} {af : Nat → Int32} (hL : j ≤ 10) (hs : xk_Sub i j (xk_fs g af0 f0)) (hf : xk_Fr i j af af0) (hw : xk_Fw g i j fw af) : xk_tb af (xk_ft f0 i j fw) i j ∧ ∀ n a b, n < 5 → i ≤ a → a ≤ b → b ≤ j → (xk_ft f0 i j fw n a b = 30000 ∨ gm_Xe g n a b (xk_ft f0 i j fw n a b)) := by
  refine ⟨fun n a b h1 h2 h3 h4 => ?_, fun n a b h1 h2 h3 h4 => ?_⟩
  · by_cases w : i < a ∨ b < j
    · rw [xk_ft_s w h2]
      have := hs n a b h1 h2 h3 h4 w
      exact ⟨(hf _ (xk_idx (by omega) (by omega) w h2 h1)).trans this.1, this.2.1⟩
    · have e1 : a = i := by omega
      have e2 : b = j := by omega
      subst e1; subst e2
      rw [xk_ft_w]
      exact ⟨(hw n h1).1, (hw n h1).2.1⟩
  · by_cases w : i < a ∨ b < j
    · rw [xk_ft_s w h2]
      exact (hs n a b h1 h2 h3 h4 w).2.2.1
    · have e1 : a = i := by omega
      have e2 : b = j := by omega
      subst e1; subst e2
      rw [xk_ft_w]
      exact (hw n h1).2.2
theorem xs_reckon_37 {post : SX → Prop} {J : (Nat → Int32) → (Nat → Int32) → (Nat → Int32) → (Nat → Int32) → (Nat → Int32) → (Nat → Int32) → (Nat → Int32) → (Nat → Int32) → (Nat → Int32) → (Nat → Int64) → (Nat → Int32) → (Nat → Int32) → (Nat → Int32) → (Nat → Int32) → (Nat → Int64) → (Nat → Int32) → Prop} (G : cp_G g L a_right a_size a_text) (hl : xk_L g a_left) (hij : i ≤ j) (hjL : j ≤ L) (hs : xk_Sub i j (xk_fs g af0 f0))
    (hJ : ∀ fw af, xk_Fw g i j fw af → xk_Fr i j af af0 → sm_S fw 5 < sm_S fw0 5 → J a_left a_right a_size a_text a_ends a_trees a_heights a_chosen a_nodes a_values af a_op a_constant a_wanted a_sum a_edges)
    (hE : ∀ af, (∀ n, n < 5 → xk_Fc g af n i j) → xk_Fr i j af af0 → post (nI (gm_P g), nI L, f_good, f_empty, f_used, f_known, f_firstRow, f_firstFar, f_columns, f_endless, f_derived, a_left, a_right, a_size, a_text, a_ends, a_trees, a_heights, a_chosen, a_nodes, a_values, af, a_op, a_constant, a_wanted, a_sum, a_edges)) :
    ∀ d p x3 fw af, p + d = gm_P g → xk_Fw g i j fw af → xk_Fr i j af af0 → (∀ n, n < 5 → fw n ≤ fw0 n) → (∀ q, q < p → ∀ x, gm_Cd g (xk_gr (xk_ft f0 i j fw0)) q i j x → fw (gm_l g q) ≤ x) →
      ((x3 = 0 ∧ ∀ n, n < 5 → fw n = fw0 n) ∨ (x3 = 1 ∧ sm_S fw 5 < sm_S fw0 5)) → wX_reckon_37 post J (nI i) (nI j) (nI (gm_P g)) (nI L) f_good f_empty f_used f_known f_firstRow f_firstFar f_columns f_endless f_derived (d + 1) x3 (nI p) a_left a_right a_size a_text a_ends a_trees a_heights a_chosen a_nodes a_values af a_op a_constant a_wanted a_sum a_edges := by
  have h12 := cp_G_P G
  have hL := cp_G_L G
  have ok := cp_G_ok G
  intro d
  induction d with
  | zero =>
    intro p x3 fw af hp hw hf hle hc hm
    rw [wX_reckon_37]
    refine pk_le (gm_P g) p (fun _ => br_c (fun e => hE af (fun n hn => ?_) hf) (fun e => hJ fw af hw hf ?_)) (fun z => absurd z (by omega))
    · have he : ∀ n, n < 5 → fw n = fw0 n := by
        rcases hm with z | z
        · exact z.2
        · exact absurd (z.1.symm.trans e) (by decide)
      obtain ⟨q1, q2, q3⟩ := hw n hn
      refine ⟨fw n, q1, q3, q2, fun y hy => ?_⟩
      have := xk_done (fx := xk_ft f0 i j fw0) ok (fun n a b h1 h2 h3 h4 h5 y hy => by rw [xk_ft_s h5 h2]; exact (hs n a b h1 h2 h3 h4 h5).2.2.2 y hy) (fun p hp x hx => by rw [xk_ft_w, ← he _ (gm_ok_l ok hp)]; exact hc p (by omega) x hx) hy
      rw [xk_ft_w] at this
      rw [he n hn]; exact this
    · rcases hm with z | z
      · exact absurd z.1 e
      · exact z.2
  | succ d ih =>
    intro p x3 fw af hp hw hf hle hc hm
    have hp' : p < gm_P g := by omega
    have hl5 := gm_ok_l ok hp'
    obtain ⟨tb, snd⟩ := xk_ft_tb (by omega) hs hf hw
    rw [wX_reckon_37]
    refine pk_le (gm_P g) p (fun z => absurd z (by omega)) (fun _ => ?_)
    rw [nI_clamp (show p < 2 ^ 31 by omega), hl p hp']
    refine ⟨vp_in_nI (by omega) (by omega), nm_r ix_55 (xs_nearest G tb hij hjL hp' fun r hr => ?_)⟩
    have hrb := hr.1
    have hw1 := hw (gm_l g p) hl5
    have low : ∀ x, gm_Cd g (xk_gr (xk_ft f0 i j fw0)) p i j x → r ≤ x := by
      intro x hx
      obtain ⟨x', hx', u, v, a, b, c, q1, q2, q3, q4, q5, q6, q7⟩ := xk_gr_m (fx' := xk_ft f0 i j fw) ok hp' (fun n a b h1 h2 h3 h4 => by
        by_cases w : i < a ∨ b < j
        · rw [xk_ft_s w h2, xk_ft_s w h2]; exact Nat.le_refl _
        · have e1 : a = i := by omega
          have e2 : b = j := by omega
          subst e1; subst e2
          rw [xk_ft_w, xk_ft_w]; exact hle n h1) hx
      have := hr.2.2 u v a b c trivial q1 q2 q3 q4 q5 q6
      omega
    rw [nI_clamp (show 55 * i + 11 * gm_l g p + j < 2 ^ 31 by omega), hw1.1]
    have hw1b := hw1.2.1
    refine ⟨vp_in_nI (by omega) (by omega), pk_lt r (fw (gm_l g p)) (fun z => ⟨vp_in_nI (by omega) (by omega), ?_⟩) (fun z => nm_r (nI_1 _) (ih (p + 1) x3 fw af (by omega) hw hf hle (fun q hq x hx => ?_) hm))⟩
    · rw [cp_n16 (cp_t16 (by omega))]
      have hXe : gm_Xe g (gm_l g p) i j r := xk_Cd_Xe ok hp' snd (hr.2.1.resolve_left (by omega)) (by omega)
      refine nm_e (nm_r (nI_1 _) (ih (p + 1) 1 (xk_up fw (gm_l g p) r) _ (by omega) (fun n hn => ?_) (xk_Fr_u hf hl5) (fun n hn => ?_) (fun q hq x hx => ?_) (Or.inr ⟨rfl, ?_⟩)))
      · by_cases e : n = gm_l g p
        · subst e; rw [pk_us, xk_up_s]; exact ⟨rfl, by omega, Or.inr hXe⟩
        · rw [pk_un (by omega), xk_up_n e]; exact hw n hn
      · by_cases e : n = gm_l g p
        · subst e; rw [xk_up_s]; have := hle _ hn; omega
        · rw [xk_up_n e]; exact hle n hn
      · by_cases e : gm_l g q = gm_l g p
        · rw [e, xk_up_s]
          rcases Nat.lt_or_ge q p with w | w
          · have := hc q w x hx
            rw [e] at this; omega
          · have : q = p := by omega
            subst this; exact low x hx
        · rw [xk_up_n e]
          rcases Nat.lt_or_ge q p with w | w
          · exact hc q w x hx
          · have : q = p := by omega
            subst this; exact absurd rfl e
      · have a1 : sm_S (xk_up fw (gm_l g p) r) 5 < sm_S fw 5 := sm_lt (a := gm_l g p) (by rw [xk_up_s]; exact z) (fun n _ => by
          by_cases e : n = gm_l g p
          · subst e; rw [xk_up_s]; omega
          · rw [xk_up_n e]; exact Nat.le_refl _) hl5
        have a2 : sm_S fw 5 ≤ sm_S fw0 5 := sm_le hle
        omega
    · rcases Nat.lt_or_ge q p with w | w
      · exact hc q w x hx
      · have : q = p := by omega
        subst this
        have := low x hx
        omega
theorem xs_reckon_32 {post : SX → Prop} (G : cp_G g L a_right a_size a_text) (hl : xk_L g a_left) (hij : i ≤ j) (hjL : j ≤ L) (hs : xk_Sub i j (xk_fs g af0 f0))
    (hE : ∀ af, (∀ n, n < 5 → xk_Fc g af n i j) → xk_Fr i j af af0 → post (nI (gm_P g), nI L, f_good, f_empty, f_used, f_known, f_firstRow, f_firstFar, f_columns, f_endless, f_derived, a_left, a_right, a_size, a_text, a_ends, a_trees, a_heights, a_chosen, a_nodes, a_values, af, a_op, a_constant, a_wanted, a_sum, a_edges)) :
    ∀ N fw af, sm_S fw 5 < N → xk_Fw g i j fw af → xk_Fr i j af af0 → wX_reckon_32 post (nI i) (nI j) (nI (gm_P g)) (nI L) f_good f_empty f_used f_known f_firstRow f_firstFar f_columns f_endless f_derived N a_left a_right a_size a_text a_ends a_trees a_heights a_chosen a_nodes a_values af a_op a_constant a_wanted a_sum a_edges := by
  intro N
  induction N with
  | zero => intro fw af h; omega
  | succ N ih =>
    intro fw af hN hw hf
    rw [wX_reckon_32]
    exact ⟨gm_P g + 1, xs_reckon_37 (fw0 := fw) G hl hij hjL hs (fun fw' af' hw' hf' hlt => ih fw' af' (by omega) hw' hf') hE (gm_P g) 0 0 fw af (by omega) hw hf (fun n _ => Nat.le_refl _) (fun q hq => absurd hq (by omega)) (Or.inl ⟨rfl, fun _ _ => rfl⟩)⟩
theorem xs_reckon {post : SX → Prop} (G : cp_G g L a_right a_size a_text) (hl : xk_L g a_left) (hij : i ≤ j) (hjL : j ≤ L) (hV : xk_FV g L i j a_far)
    (hE : ∀ af, xk_FV g L i (j + 1) af → post (nI (gm_P g), nI L, f_good, f_empty, f_used, f_known, f_firstRow, f_firstFar, f_columns, f_endless, f_derived, a_left, a_right, a_size, a_text, a_ends, a_trees, a_heights, a_chosen, a_nodes, a_values, af, a_op, a_constant, a_wanted, a_sum, a_edges)) : wpX_reckon post (nI (gm_P g), nI L, f_good, f_empty, f_used, f_known, f_firstRow, f_firstFar, f_columns, f_endless, f_derived, a_left, a_right, a_size, a_text, a_ends, a_trees, a_heights, a_chosen, a_nodes, a_values, a_far, a_op, a_constant, a_wanted, a_sum, a_edges) (nI i) (nI j) := by
  have hL := cp_G_L G
  have lp : ∀ d q af, q + d = 5 → (∀ n, n < q → af (55 * i + 11 * n + j) = nI 30000) → xk_Fr i j af a_far → wX_reckon_2 post (nI i) (nI j) (nI (gm_P g)) (nI L) f_good f_empty f_used f_known f_firstRow f_firstFar f_columns f_endless f_derived (d + 1) (nI q) a_left a_right a_size a_text a_ends a_trees a_heights a_chosen a_nodes a_values af a_op a_constant a_wanted a_sum a_edges := by
    intro d
    induction d with
    | zero =>
      intro q af hq hz hf
      rw [wX_reckon_2]
      have hw : xk_Fw g i j (fun _ => 30000) af := fun n hn => ⟨hz n (by omega), Nat.le_refl _, Or.inl rfl⟩
      obtain ⟨f0, t1, t2, t3, t4⟩ := xk_tb_ex (L := L) hL hjL hV hf hw
      refine pk_le 5 q (fun _ => ⟨_, xs_reckon_32 (f0 := f0) (af0 := af) G hl hij hjL (fun n a b h1 h2 h3 h4 h5 => ⟨(t1 n a b h1 h2 h3 h4).1, (t1 n a b h1 h2 h3 h4).2, t3 n a b h1 h2 h3 h4, t4 n a b h1 h2 h3 h4 h5⟩) (fun af' hc hf' => hE af' fun n a b h1 h2 h3 h4 h5 => ?_) _ (fun _ => 30000) af (Nat.lt_succ_self _) hw xk_Fr_r⟩) (fun z => absurd z (by omega))
      by_cases w : i < a ∨ b < j
      · obtain ⟨x, e, hx⟩ := hV n a b h1 h2 h3 h4 w
        have hy := xk_idx (i := i) (j := j) (n := n) (a := a) (b := b) (by omega) (by omega) w h2 h1
        exact ⟨x, (hf' _ hy).trans ((hf _ hy).trans e), hx⟩
      · have e1 : a = i := by omega
        have e2 : b = j := by omega
        subst e1; subst e2
        exact hc n h1
    | succ d ih =>
      intro q af hq hz hf
      rw [wX_reckon_2]
      refine pk_le 5 q (fun z => absurd z (by omega)) (fun _ => ?_)
      rw [ix_55, nI_clamp (show 55 * i + 11 * q + j < 2 ^ 31 by omega), cp_n16' (x := 30000) (by decide)]
      refine ⟨vp_in_nI (by omega) (by omega), nm_e (nm_r (nI_1 _) (ih (q + 1) _ (by omega) (fun n hn => ?_) (xk_Fr_u hf (by omega))))⟩
      by_cases e : n = q
      · subst e; rw [pk_us]; rfl
      · rw [pk_un (by omega)]; exact hz n (by omega)
  unfold wpX_reckon
  exact ⟨6, lp 5 0 a_far rfl (fun n hn => absurd hn (by omega)) xk_Fr_r⟩
/-- distances from row f on -/
def xk_FW (g : gm_G) (L f : Nat) (af : Nat → Int32) : Prop := ∀ n a b, n < 5 → f ≤ a → a ≤ b → b ≤ L → xk_Fc g af n a b
theorem xs_distance {post : Int32 → SX → Prop} {v1 v2 v3 : Int32} {f : Nat} (G : cp_G g L a_right a_size a_text) (hl : xk_L g a_left) (hk : f_known ≠ 0 → f_known = 1 ∧ xk_K g f_good f_empty f_used) (hf : f_firstFar = nI f) (hfL : f ≤ L + 1) (hF : xk_FW g L f a_far)
    (h0 : (∀ n i j, ¬ cp_Span L v1 v2 v3 n i j) → post (-1) (nI (gm_P g), nI L, f_good, f_empty, f_used, f_known, f_firstRow, f_firstFar, f_columns, f_endless, f_derived, a_left, a_right, a_size, a_text, a_ends, a_trees, a_heights, a_chosen, a_nodes, a_values, a_far, a_op, a_constant, a_wanted, a_sum, a_edges))
    (h1 : ∀ n i j, cp_Span L v1 v2 v3 n i j → ∀ a b u, xk_K g a b u → ¬ gm_Pd g n → post (-1) (nI (gm_P g), nI L, a, b, u, 1, f_firstRow, f_firstFar, f_columns, f_endless, f_derived, a_left, a_right, a_size, a_text, a_ends, a_trees, a_heights, a_chosen, a_nodes, a_values, a_far, a_op, a_constant, a_wanted, a_sum, a_edges))
    (h2 : ∀ n i j, cp_Span L v1 v2 v3 n i j → ∀ a b u f' af x, xk_K g a b u → gm_Pd g n → f' ≤ L + 1 → xk_FW g L f' af → gm_FX g n i j x → post (nI x) (nI (gm_P g), nI L, a, b, u, 1, f_firstRow, nI f', f_columns, f_endless, f_derived, a_left, a_right, a_size, a_text, a_ends, a_trees, a_heights, a_chosen, a_nodes, a_values, af, a_op, a_constant, a_wanted, a_sum, a_edges)) : wpX_distance post (nI (gm_P g), nI L, f_good, f_empty, f_used, f_known, f_firstRow, f_firstFar, f_columns, f_endless, f_derived, a_left, a_right, a_size, a_text, a_ends, a_trees, a_heights, a_chosen, a_nodes, a_values, a_far, a_op, a_constant, a_wanted, a_sum, a_edges) v1 v2 v3 := by
  have hL := cp_G_L G
  subst hf
  unfold wpX_distance
  refine xs_isSpan G (fun n i j hs => br_f (by decide) (xs_learn G hl hk fun a b u hK => ?_)) (fun hs => br_t rfl (h0 hs))
  have hs' := hs
  obtain ⟨hn, hij, hjL, e1, e2, e3⟩ := hs'
  dsimp only
  rw [e1, e2, e3, ix_N]
  refine br_bit (by omega) (fun z => h1 n i j hs a b u hK fun w => z ((hK.1 n (by omega)).mpr w)) (fun z => ?_)
  have hPd := (hK.1 n (by omega)).mp z
  have in56 : ∀ (J : Int32 → Int32 → Int32 → Int32 → Int32 → Int32 → Int32 → Int32 → Int32 → Int32 → Int32 → (Nat → Int32) → (Nat → Int32) → (Nat → Int32) → (Nat → Int32) → (Nat → Int32) → (Nat → Int32) → (Nat → Int32) → (Nat → Int32) → (Nat → Int32) → (Nat → Int64) → (Nat → Int32) → (Nat → Int32) → (Nat → Int32) → (Nat → Int32) → (Nat → Int64) → (Nat → Int32) → Prop) k, k ≤ L → (∀ af, xk_FV g L k (L + 1) af → J (nI (gm_P g)) (nI L) a b u 1 f_firstRow (nI k) f_columns f_endless f_derived a_left a_right a_size a_text a_ends a_trees a_heights a_chosen a_nodes a_values af a_op a_constant a_wanted a_sum a_edges) → ∀ d m af, m + d = L + 1 → k ≤ m → xk_FV g L k m af → wX_distance_56 post J (nI (n + 10)) (nI i) (nI j) (d + 1) (nI m) (nI (gm_P g)) (nI L) a b u 1 f_firstRow (nI k) f_columns f_endless f_derived a_left a_right a_size a_text a_ends a_trees a_heights a_chosen a_nodes a_values af a_op a_constant a_wanted a_sum a_edges := by
    intro J k hkL hJ d
    induction d with
    | zero =>
      intro m af hm hkm hV
      rw [wX_distance_56]
      exact pk_lt L m (fun _ => hJ af (by rw [show m = L + 1 by omega] at hV; exact hV)) (fun z => absurd z (by omega))
    | succ d ih =>
      intro m af hm hkm hV
      rw [wX_distance_56]
      exact pk_lt L m (fun z => absurd z (by omega)) (fun _ => xs_reckon G hl hkm (by omega) hV fun af' hV' => nm_r (nI_1 _) (ih (m + 1) af' (by omega) (by omega) hV'))
  have out : ∀ d f af, f ≤ i + d → f ≤ L + 1 → xk_FW g L f af → wX_distance_32 post (nI (n + 10)) (nI i) (nI j) (d + 1) (nI (gm_P g)) (nI L) a b u 1 f_firstRow (nI f) f_columns f_endless f_derived a_left a_right a_size a_text a_ends a_trees a_heights a_chosen a_nodes a_values af a_op a_constant a_wanted a_sum a_edges := by
    intro d
    have fin : ∀ f af, f ≤ i → f ≤ L + 1 → xk_FW g L f af → vp_in (((55 * nI i) + (11 * (nI (n + 10) - 10))) + nI j) 605 ∧ post (af (((55 * nI i) + (11 * (nI (n + 10) - 10))) + nI j).toNatClampNeg) (nI (gm_P g), nI L, a, b, u, 1, f_firstRow, nI f, f_columns, f_endless, f_derived, a_left, a_right, a_size, a_text, a_ends, a_trees, a_heights, a_chosen, a_nodes, a_values, af, a_op, a_constant, a_wanted, a_sum, a_edges) := by
      intro f af hfi hfL hF
      obtain ⟨x, e, hx⟩ := hF n i j hn hfi hij hjL
      rw [ix_N, ix_55, nI_clamp (show 55 * i + 11 * n + j < 2 ^ 31 by omega), e]
      exact ⟨vp_in_nI (by omega) (by omega), h2 n i j hs a b u f af x hK hPd hfL hF hx⟩
    induction d with
    | zero =>
      intro f af hfd hfL hF
      rw [wX_distance_32]
      exact pk_le f i (fun z => fin f af z hfL hF) (fun z => absurd z (by omega))
    | succ d ih =>
      intro f af hfd hfL hF
      rw [wX_distance_32]
      refine pk_le f i (fun z => fin f af z hfL hF) (fun z => ?_)
      obtain ⟨k, rfl⟩ : ∃ k, f = k + 1 := ⟨f - 1, by omega⟩
      exact nm_r (nI_pred k) ⟨L + 1 - k + 1, in56 _ k (by omega) (fun af' hV => ih k af' (by omega) (by omega) fun n a b q1 q2 q3 q4 => hV n a b q1 q2 q3 q4 (by omega)) (L + 1 - k) k af (by omega) (Nat.le_refl _) (fun n a b q1 q2 q3 q4 q5 => hF n a b q1 (by omega) q3 q4)⟩
  exact ⟨f + 1, out f f a_far (by omega) hfL hF⟩
end
end
section
/-! X: beginning, column -/
/-- what beginning(i, k) gives, A being what is wanted at i -/
def xk_sx (c x : Nat) : Prop := (10 ≤ c ∧ x + 4 = c) ∨ (c < 9 ∧ x = c)
def xk_Bn (g : gm_G) (A : Nat → Prop) (i k x : Nat) : Prop := ∃ p q, p < gm_P g ∧ A (gm_l g p) ∧ gm_aQ g p 0 ∧ q < 3 ∧ gm_Pf g (gm_D g) p q i k ∧ xk_sx (gm_s g (3 * p + q)) x
theorem gm_Wt_5 {g : gm_G} (ok : gm_ok g) {k m : Nat} (h : gm_Wt g k m) : m < 5 := by
  obtain ⟨r, h⟩ := h
  cases r with
  | zero => exact h.elim
  | succ r =>
    rcases h with ⟨_, h, _⟩ | ⟨i, p, q, _, hp, _, _, hq, hs, _⟩
    · omega
    · have := gm_ok_15 ok hp hq; omega
section
variable {g : gm_G} {L : Nat} {f_good f_empty f_used f_known f_firstRow f_firstFar f_columns f_endless f_derived : Int32} {a_left a_right a_size a_text a_ends a_trees a_heights a_chosen a_nodes a_far a_op a_constant a_wanted a_edges : Nat → Int32} {a_values a_sum : Nat → Int64} {c i j p n k m a b i0 r u v : Nat}
theorem xk_Er_HE (G : cp_G g L a_right a_size a_text) (H : xk_Er g L a_ends i) : xk_HE L a_ends i := fun n k j hn hk hkL hj h => by
  have := (H k n hk hkL hn j hj).mp h
  exact ⟨gm_D_le this.1, this.2⟩
theorem xk_Pf_ED (G : cp_G g L a_right a_size a_text) (H : xk_Er g L a_ends i) (hp : p < gm_P g) : ∀ q, q ≤ 3 → ∀ j, j ≤ L → (gm_Pf g (xk_E a_ends) p q i j ↔ gm_Pf g (gm_D g) p q i j) := by
  intro q
  induction q with
  | zero => intro _ j _; exact Iff.rfl
  | succ q ih =>
    intro hq j hj
    have hc := gm_ok_15 (cp_G_ok G) hp (show q < 3 by omega)
    constructor
    · rintro ⟨u, h1, h2, h3, h4⟩
      exact ⟨u, (ih (by omega) u (by omega)).mp h1, h2, h3, (xk_Er_Sp G H hc h2 (by omega) hj).mp h4⟩
    · rintro ⟨u, h1, h2, h3, h4⟩
      exact ⟨u, (ih (by omega) u (by omega)).mpr h1, h2, h3, (xk_Er_Sp G H hc h2 (by omega) hj).mpr h4⟩
theorem xs_beg_61 {post : Int32 → Prop} {J : Int32 → Int32 → Prop} {B : Nat → Prop} (G : cp_G g L a_right a_size a_text) (H : xk_Er g L a_ends i) (hi : i ≤ L) (hk : k ≤ L) (hp : p < gm_P g)
    (hJ : ∀ x, cp_St x (fun y => B y ∨ ∃ q, q < 3 ∧ gm_Pf g (gm_D g) p q i k ∧ xk_sx (gm_s g (3 * p + q)) y) → J x (nI (p + 1))) :
    ∀ d q x3 pl, q + d = gm_sz g p → cp_St x3 (fun y => B y ∨ ∃ q', q' < q ∧ gm_Pf g (gm_D g) p q' i k ∧ xk_sx (gm_s g (3 * p + q')) y) → cp_St pl (fun j => gm_Pf g (xk_E a_ends) p q i j ∧ j ≤ L) → wX_beginning_61 post J (nI i) (nI k) (nI p) (nI (gm_P g)) (nI L) f_good f_empty f_used f_known f_firstRow f_firstFar f_columns f_endless f_derived a_left a_right a_size a_text a_ends a_trees a_heights a_chosen a_nodes a_values a_far a_op a_constant a_wanted a_sum a_edges (d + 1) x3 pl (nI (3 * p + q)) := by
  have h12 := cp_G_P G
  have hL := cp_G_L G
  have ok := cp_G_ok G
  have hs3 := gm_sz_le g p
  have HE := xk_Er_HE G H
  intro d
  induction d with
  | zero =>
    intro q x3 pl hq hx hpl
    rw [wX_beginning_61]; dsimp only
    rw [nI_clamp (show p < 2 ^ 31 by omega), cp_G_sz G hp, ix_3k]
    refine ⟨vp_in_nI (by omega) (by omega), pk_le (3 * p + gm_sz g p) (3 * p + q) (fun _ => nm_r (nI_1 _) (hJ x3 (cp_St_i hx fun y _ => ⟨fun z => z.imp id fun ⟨q', h1, h2⟩ => ⟨q', by omega, h2⟩, fun z => z.imp id fun ⟨q', h1, h2, h3⟩ => ⟨q', ?_, h2, h3⟩⟩))) (fun h => absurd h (by omega))⟩
    have := (gm_sz_lt ok hp h1).mpr (by rcases h3 with h3 | h3 <;> omega)
    omega
  | succ d ih =>
    intro q x3 pl hq hx hpl
    have hk3 : q < 3 := by omega
    have hc := gm_ok_15 ok hp hk3
    have h9 : gm_s g (3 * p + q) ≠ 9 := (gm_sz_lt ok hp hk3).mp (by omega)
    have next : ∀ x3', cp_St x3' (fun y => B y ∨ ∃ q', q' < q + 1 ∧ gm_Pf g (gm_D g) p q' i k ∧ xk_sx (gm_s g (3 * p + q')) y) → wX_beginning_127 post J (wX_beginning_61 post J (nI i) (nI k) (nI p) (nI (gm_P g)) (nI L) f_good f_empty f_used f_known f_firstRow f_firstFar f_columns f_endless f_derived a_left a_right a_size a_text a_ends a_trees a_heights a_chosen a_nodes a_values a_far a_op a_constant a_wanted a_sum a_edges (d + 1)) (nI i) (nI k) x3' (nI p) pl (nI (3 * p + q)) (nI (gm_P g)) (nI L) f_good f_empty f_used f_known f_firstRow f_firstFar f_columns f_endless f_derived a_left a_right a_size a_text a_ends a_trees a_heights a_chosen a_nodes a_values a_far a_op a_constant a_wanted a_sum a_edges := by
      intro x3' hx'
      unfold wX_beginning_127
      rw [nI_clamp (show 3 * p + q < 2 ^ 31 by omega), cp_G_rt G hp hk3]
      exact ⟨vp_in_nI (by omega) (by omega), xs_after G hc h9 fun r hr => nm_r (nI_1 _) (ih (q + 1) x3' r (by omega) hx' (xk_step G hp hk3 h9 HE hpl hr))⟩
    have hit : bt pl k = true ↔ gm_Pf g (gm_D g) p q i k :=
      ⟨fun z => (xk_Pf_ED G H hp q (by omega) k hk).mp ((hpl k (by omega)).mp z).1, fun z => (hpl k (by omega)).mpr ⟨(xk_Pf_ED G H hp q (by omega) k hk).mpr z, hk⟩⟩
    have skip : ¬ gm_Pf g (gm_D g) p q i k → cp_St x3 (fun y => B y ∨ ∃ q', q' < q + 1 ∧ gm_Pf g (gm_D g) p q' i k ∧ xk_sx (gm_s g (3 * p + q')) y) := by
      intro z
      refine cp_St_i hx fun y _ => ⟨?_, ?_⟩
      · rintro (w | ⟨q', h1, h2⟩)
        · exact Or.inl w
        · exact Or.inr ⟨q', by omega, h2⟩
      · rintro (w | ⟨q', h1, h2, h3⟩)
        · exact Or.inl w
        · rcases Nat.lt_or_ge q' q with y | y
          · exact Or.inr ⟨q', y, h2, h3⟩
          · have : q' = q := by omega
            subst this; exact absurd h2 z
    have ext : ∀ {P2 : Nat → Prop} {x3'}, gm_Pf g (gm_D g) p q i k → cp_St x3' (fun y => (B y ∨ ∃ q', q' < q ∧ gm_Pf g (gm_D g) p q' i k ∧ xk_sx (gm_s g (3 * p + q')) y) ∨ P2 y) → (∀ y, P2 y ↔ xk_sx (gm_s g (3 * p + q)) y) → cp_St x3' (fun y => B y ∨ ∃ q', q' < q + 1 ∧ gm_Pf g (gm_D g) p q' i k ∧ xk_sx (gm_s g (3 * p + q')) y) := by
      intro P2 x3' hPf hst he
      refine cp_St_i hst fun y _ => ⟨?_, ?_⟩
      · rintro ((z | ⟨q', h1, h2⟩) | z)
        · exact Or.inl z
        · exact Or.inr ⟨q', by omega, h2⟩
        · exact Or.inr ⟨q, by omega, hPf, (he y).mp z⟩
      · rintro (z | ⟨q', h1, h2, h3⟩)
        · exact Or.inl (Or.inl z)
        · rcases Nat.lt_or_ge q' q with w | w
          · exact Or.inl (Or.inr ⟨q', w, h2, h3⟩)
          · have : q' = q := by omega
            subst this; exact Or.inr ((he y).mpr h3)
    rw [wX_beginning_61]; dsimp only
    rw [nI_clamp (show p < 2 ^ 31 by omega), cp_G_sz G hp, ix_3k, nI_clamp (show 3 * p + q < 2 ^ 31 by omega), cp_G_rt G hp hk3]
    refine ⟨vp_in_nI (by omega) (by omega), pk_le (3 * p + gm_sz g p) (3 * p + q) (fun h => absurd h (by omega)) (fun _ => br_bit (by omega) (fun z => next x3 (skip fun y => z (hit.mpr y))) (fun z => ⟨vp_in_nI (by omega) (by omega), br_i (cp_Sy_le9 hc) (fun y => ⟨vp_in_nI (by omega) (by omega), ?_⟩) (fun y => ⟨vp_in_nI (by omega) (by omega), ?_⟩)⟩))⟩
    · unfold wX_beginning_125
      rw [cp_Sy_n h9]
      exact nm_e (next _ (ext (P2 := fun y => y = gm_s g (3 * p + q)) (hit.mp z) (cp_St_or hx (cp_St_1 (n := gm_s g (3 * p + q)) (by omega))) fun y' => by unfold xk_sx; omega))
    · unfold wX_beginning_125
      rw [ix_S (show 10 ≤ gm_s g (3 * p + q) by omega)]
      exact nm_e (next _ (ext (P2 := fun y => y = gm_s g (3 * p + q) - 10 + 6) (hit.mp z) (cp_St_or hx (cp_St_64 (n := gm_s g (3 * p + q) - 10) (by omega))) fun y' => by unfold xk_sx; omega))
theorem xs_beginning {post : Int32 → Prop} (G : cp_G g L a_right a_size a_text) (hl : xk_L g a_left) (H : xk_Er g L a_ends i) (hgood : cp_St f_good (gm_Pd g)) (hi : i ≤ L) (hk : k ≤ L)
    (h : ∀ r, cp_St r (xk_Bn g (fun n => bt (a_wanted i) n = true) i k) → post r) : wpX_beginning post (nI (gm_P g), nI L, f_good, f_empty, f_used, f_known, f_firstRow, f_firstFar, f_columns, f_endless, f_derived, a_left, a_right, a_size, a_text, a_ends, a_trees, a_heights, a_chosen, a_nodes, a_values, a_far, a_op, a_constant, a_wanted, a_sum, a_edges) (nI i) (nI k) := by
  have h12 := cp_G_P G
  have hL := cp_G_L G
  have ok := cp_G_ok G
  have lp : ∀ d p x3, p + d = gm_P g → cp_St x3 (fun y => ∃ p' q, p' < p ∧ bt (a_wanted i) (gm_l g p') = true ∧ gm_aQ g p' 0 ∧ q < 3 ∧ gm_Pf g (gm_D g) p' q i k ∧ xk_sx (gm_s g (3 * p' + q)) y) → wX_beginning_5 post (nI i) (nI k) (nI (gm_P g)) (nI L) f_good f_empty f_used f_known f_firstRow f_firstFar f_columns f_endless f_derived a_left a_right a_size a_text a_ends a_trees a_heights a_chosen a_nodes a_values a_far a_op a_constant a_wanted a_sum a_edges (d + 1) x3 (nI p) := by
    intro d
    induction d with
    | zero =>
      intro p x3 hp hx
      rw [wX_beginning_5]
      exact pk_le (gm_P g) p (fun _ => h x3 (cp_St_i hx fun y _ => ⟨fun ⟨p', q, h1, h2⟩ => ⟨p', q, by omega, h2⟩, fun ⟨p', q, h1, h2⟩ => ⟨p', q, by omega, h2⟩⟩)) (fun z => absurd z (by omega))
    | succ d ih =>
      intro p x3 hp hx
      have hp' : p < gm_P g := by omega
      have hl5 := gm_ok_l ok hp'
      have skip : ¬ (bt (a_wanted i) (gm_l g p) = true ∧ gm_aQ g p 0) → cp_St x3 (fun y => ∃ p' q, p' < p + 1 ∧ bt (a_wanted i) (gm_l g p') = true ∧ gm_aQ g p' 0 ∧ q < 3 ∧ gm_Pf g (gm_D g) p' q i k ∧ xk_sx (gm_s g (3 * p' + q)) y) := fun hn => cp_St_i hx fun y _ => ⟨fun ⟨p', q, h1, h2⟩ => ⟨p', q, by omega, h2⟩, fun ⟨p', q, h1, h2, h3, h4⟩ => ⟨p', q, by
        rcases Nat.lt_or_ge p' p with z | z
        · exact z
        · have : p' = p := by omega
          subst this; exact absurd ⟨h2, h3⟩ hn, h2, h3, h4⟩⟩
      have hQ : (∀ k, k < 3 → xk_Wn f_good 1 (gm_s g (3 * p + k))) ↔ gm_aQ g p 0 := by
        rw [xk_Wn_g ok hp']
        constructor
        · intro h k _ hk hc
          have := gm_ok_15 ok hp' hk
          exact (hgood _ (by omega)).mp (h k hk hc)
        · intro h k hk hc
          have := gm_ok_15 ok hp' hk
          exact (hgood _ (by omega)).mpr (h k (by omega) hk hc)
      rw [wX_beginning_5]
      refine pk_le (gm_P g) p (fun z => absurd z (by omega)) (fun _ => ?_)
      rw [nI_clamp (show p < 2 ^ 31 by omega), hl p hp', nI_clamp (show i < 2 ^ 31 by omega)]
      refine ⟨vp_in_nI (by omega) (by omega), vp_in_nI (by omega) (by omega), br_bit (by omega) (fun z => nm_r (nI_1 _) (ih (p + 1) x3 (by omega) (skip fun w => z w.1))) (fun z => xs_within G hp' (fun w => br_f (by decide) (nm_e (nm_r ix_3 ⟨gm_sz g p + 1, xs_beg_61 (B := fun y => ∃ p' q, p' < p ∧ bt (a_wanted i) (gm_l g p') = true ∧ gm_aQ g p' 0 ∧ q < 3 ∧ gm_Pf g (gm_D g) p' q i k ∧ xk_sx (gm_s g (3 * p' + q)) y) G H hi hk hp' (fun x hx' => ih (p + 1) x (by omega) (cp_St_i hx' fun y _ => ⟨?_, ?_⟩)) (gm_sz g p) 0 x3 _ (by omega) (cp_St_i hx fun y _ => ⟨Or.inl, fun q => q.elim id fun ⟨_, h1, _⟩ => absurd h1 (by omega)⟩) (cp_St_i (cp_St_1 (by omega)) fun j _ => ⟨fun q => ⟨q.symm, by omega⟩, fun q => q.1.symm⟩)⟩))) (fun w => br_t rfl (nm_r (nI_1 _) (ih (p + 1) x3 (by omega) (skip fun q => w (hQ.mpr q.2))))))⟩
      · rintro (⟨p', q, h1, h2⟩ | ⟨q, h1, h2, h3⟩)
        · exact ⟨p', q, by omega, h2⟩
        · exact ⟨p, q, by omega, z, hQ.mp w, h1, h2, h3⟩
      · rintro ⟨p', q, h1, h2, h3, h4, h5, h6⟩
        rcases Nat.lt_or_ge p' p with y | y
        · exact Or.inl ⟨p', q, y, h2, h3, h4, h5, h6⟩
        · have : p' = p := by omega
          subst this; exact Or.inr ⟨q, h4, h5, h6⟩
  unfold wpX_beginning
  exact ⟨gm_P g + 1, lp (gm_P g) 0 0 (by omega) (cp_St_i cp_St_0 fun y _ => ⟨fun z => z.elim, fun ⟨p', q, h1, _⟩ => absurd h1 (by omega)⟩)⟩
theorem xk_Bn_10 (ok : gm_ok g) {A : Nat → Prop} {x : Nat} (h : xk_Bn g A i k x) : x < 11 := by
  obtain ⟨p, q, hp, _, _, hq, _, hx⟩ := h
  have := gm_ok_15 ok hp hq
  rcases hx with hx | hx <;> omega
theorem xk_Bn_6 {A : Nat → Prop} {w : Int32} (ok : gm_ok g) (h : cp_St w (xk_Bn g A i k)) : cp_St (w >>> ((6 : Int32) &&& 31)) (fun m => xk_Bn g A i k (m + 6)) := fun m hm => by
  rw [show (w >>> ((6 : Int32) &&& 31)) = w >>> (nI 6 &&& 31) from rfl, b_sshr 6 (by omega) w hm]
  by_cases z : 6 + m < 32
  · rw [if_pos z, h (6 + m) z, Nat.add_comm]
  · rw [if_neg z, h 31 (by omega)]
    exact ⟨fun y => absurd (xk_Bn_10 ok y) (by omega), fun y => absurd (xk_Bn_10 ok y) (by omega)⟩
/-- columns before c are right -/
def xk_CW (g : gm_G) (c : Nat) (aw : Nat → Int32) : Prop := ∀ k, k < c → cp_St (aw k) (gm_Wt g k)
def xk_cd (g : gm_G) (k i : Nat) (w0 : Int32) (aw : Nat → Int32) (x : Nat) : Prop := xk_Bn g (fun n => bt (if i = k then w0 else aw i) n = true) i k x
theorem xs_column_9 {post : SX → Prop} {J : (Nat → Int32) → (Nat → Int32) → (Nat → Int32) → (Nat → Int32) → (Nat → Int32) → (Nat → Int32) → (Nat → Int32) → (Nat → Int32) → (Nat → Int32) → (Nat → Int64) → (Nat → Int32) → (Nat → Int32) → (Nat → Int32) → (Nat → Int32) → (Nat → Int64) → (Nat → Int32) → Prop} {w0 : Int32} (G : cp_G g L a_right a_size a_text) (hl : xk_L g a_left) (H : xk_Er g L a_ends 0) (hgood : cp_St f_good (gm_Pd g)) (hk : k ≤ L) (hw0 : xk_lo w0)
    (hJ : ∀ aw, xk_CW g k aw → (∀ m, m < 32 → bt (aw k) m = true → gm_Wt g k m) → xk_sub w0 (aw k) → w0 ≠ aw k → J a_left a_right a_size a_text a_ends a_trees a_heights a_chosen a_nodes a_values a_far a_op a_constant aw a_sum a_edges)
    (hE : ∀ aw, xk_CW g k aw → aw k = w0 → (∀ m, m < 32 → bt w0 m = true → gm_Wt g k m) → (∀ i m, i ≤ k → m < 32 → xk_cd g k i w0 aw (m + 6) → bt w0 m = true) → post (nI (gm_P g), nI L, f_good, f_empty, f_used, f_known, f_firstRow, f_firstFar, f_columns, f_endless, f_derived, a_left, a_right, a_size, a_text, a_ends, a_trees, a_heights, a_chosen, a_nodes, a_values, a_far, a_op, a_constant, aw, a_sum, a_edges)) :
    ∀ d i aw, i + d = k + 1 → xk_CW g k aw → (∀ m, m < 32 → bt (aw k) m = true → gm_Wt g k m) → xk_sub w0 (aw k) → (∀ i' m, i' < i → m < 32 → xk_cd g k i' w0 aw (m + 6) → bt (aw k) m = true) → wX_column_9 post J (nI k) w0 (nI (gm_P g)) (nI L) f_good f_empty f_used f_known f_firstRow f_firstFar f_columns f_endless f_derived (d + 1) (nI i) a_left a_right a_size a_text a_ends a_trees a_heights a_chosen a_nodes a_values a_far a_op a_constant aw a_sum a_edges := by
  have h12 := cp_G_P G
  have hL := cp_G_L G
  have ok := cp_G_ok G
  intro d
  induction d with
  | zero =>
    intro i aw hi hC hs hsub hcl
    rw [wX_column_9]
    rw [nI_clamp (show k < 2 ^ 31 by omega)]
    refine pk_lt k i (fun _ => ⟨vp_in_nI (by omega) (by omega), br_c (fun e => hE aw hC e (fun m hm hb => hs m hm (by rw [e]; exact hb)) (fun i' m hi' hm hx => ?_)) (fun e => hJ aw hC hs hsub fun z => e z.symm)⟩) (fun z => absurd z (by omega))
    rw [← e]; exact hcl i' m (by omega) hm hx
  | succ d ih =>
    intro i aw hi hC hs hsub hcl
    rw [wX_column_9]
    rw [nI_clamp (show k < 2 ^ 31 by omega)]
    refine pk_lt k i (fun z => absurd z (by omega)) (fun _ => ⟨vp_in_nI (by omega) (by omega), xs_beginning G hl (xk_Er_m H (Nat.zero_le _)) hgood (by omega) hk fun r hr => ⟨vp_in_nI (by omega) (by omega), ?_⟩⟩)
    have hA : ∀ m, m < 32 → bt (aw i) m = true → gm_Wt g i m := fun m hm hb => by
      rcases Nat.lt_or_ge i k with z | z
      · exact (hC i z m hm).mp hb
      · have : i = k := by omega
        subst this; exact hs m hm hb
    have hst := cp_St_or (cp_St_b (aw k)) (xk_Bn_6 ok hr)
    have snd : ∀ m, m < 32 → bt (aw k ||| (r >>> ((6 : Int32) &&& 31))) m = true → gm_Wt g k m := fun m hm hb => by
      rcases (hst m hm).mp hb with z | ⟨p, q, hp, h1, h2, h3, h4, h5⟩
      · exact hs m hm z
      · have hl5 := gm_ok_l ok hp
        have h6 := gm_ok_s ok hp h3
        exact gm_Wt_s (show i ≤ k by omega) hp (hA _ (by omega) h1) h2 h3 (by rcases h5 with h5 | h5 <;> omega) h4
    have hn8 : vp_nar .byte (aw k ||| (r >>> ((6 : Int32) &&& 31))).toInt8.toInt32 = aw k ||| (r >>> ((6 : Int32) &&& 31)) := cp_n8 (cp_St_8 (A := fun m => bt (aw k ||| (r >>> ((6 : Int32) &&& 31))) m = true) (cp_St_b _) fun m hm hb => by have := gm_Wt_5 ok (snd m hm hb); omega)
    rw [hn8]
    have hsub' : xk_sub (aw k) (aw k ||| (r >>> ((6 : Int32) &&& 31))) := xk_sub_or _ _
    refine nm_e (nm_r (nI_1 _) (ih (i + 1) _ (by omega) (fun q hq => ?_) (fun m hm hb => ?_) ?_ (fun i' m hi' hm hx => ?_)))
    · rw [pk_un (by omega)]; exact hC q hq
    · rw [pk_us] at hb; exact snd m hm hb
    · rw [pk_us]; exact xk_sub_tr hsub hsub'
    · rw [pk_us]
      have hx' : xk_cd g k i' w0 aw (m + 6) := by
        unfold xk_cd at hx ⊢
        by_cases e : i' = k
        · rw [if_pos e] at hx ⊢; exact hx
        · rw [if_neg e] at hx ⊢; rw [pk_un e] at hx; exact hx
      rcases Nat.lt_or_ge i' i with z | z
      · exact hsub' m hm (hcl i' m z hm hx')
      · have e : i' = i := by omega
        subst e
        refine (hst m hm).mpr (Or.inr ?_)
        obtain ⟨p, q, hp, h1, h2⟩ := hx'
        refine ⟨p, q, hp, ?_, h2⟩
        by_cases e : i' = k
        · rw [if_pos e] at h1
          rw [e]
          exact hsub _ (by have := gm_ok_l ok hp; omega) h1
        · rw [if_neg e] at h1; exact h1
theorem xs_column {post : SX → Prop} (G : cp_G g L a_right a_size a_text) (hl : xk_L g a_left) (H : xk_Er g L a_ends 0) (hgood : cp_St f_good (gm_Pd g)) (hk : k ≤ L) (hC : xk_CW g k a_wanted)
    (hw : ∀ m, m < 32 → (bt (a_wanted k) m = true → gm_Wt g k m)) (hw0 : k = 0 → gm_Pd g 0 → bt (a_wanted k) 0 = true)
    (hE : ∀ aw, xk_CW g (k + 1) aw → post (nI (gm_P g), nI L, f_good, f_empty, f_used, f_known, f_firstRow, f_firstFar, f_columns, f_endless, f_derived, a_left, a_right, a_size, a_text, a_ends, a_trees, a_heights, a_chosen, a_nodes, a_values, a_far, a_op, a_constant, aw, a_sum, a_edges)) : wpX_column post (nI (gm_P g), nI L, f_good, f_empty, f_used, f_known, f_firstRow, f_firstFar, f_columns, f_endless, f_derived, a_left, a_right, a_size, a_text, a_ends, a_trees, a_heights, a_chosen, a_nodes, a_values, a_far, a_op, a_constant, a_wanted, a_sum, a_edges) (nI k) := by
  have h12 := cp_G_P G
  have hL := cp_G_L G
  have ok := cp_G_ok G
  have lp : ∀ N aw, xk_ms (aw k) < N → xk_CW g k aw → (∀ m, m < 32 → bt (aw k) m = true → gm_Wt g k m) → (k = 0 → gm_Pd g 0 → bt (aw k) 0 = true) → wX_column_0 post (nI k) (nI (gm_P g)) (nI L) f_good f_empty f_used f_known f_firstRow f_firstFar f_columns f_endless f_derived N a_left a_right a_size a_text a_ends a_trees a_heights a_chosen a_nodes a_values a_far a_op a_constant aw a_sum a_edges := by
    intro N
    induction N with
    | zero => intro aw h; omega
    | succ N ih =>
      intro aw hN hC hs h0
      have lo : ∀ w : Int32, (∀ m, m < 32 → bt w m = true → gm_Wt g k m) → xk_lo w := fun w h m hm hb => gm_Wt_5 ok (h m hm hb)
      rw [wX_column_0]
      rw [nI_clamp (show k < 2 ^ 31 by omega)]
      refine ⟨vp_in_nI (by omega) (by omega), nm_e ⟨k + 1 + 1, xs_column_9 (w0 := aw k) G hl H hgood hk (lo _ hs) (fun aw' hC' hs' hsub hne => ih aw' ?_ hC' hs' (fun e hp => hsub 0 (by omega) (h0 e hp))) (fun aw' hC' e hs' hcl => hE aw' fun q hq => ?_) (k + 1) 0 aw (by omega) hC hs (xk_sub_rf _) (fun i' m hi' => absurd hi' (by omega))⟩⟩
      · have := xk_ms_lt hsub (lo _ hs') hne
        omega
      · rcases Nat.lt_or_ge q k with z | z
        · exact hC' q z
        · have eq : q = k := by omega
          subst eq
          rw [e]
          intro m hm
          refine ⟨hs' m hm, fun ⟨r, hr⟩ => ?_⟩
          have key : ∀ r m, gm_W g r q m → bt (aw q) m = true := by
            intro r
            induction r with
            | zero => intro m h; exact h.elim
            | succ r ihr =>
              rintro m (⟨e1, e2, e3⟩ | ⟨i, p, s, h1, hp, hwt, ha, hs3, hsy, hf⟩)
              · subst e2; exact h0 e1 e3
              · have hm5 := gm_ok_15 ok hp hs3
                have hl5 := gm_ok_l ok hp
                refine hcl i m h1 (by omega) ⟨p, s, hp, ?_, ha, hs3, hf, Or.inl ⟨by omega, by omega⟩⟩
                by_cases w : i = q
                · rw [if_pos w]; subst w; exact ihr _ hwt
                · rw [if_neg w]; exact (hC' i (by omega) _ (by omega)).mpr ⟨r, hwt⟩
          exact key r m hr
  unfold wpX_column
  exact ⟨_, lp _ a_wanted (Nat.lt_succ_self _) hC hw hw0⟩
end
end
section
/-! X: columnsTo, expected -/
section
variable {g : gm_G} {L : Nat} {f_good f_empty f_used f_known f_firstRow f_firstFar f_columns f_endless f_derived : Int32} {a_left a_right a_size a_text a_ends a_trees a_heights a_chosen a_nodes a_far a_op a_constant a_wanted a_edges : Nat → Int32} {a_values a_sum : Nat → Int64} {c i j p n k m a b i0 r u v : Nat} {op : Nat → Nat} {cn : Nat → Int32}
theorem xs_columnsTo {post : SX → Prop} {f c : Nat} (G : cp_G g L a_right a_size a_text) (hl : xk_L g a_left) (O : xk_O g op cn a_op a_constant) (hkn : f_known ≠ 0 → f_known = 1 ∧ xk_K g f_good f_empty f_used) (hf : f_firstRow = nI f) (hfL : f ≤ L + 1) (hR : xk_RW g op cn L f a_ends a_trees a_heights a_chosen a_nodes a_values)
    (hc : f_columns = nI c) (hcL : c ≤ L + 1) (hC : xk_CW g c a_wanted) (hk : k ≤ L)
    (h : ∀ a b u fe fd en ta ah ac an av az ae c' aw, xk_K g a b u → xk_RW g op cn L 0 en ta ah ac an av → k < c' → c' ≤ L + 1 → xk_CW g c' aw → post (nI (gm_P g), nI L, a, b, u, 1, nI 0, f_firstFar, nI c', fe, fd, a_left, a_right, a_size, a_text, en, ta, ah, ac, an, av, a_far, a_op, a_constant, aw, az, ae)) : wpX_columnsTo post (nI (gm_P g), nI L, f_good, f_empty, f_used, f_known, f_firstRow, f_firstFar, f_columns, f_endless, f_derived, a_left, a_right, a_size, a_text, a_ends, a_trees, a_heights, a_chosen, a_nodes, a_values, a_far, a_op, a_constant, a_wanted, a_sum, a_edges) (nI k) := by
  have hL := cp_G_L G
  have ok := cp_G_ok G
  subst hc
  unfold wpX_columnsTo
  refine xs_learn G hl hkn fun a b u hK => xs_rowsTo (i := 0) G hl O (Nat.zero_le _) hf hfL hR fun f' fe fd en ta ah ac an av az ae hf' hR' => ?_
  have e0 : f' = 0 := by omega
  subst e0
  have lp : ∀ d c' aw, c' ≤ k + 1 ∨ d = 0 → k + 1 ≤ c' + d → c' ≤ L + 1 → xk_CW g c' aw → wX_columnsTo_9 post (nI k) (d + 1) (nI (gm_P g)) (nI L) a b u 1 (nI 0) f_firstFar (nI c') fe fd a_left a_right a_size a_text en ta ah ac an av a_far a_op a_constant aw az ae := by
    intro d
    induction d with
    | zero =>
      intro c' aw _ hcd hcL hC
      rw [wX_columnsTo_9]
      exact pk_lt k c' (fun z => h a b u fe fd en ta ah ac an av az ae c' aw hK hR' z hcL hC) (fun z => absurd z (by omega))
    | succ d ih =>
      intro c' aw hck hcd hcL hC
      have w42 : ∀ z0 : Int32, (∀ m, m < 32 → (bt z0 m = true ↔ c' = 0 ∧ m = 0 ∧ gm_Pd g 0)) → c' ≤ k → wX_columnsTo_42 post (wX_columnsTo_9 post (nI k) (d + 1)) (nI k) z0 (nI c') (nI (gm_P g)) (nI L) a b u 1 (nI 0) f_firstFar (nI c') fe fd a_left a_right a_size a_text en ta ah ac an av a_far a_op a_constant aw az ae := by
        intro z0 hz hlt
        unfold wX_columnsTo_42
        rw [nI_clamp (show c' < 2 ^ 31 by omega), cp_n8 (cp_St_8 (A := fun m => c' = 0 ∧ m = 0 ∧ gm_Pd g 0) hz fun m _ w => by omega)]
        refine ⟨vp_in_nI (by omega) (by omega), nm_e (xs_column G hl hR'.1 hK.1 (by omega) (fun q hq => ?_) (fun m hm hb => ?_) (fun e hp => ?_) fun aw' hC' => nm_r (nI_1 _) (ih (c' + 1) aw' (by omega) (by omega) (by omega) hC'))⟩
        · rw [pk_un (by omega)]; exact hC q hq
        · rw [pk_us, hz m hm] at hb
          obtain ⟨e1, e2, e3⟩ := hb
          subst e1; subst e2
          exact gm_Wt_0 e3
        · rw [pk_us, hz 0 (by omega)]; exact ⟨e, rfl, hp⟩
      rw [wX_columnsTo_9]
      refine pk_lt k c' (fun z => h a b u fe fd en ta ah ac an av az ae c' aw hK hR' z hcL hC) (fun z => pk_eq c' 0 (fun e => w42 _ (fun m hm => ?_) z) (fun e => w42 _ (fun m hm => ?_) z))
      · rw [(cp_St_and hK.1 (cp_St_b 1)) m hm]
        show (gm_Pd g m ∧ bt 1 m = true) ↔ _
        rw [cp_b1 m hm, decide_eq_true_iff]
        constructor
        · rintro ⟨w1, w2⟩; subst w2; exact ⟨e, rfl, w1⟩
        · rintro ⟨_, w2, w3⟩; subst w2; exact ⟨w3, rfl⟩
      · rw [b_0]
        exact ⟨fun w => absurd w (by decide), fun w => absurd w.1 e⟩
  by_cases hck : c ≤ k + 1
  · exact ⟨k + 1 - c + 1, lp (k + 1 - c) c a_wanted (Or.inl hck) (by omega) hcL hC⟩
  · exact ⟨0 + 1, lp 0 c a_wanted (Or.inr rfl) (by omega) hcL hC⟩
/-- the answer of expected -/
def xk_ea (g : gm_G) (k : Nat) (r : Int32) : Prop := cp_St r (fun x => (x < 6 ∧ gm_Ex g k x) ∨ (x = 6 ∧ gm_D g 0 0 k))
theorem xs_expected {post : Int32 → SX → Prop} {f c : Nat} (G : cp_G g L a_right a_size a_text) (hl : xk_L g a_left) (O : xk_O g op cn a_op a_constant) (hkn : f_known ≠ 0 → f_known = 1 ∧ xk_K g f_good f_empty f_used) (hf : f_firstRow = nI f) (hfL : f ≤ L + 1) (hR : xk_RW g op cn L f a_ends a_trees a_heights a_chosen a_nodes a_values)
    (hc : f_columns = nI c) (hcL : c ≤ L + 1) (hC : xk_CW g c a_wanted) (hk : k ≤ L)
    (h : ∀ a b u fe fd en ta ah ac an av az ae c' aw r, xk_K g a b u → xk_RW g op cn L 0 en ta ah ac an av → c' ≤ L + 1 → xk_CW g c' aw → xk_ea g k r → post r (nI (gm_P g), nI L, a, b, u, 1, nI 0, f_firstFar, nI c', fe, fd, a_left, a_right, a_size, a_text, en, ta, ah, ac, an, av, a_far, a_op, a_constant, aw, az, ae)) : wpX_expected post (nI (gm_P g), nI L, f_good, f_empty, f_used, f_known, f_firstRow, f_firstFar, f_columns, f_endless, f_derived, a_left, a_right, a_size, a_text, a_ends, a_trees, a_heights, a_chosen, a_nodes, a_values, a_far, a_op, a_constant, a_wanted, a_sum, a_edges) (nI k) := by
  have hL := cp_G_L G
  have ok := cp_G_ok G
  unfold wpX_expected
  refine br_f (nI_pos (by omega)) (pk_le k L (fun _ => xs_columnsTo G hl O hkn hf hfL hR hc hcL hC hk fun a b u fe fd en ta ah ac an av az ae c' aw hK hR' hkc hcL' hC' => ⟨k + 1 + 1, ?_⟩) (fun z => absurd z (by omega)))
  have lp : ∀ d i x2, i + d = k + 1 → cp_St x2 (fun x => x < 6 ∧ ∃ i', i' < i ∧ xk_Bn g (gm_Wt g i') i' k x) → wX_expected_23 post (nI k) (nI (gm_P g)) (nI L) a b u 1 (nI 0) f_firstFar (nI c') fe fd a_left a_right a_size a_text en ta ah ac an av a_far a_op a_constant aw az ae (d + 1) x2 (nI i) := by
    intro d
    induction d with
    | zero =>
      intro i x2 hi hx
      rw [wX_expected_23]
      rw [cp_bit _ (show k < 32 by omega)]
      refine pk_lt k i (fun _ => h a b u fe fd en ta ah ac an av az ae c' aw _ hK hR' hcL' hC' (cp_St_i (cp_St_or hx (cp_St_c (q := 6) (by omega))) fun x _ => ?_)) (fun z => absurd z (by omega))
      have e := xk_Er_E (n := 0) (a := 0) (b := k) (a_ends := en) G hR'.1 (by omega) (Nat.le_refl _) (Nat.zero_le _) hk
      unfold xk_E at e
      rw [show 5 * 0 + 0 = 0 from rfl] at e
      rw [e]
      have e2 : x < 6 → ((∃ i', i' < i ∧ xk_Bn g (gm_Wt g i') i' k x) ↔ gm_Ex g k x) := by
        intro hx6
        constructor
        · rintro ⟨i', h1, p, q, h2, h3, h4, h5, h6, h7⟩
          exact ⟨i', p, q, by omega, h2, h3, h4, h5, by rcases h7 with h7 | h7 <;> omega, h6⟩
        · rintro ⟨i', p, q, h1, h2, h3, h4, h5, h6, h7⟩
          exact ⟨i', by omega, p, q, h2, h3, h4, h5, h7, Or.inr ⟨by omega, h6.symm⟩⟩
      constructor
      · rintro (⟨w1, w2⟩ | w)
        · exact Or.inl ⟨w1, (e2 w1).mp w2⟩
        · exact Or.inr w
      · rintro (⟨w1, w2⟩ | w)
        · exact Or.inl ⟨w1, (e2 w1).mpr w2⟩
        · exact Or.inr w
    | succ d ih =>
      intro i x2 hi hx
      rw [wX_expected_23]
      refine pk_lt k i (fun z => absurd z (by omega)) (fun _ => xs_beginning G hl (xk_Er_m hR'.1 (Nat.zero_le _)) hK.1 (by omega) hk fun r hr => nm_e (nm_r (nI_1 _) (ih (i + 1) _ (by omega) (cp_St_i (cp_St_or hx (cp_St_and hr (cp_St_b 63))) fun x hx32 => ?_))))
      have e : xk_Bn g (fun n => bt (aw i) n = true) i k x ↔ xk_Bn g (gm_Wt g i) i k x := by
        constructor
        · rintro ⟨p, q, h1, h2, h3⟩
          exact ⟨p, q, h1, (hC' i (by omega) _ (by have := gm_ok_l ok h1; omega)).mp h2, h3⟩
        · rintro ⟨p, q, h1, h2, h3⟩
          exact ⟨p, q, h1, (hC' i (by omega) _ (by have := gm_ok_l ok h1; omega)).mpr h2, h3⟩
      rw [e, cp_b63 x hx32, decide_eq_true_iff]
      constructor
      · rintro (⟨w1, i', w2, w3⟩ | ⟨w1, w2⟩)
        · exact ⟨w1, i', by omega, w3⟩
        · exact ⟨w2, i, by omega, w1⟩
      · rintro ⟨w1, i', w2, w3⟩
        rcases Nat.lt_or_ge i' i with z | z
        · exact Or.inl ⟨w1, i', z, w3⟩
        · have : i' = i := by omega
          subst this; exact Or.inr ⟨w3, w1⟩
  exact lp (k + 1) 0 0 (by omega) (cp_St_i cp_St_0 fun x _ => ⟨fun z => z.elim, fun z => by obtain ⟨_, i', h1, _⟩ := z; omega⟩)
end
end
section
/-! X: the queries, over whole states -/
def xk_J (g : gm_G) (op : Nat → Nat) (cn : Nat → Int32) (L : Nat) (f_good f_empty f_used f_known f_firstRow f_firstFar f_columns : Int32) (a_left a_right a_size a_text a_ends a_trees a_heights a_chosen a_nodes : Nat → Int32) (a_values : Nat → Int64) (a_far a_op a_constant a_wanted : Nat → Int32) : Prop :=
  cp_G g L a_right a_size a_text ∧ xk_L g a_left ∧ xk_O g op cn a_op a_constant ∧ (f_known ≠ 0 → f_known = 1 ∧ xk_K g f_good f_empty f_used) ∧
  (∃ f, f_firstRow = nI f ∧ f ≤ L + 1 ∧ xk_RW g op cn L f a_ends a_trees a_heights a_chosen a_nodes a_values) ∧
  (∃ f, f_firstFar = nI f ∧ f ≤ L + 1 ∧ xk_FW g L f a_far) ∧ (∃ c, f_columns = nI c ∧ c ≤ L + 1 ∧ xk_CW g c a_wanted)
def xk_I (g : gm_G) (op : Nat → Nat) (cn : Nat → Int32) (L : Nat) (u : SX) : Prop := match u with
  | (f_productions, f_length, f_good, f_empty, f_used, f_known, f_firstRow, f_firstFar, f_columns, f_endless, f_derived, a_left, a_right, a_size, a_text, a_ends, a_trees, a_heights, a_chosen, a_nodes, a_values, a_far, a_op, a_constant, a_wanted, a_sum, a_edges) => f_productions = nI (gm_P g) ∧ f_length = nI L ∧ xk_J g op cn L f_good f_empty f_used f_known f_firstRow f_firstFar f_columns a_left a_right a_size a_text a_ends a_trees a_heights a_chosen a_nodes a_values a_far a_op a_constant a_wanted
section
variable {g : gm_G} {L : Nat} {c i j p n k m a b r v : Nat} {op : Nat → Nat} {cn : Nat → Int32} {u : SX} {v1 v2 v3 : Int32}
theorem xv_derives {post : Int32 → SX → Prop} (I : xk_I g op cn L u) (h0 : (∀ n i j, ¬ cp_Span L v1 v2 v3 n i j) → post 0 u) (h1 : ∀ n i j u', cp_Span L v1 v2 v3 n i j → xk_I g op cn L u' → gm_D g n i j → post 1 u') (h2 : ∀ n i j u', cp_Span L v1 v2 v3 n i j → xk_I g op cn L u' → ¬ gm_D g n i j → post 0 u') : wpX_derives post u v1 v2 v3 := by
  obtain ⟨f_productions, f_length, f_good, f_empty, f_used, f_known, f_firstRow, f_firstFar, f_columns, f_endless, f_derived, a_left, a_right, a_size, a_text, a_ends, a_trees, a_heights, a_chosen, a_nodes, a_values, a_far, a_op, a_constant, a_wanted, a_sum, a_edges⟩ := u
  obtain ⟨rfl, rfl, G, hl, O, hkn, ⟨f, rfl, hfL, hR⟩, F, C⟩ := I
  have hL := cp_G_L G
  unfold wpX_derives
  refine xs_isSpan G (fun n i j hs => br_f (by decide) ?_) (fun hs => br_t rfl (h0 hs))
  have hs' := hs
  obtain ⟨hn, hij, hjL, e1, e2, e3⟩ := hs'
  rw [e1, e2, e3]
  refine xs_rowsTo G hl O (by omega) rfl hfL hR fun f' fe fd en ta ah ac an av az ae hf' hR' => ?_
  have I' : xk_I g op cn L (nI (gm_P g), nI L, f_good, f_empty, f_used, f_known, nI f', f_firstFar, f_columns, fe, fd, a_left, a_right, a_size, a_text, en, ta, ah, ac, an, av, a_far, a_op, a_constant, a_wanted, az, ae) := ⟨rfl, rfl, G, hl, O, hkn, ⟨f', rfl, by omega, hR'⟩, F, C⟩
  dsimp only
  rw [show ((5 * nI i) + nI (n + 10)) - 10 = nI (5 * i + n) by rw [ix_5, show (10 : Int32) = nI 10 from rfl, pk_sub (by omega)]; exact congrArg nI (by omega), nI_clamp (show 5 * i + n < 2 ^ 31 by omega)]
  have e := xk_Er_E (n := n) (a := i) (b := j) G hR'.1 hn hf' (by omega) hjL
  unfold xk_E at e
  exact ⟨vp_in_nI (by omega) (by omega), br_bit (by omega) (fun z => h2 n i j _ hs I' fun w => z (e.mpr w)) (fun z => h1 n i j _ hs I' (e.mp z))⟩
theorem xv_trees {post : Int32 → SX → Prop} (I : xk_I g op cn L u) (h0 : (∀ n i j, ¬ cp_Span L v1 v2 v3 n i j) → post 0 u) (h1 : ∀ n i j u', cp_Span L v1 v2 v3 n i j → xk_I g op cn L u' → gm_F g n i j → post (nI (gm_M g n i j)) u') (h2 : ∀ n i j u', cp_Span L v1 v2 v3 n i j → xk_I g op cn L u' → ¬ gm_F g n i j → post (-3) u') : wpX_trees post u v1 v2 v3 := by
  obtain ⟨f_productions, f_length, f_good, f_empty, f_used, f_known, f_firstRow, f_firstFar, f_columns, f_endless, f_derived, a_left, a_right, a_size, a_text, a_ends, a_trees, a_heights, a_chosen, a_nodes, a_values, a_far, a_op, a_constant, a_wanted, a_sum, a_edges⟩ := u
  obtain ⟨rfl, rfl, G, hl, O, hkn, ⟨f, rfl, hfL, hR⟩, F, C⟩ := I
  have hL := cp_G_L G
  unfold wpX_trees
  refine xs_isSpan G (fun n i j hs => br_f (by decide) ?_) (fun hs => br_t rfl (h0 hs))
  have hs' := hs
  obtain ⟨hn, hij, hjL, e1, e2, e3⟩ := hs'
  rw [e1, e2, e3]
  refine xs_rowsTo G hl O (by omega) rfl hfL hR fun f' fe fd en ta ah ac an av az ae hf' hR' => ?_
  have I' : xk_I g op cn L (nI (gm_P g), nI L, f_good, f_empty, f_used, f_known, nI f', f_firstFar, f_columns, fe, fd, a_left, a_right, a_size, a_text, en, ta, ah, ac, an, av, a_far, a_op, a_constant, a_wanted, az, ae) := ⟨rfl, rfl, G, hl, O, hkn, ⟨f', rfl, by omega, hR'⟩, F, C⟩
  dsimp only
  rw [ix_N, ix_55, nI_clamp (show 55 * i + 11 * n + j < 2 ^ 31 by omega)]
  refine ⟨vp_in_nI (by omega) (by omega), ?_⟩
  have t := (hR'.2 n i j hn hf' hij hjL).1
  rcases Classical.em (gm_F g n i j) with z | z
  · rw [t.1 z]; exact h1 n i j _ hs I' z
  · rw [t.2 z]; exact h2 n i j _ hs I' z
theorem xv_height {post : Int32 → SX → Prop} (I : xk_I g op cn L u) (h0 : (∀ n i j, ¬ cp_Span L v1 v2 v3 n i j) → post 0 u) (h1 : ∀ n i j u', cp_Span L v1 v2 v3 n i j → xk_I g op cn L u' → post (nI (gm_Ht g n i j)) u') : wpX_height post u v1 v2 v3 := by
  obtain ⟨f_productions, f_length, f_good, f_empty, f_used, f_known, f_firstRow, f_firstFar, f_columns, f_endless, f_derived, a_left, a_right, a_size, a_text, a_ends, a_trees, a_heights, a_chosen, a_nodes, a_values, a_far, a_op, a_constant, a_wanted, a_sum, a_edges⟩ := u
  obtain ⟨rfl, rfl, G, hl, O, hkn, ⟨f, rfl, hfL, hR⟩, F, C⟩ := I
  have hL := cp_G_L G
  unfold wpX_height
  refine xs_isSpan G (fun n i j hs => br_f (by decide) ?_) (fun hs => br_t rfl (h0 hs))
  have hs' := hs
  obtain ⟨hn, hij, hjL, e1, e2, e3⟩ := hs'
  rw [e1, e2, e3]
  refine xs_rowsTo G hl O (by omega) rfl hfL hR fun f' fe fd en ta ah ac an av az ae hf' hR' => ?_
  have I' : xk_I g op cn L (nI (gm_P g), nI L, f_good, f_empty, f_used, f_known, nI f', f_firstFar, f_columns, fe, fd, a_left, a_right, a_size, a_text, en, ta, ah, ac, an, av, a_far, a_op, a_constant, a_wanted, az, ae) := ⟨rfl, rfl, G, hl, O, hkn, ⟨f', rfl, by omega, hR'⟩, F, C⟩
  dsimp only
  rw [ix_N, ix_55, nI_clamp (show 55 * i + 11 * n + j < 2 ^ 31 by omega)]
  refine ⟨vp_in_nI (by omega) (by omega), ?_⟩
  have t := (hR'.2 n i j hn hf' hij hjL).2.1
  unfold xk_HA at t
  rw [t]; exact h1 n i j _ hs I'
theorem xv_value {post : Int64 → SX → Prop} (I : xk_I g op cn L u) (h0 : (∀ n i j, ¬ cp_Span L v1 v2 v3 n i j) → post cp_NONE u) (h1 : ∀ n i j u', cp_Span L v1 v2 v3 n i j → xk_I g op cn L u' → 0 < gm_Ht g n i j → post (gm_V g op cn n i j) u') (h2 : ∀ n i j u', cp_Span L v1 v2 v3 n i j → xk_I g op cn L u' → gm_Ht g n i j = 0 → post cp_NONE u') : wpX_value post u v1 v2 v3 := by
  obtain ⟨f_productions, f_length, f_good, f_empty, f_used, f_known, f_firstRow, f_firstFar, f_columns, f_endless, f_derived, a_left, a_right, a_size, a_text, a_ends, a_trees, a_heights, a_chosen, a_nodes, a_values, a_far, a_op, a_constant, a_wanted, a_sum, a_edges⟩ := u
  obtain ⟨rfl, rfl, G, hl, O, hkn, ⟨f, rfl, hfL, hR⟩, F, C⟩ := I
  have hL := cp_G_L G
  unfold wpX_value
  refine xs_isSpan G (fun n i j hs => br_f (by decide) ?_) (fun hs => br_t rfl (h0 hs))
  have hs' := hs
  obtain ⟨hn, hij, hjL, e1, e2, e3⟩ := hs'
  rw [e1, e2, e3]
  refine xs_rowsTo G hl O (by omega) rfl hfL hR fun f' fe fd en ta ah ac an av az ae hf' hR' => ?_
  have I' : xk_I g op cn L (nI (gm_P g), nI L, f_good, f_empty, f_used, f_known, nI f', f_firstFar, f_columns, fe, fd, a_left, a_right, a_size, a_text, en, ta, ah, ac, an, av, a_far, a_op, a_constant, a_wanted, az, ae) := ⟨rfl, rfl, G, hl, O, hkn, ⟨f', rfl, by omega, hR'⟩, F, C⟩
  dsimp only
  rw [ix_N, ix_55, nI_clamp (show 55 * i + 11 * n + j < 2 ^ 31 by omega)]
  refine ⟨vp_in_nI (by omega) (by omega), ?_⟩
  have t := (hR'.2 n i j hn hf' hij hjL).2.2
  rcases Nat.eq_zero_or_pos (gm_Ht g n i j) with z | z
  · rw [(t.2 z).2]; exact h2 n i j _ hs I' z
  · rw [(t.1 z).2.2]; exact h1 n i j _ hs I' z
/-- the answer of longest: the greatest end, or -1 -/
def cp_lg (g : gm_G) (L n i : Nat) (r : Int32) : Prop := (r = -1 ∧ ∀ j, i ≤ j → j ≤ L → ¬ gm_D g n i j) ∨ (∃ j, r = nI j ∧ i ≤ j ∧ j ≤ L ∧ gm_D g n i j ∧ ∀ j', j < j' → j' ≤ L → ¬ gm_D g n i j')
theorem cp_lg_un {r r' : Int32} (h : cp_lg g L n i r) (h' : cp_lg g L n i r') : r = r' := by
  rcases h with ⟨e, h⟩ | ⟨j, e, h1, h2, h3, h4⟩ <;> rcases h' with ⟨e', h'⟩ | ⟨j', e', h1', h2', h3', h4'⟩
  · rw [e, e']
  · exact absurd h3' (h j' h1' h2')
  · exact absurd h3 (h' j h1 h2)
  · rw [e, e']
    refine congrArg nI ?_
    rcases Nat.lt_or_ge j j' with z | z
    · exact absurd h3' (h4 j' z h2')
    · rcases Nat.lt_or_ge j' j with y | y
      · exact absurd h3 (h4' j y h2)
      · omega
def cp_Sp1 (L : Nat) (v1 v2 : Int32) (n i : Nat) : Prop := n < 5 ∧ i ≤ L ∧ v1 = nI (n + 10) ∧ v2 = nI i
theorem xv_longest {post : Int32 → SX → Prop} (I : xk_I g op cn L u) (h0 : (∀ n i, ¬ cp_Sp1 L v1 v2 n i) → post (-1) u) (h1 : ∀ n i u' r, cp_Sp1 L v1 v2 n i → xk_I g op cn L u' → cp_lg g L n i r → post r u') : wpX_longest post u v1 v2 := by
  obtain ⟨f_productions, f_length, f_good, f_empty, f_used, f_known, f_firstRow, f_firstFar, f_columns, f_endless, f_derived, a_left, a_right, a_size, a_text, a_ends, a_trees, a_heights, a_chosen, a_nodes, a_values, a_far, a_op, a_constant, a_wanted, a_sum, a_edges⟩ := u
  obtain ⟨rfl, rfl, G, hl, O, hkn, ⟨f, rfl, hfL, hR⟩, F, C⟩ := I
  have hL := cp_G_L G
  unfold wpX_longest
  refine xs_isSpan G (fun n i j hs => br_f (by decide) ?_) (fun hs => br_t rfl (h0 fun n i hz => hs n i L ⟨hz.1, hz.2.1, Nat.le_refl _, hz.2.2.1, hz.2.2.2, rfl⟩))
  obtain ⟨hn, hij, hjL, e1, e2, e3⟩ := hs
  have hs1 : cp_Sp1 L v1 v2 n i := ⟨hn, by omega, e1, e2⟩
  rw [e1, e2]
  refine xs_rowsTo G hl O (by omega) rfl hfL hR fun f' fe fd en ta ah ac an av az ae hf' hR' => ?_
  have I' : xk_I g op cn L (nI (gm_P g), nI L, f_good, f_empty, f_used, f_known, nI f', f_firstFar, f_columns, fe, fd, a_left, a_right, a_size, a_text, en, ta, ah, ac, an, av, a_far, a_op, a_constant, a_wanted, az, ae) := ⟨rfl, rfl, G, hl, O, hkn, ⟨f', rfl, by omega, hR'⟩, F, C⟩
  have lp : ∀ d j1, j1 = d → j1 ≤ L + 1 → (∀ j', j1 ≤ j' → j' ≤ L → ¬ gm_D g n i j') → wX_longest_25 post (nI (n + 10)) (nI i) (nI (gm_P g)) (nI L) f_good f_empty f_used f_known (nI f') f_firstFar f_columns fe fd a_left a_right a_size a_text en ta ah ac an av a_far a_op a_constant a_wanted az ae (d + 1) (nI j1 + (-1)) := by
    intro d
    induction d with
    | zero =>
      intro j1 hj hjL hno
      subst hj
      rw [wX_longest_25]
      exact br_t (by decide) (h1 n i _ _ hs1 I' (Or.inl ⟨by decide, fun j h1 h2 => hno j (by omega) h2⟩))
    | succ d ih =>
      intro j1 hj hjL hno
      subst hj
      rw [pk_m1, wX_longest_25]
      refine br_f (nI_pos (by omega)) ?_
      rw [show ((5 * nI i) + nI (n + 10)) - 10 = nI (5 * i + n) by rw [ix_5, show (10 : Int32) = nI 10 from rfl, pk_sub (by omega)]; exact congrArg nI (by omega), nI_clamp (show 5 * i + n < 2 ^ 31 by omega)]
      have e := xk_Er_E (n := n) (a := i) (b := d) G hR'.1 hn hf' (by omega) (by omega)
      unfold xk_E at e
      refine ⟨vp_in_nI (by omega) (by omega), br_bit (by omega) (fun z => nm_e (ih d rfl (by omega) fun j' q1 q2 => ?_)) (fun z => h1 n i _ _ hs1 I' (Or.inr ⟨d, rfl, gm_D_le (e.mp z), by omega, e.mp z, fun j' q1 q2 => hno j' q1 q2⟩))⟩
      rcases Nat.lt_or_ge d j' with y | y
      · exact hno j' y q2
      · have : j' = d := by omega
        subst this; exact fun w => z (e.mpr w)
  dsimp only
  have := lp (L + 1) (L + 1) rfl (Nat.le_refl _) (fun j' q1 q2 => absurd q1 (by omega))
  rw [pk_m1] at this
  exact ⟨L + 2, this⟩
theorem xv_distance {post : Int32 → SX → Prop} (I : xk_I g op cn L u) (h0 : (∀ n i j, ¬ cp_Span L v1 v2 v3 n i j) → post (-1) u) (h1 : ∀ n i j u', cp_Span L v1 v2 v3 n i j → xk_I g op cn L u' → ¬ gm_Pd g n → post (-1) u') (h2 : ∀ n i j u' x, cp_Span L v1 v2 v3 n i j → xk_I g op cn L u' → gm_Pd g n → gm_FX g n i j x → post (nI x) u') : wpX_distance post u v1 v2 v3 := by
  obtain ⟨f_productions, f_length, f_good, f_empty, f_used, f_known, f_firstRow, f_firstFar, f_columns, f_endless, f_derived, a_left, a_right, a_size, a_text, a_ends, a_trees, a_heights, a_chosen, a_nodes, a_values, a_far, a_op, a_constant, a_wanted, a_sum, a_edges⟩ := u
  obtain ⟨rfl, rfl, G, hl, O, hkn, R, ⟨f, hf, hfL, hF⟩, C⟩ := I
  exact xs_distance G hl hkn hf hfL hF h0 (fun n i j hs a b u hK hP => h1 n i j _ hs ⟨rfl, rfl, G, hl, O, fun _ => ⟨rfl, hK⟩, R, ⟨f, hf, hfL, hF⟩, C⟩ hP) (fun n i j hs a b u f' af x hK hP hf' hF' hx => h2 n i j _ x hs ⟨rfl, rfl, G, hl, O, fun _ => ⟨rfl, hK⟩, R, ⟨f', rfl, hf', hF'⟩, C⟩ hP hx)
theorem xv_expected {post : Int32 → SX → Prop} (I : xk_I g op cn L u) (h0 : (∀ k, k ≤ L → v1 ≠ nI k) → post (-1) u) (h1 : ∀ k u' r, k ≤ L → v1 = nI k → xk_I g op cn L u' → xk_ea g k r → post r u') : wpX_expected post u v1 := by
  rcases Classical.em (∃ k, k ≤ L ∧ v1 = nI k) with ⟨k, hk, e⟩ | z
  · obtain ⟨f_productions, f_length, f_good, f_empty, f_used, f_known, f_firstRow, f_firstFar, f_columns, f_endless, f_derived, a_left, a_right, a_size, a_text, a_ends, a_trees, a_heights, a_chosen, a_nodes, a_values, a_far, a_op, a_constant, a_wanted, a_sum, a_edges⟩ := u
    obtain ⟨rfl, rfl, G, hl, O, hkn, ⟨f, hf, hfL, hR⟩, F, ⟨c, hc, hcL, hC⟩⟩ := I
    rw [e]
    exact xs_expected G hl O hkn hf hfL hR hc hcL hC hk fun a b u fe fd en ta ah ac an av az ae c' aw r hK hR' hcL' hC' hr => h1 k _ r hk e ⟨rfl, rfl, G, hl, O, fun _ => ⟨rfl, hK⟩, ⟨0, rfl, Nat.zero_le _, hR'⟩, F, ⟨c', rfl, hcL', hC'⟩⟩ hr
  · have hz : ∀ k, k ≤ L → v1 ≠ nI k := fun k hk e => z ⟨k, hk, e⟩
    obtain ⟨f_productions, f_length, f_good, f_empty, f_used, f_known, f_firstRow, f_firstFar, f_columns, f_endless, f_derived, a_left, a_right, a_size, a_text, a_ends, a_trees, a_heights, a_chosen, a_nodes, a_values, a_far, a_op, a_constant, a_wanted, a_sum, a_edges⟩ := u
    obtain ⟨rfl, rfl, G, -⟩ := I
    have hL := cp_G_L G
    unfold wpX_expected
    refine br_c (fun _ => h0 hz) (fun y => br_c (fun w => ?_) (fun _ => h0 hz))
    obtain ⟨k, hk, e⟩ := nI_of y
    subst e
    rw [nI_leI hk (by omega)] at w
    exact absurd rfl (hz k w)
/-- the answer of errorAt -/
def cp_ea (g : gm_G) (L : Nat) (r : Int32) : Prop := (r = -1 ∧ gm_D g 0 0 L) ∨ (¬ gm_D g 0 0 L ∧ ((r = -2 ∧ ∀ k, k ≤ L → ¬ gm_Bg g k) ∨ (∃ k, r = nI k ∧ k ≤ L ∧ gm_Bg g k ∧ ∀ k', k < k' → k' ≤ L → ¬ gm_Bg g k')))
theorem cp_ea_un {r r' : Int32} (h : cp_ea g L r) (h' : cp_ea g L r') : r = r' := by
  rcases h with ⟨e, h⟩ | ⟨hn, h⟩
  · rcases h' with ⟨e', h'⟩ | ⟨hn', _⟩
    · rw [e, e']
    · exact absurd h hn'
  · rcases h' with ⟨_, h'⟩ | ⟨_, h'⟩
    · exact absurd h' hn
    · rcases h with ⟨e, h⟩ | ⟨j, e, h2, h3, h4⟩ <;> rcases h' with ⟨e', h'⟩ | ⟨j', e', h2', h3', h4'⟩
      · rw [e, e']
      · exact absurd h3' (h j' h2')
      · exact absurd h3 (h' j h2)
      · rw [e, e']
        refine congrArg nI ?_
        rcases Nat.lt_or_ge j j' with z | z
        · exact absurd h3' (h4 j' z h2')
        · rcases Nat.lt_or_ge j' j with y | y
          · exact absurd h3 (h4' j y h2)
          · omega
theorem xv_errorAt {post : Int32 → SX → Prop} (I : xk_I g op cn L u) (h1 : ∀ u' r, xk_I g op cn L u' → cp_ea g L r → post r u') : wpX_errorAt post u := by
  obtain ⟨f_productions, f_length, f_good, f_empty, f_used, f_known, f_firstRow, f_firstFar, f_columns, f_endless, f_derived, a_left, a_right, a_size, a_text, a_ends, a_trees, a_heights, a_chosen, a_nodes, a_values, a_far, a_op, a_constant, a_wanted, a_sum, a_edges⟩ := u
  obtain ⟨rfl, rfl, G, hl, O, hkn, ⟨f, hf, hfL, hR⟩, F, C⟩ := I
  have hL := cp_G_L G
  have ok := cp_G_ok G
  unfold wpX_errorAt
  refine xs_rowsTo (i := 0) G hl O (Nat.zero_le _) hf hfL hR fun f' fe fd en ta ah ac an av az ae hf' hR' => ?_
  have I' : xk_I g op cn L (nI (gm_P g), nI L, f_good, f_empty, f_used, f_known, nI f', f_firstFar, f_columns, fe, fd, a_left, a_right, a_size, a_text, en, ta, ah, ac, an, av, a_far, a_op, a_constant, a_wanted, az, ae) := ⟨rfl, rfl, G, hl, O, hkn, ⟨f', rfl, by omega, hR'⟩, F, C⟩
  have e := xk_Er_E (n := 0) (a := 0) (b := L) (a_ends := en) G hR'.1 (by omega) (by omega) (Nat.zero_le _) (Nat.le_refl _)
  unfold xk_E at e
  rw [show 5 * 0 + 0 = 0 from rfl] at e
  have lp : ¬ gm_D g 0 0 L → ∀ d k1, k1 = d → k1 ≤ L + 1 → (∀ k', k1 ≤ k' → k' ≤ L → ¬ gm_Bg g k') → ∀ {f_good f_empty f_used f_known f_firstRow f_firstFar f_columns f_endless f_derived : Int32} {a_left a_right a_size a_text a_ends a_trees a_heights a_chosen a_nodes a_far a_op a_constant a_wanted a_edges : Nat → Int32} {a_values a_sum : Nat → Int64},
      xk_I g op cn L (nI (gm_P g), nI L, f_good, f_empty, f_used, f_known, f_firstRow, f_firstFar, f_columns, f_endless, f_derived, a_left, a_right, a_size, a_text, a_ends, a_trees, a_heights, a_chosen, a_nodes, a_values, a_far, a_op, a_constant, a_wanted, a_sum, a_edges) → wX_errorAt_28 post (d + 1) (nI k1 + (-1)) (nI (gm_P g)) (nI L) f_good f_empty f_used f_known f_firstRow f_firstFar f_columns f_endless f_derived a_left a_right a_size a_text a_ends a_trees a_heights a_chosen a_nodes a_values a_far a_op a_constant a_wanted a_sum a_edges := by
    intro hD d
    induction d with
    | zero =>
      intro k1 hk hkL hno
      intros
      subst hk
      rw [wX_errorAt_28]
      refine br_t (by decide) ?_
      unfold wX_errorAt_46
      exact br_f (by decide) (h1 _ _ (by assumption) (Or.inr ⟨hD, Or.inl ⟨rfl, fun k hk => hno k (Nat.zero_le _) hk⟩⟩))
    | succ d ih =>
      intro k1 hk hkL hno
      intros
      rename_i I2
      subst hk
      rw [pk_m1, wX_errorAt_28]
      refine br_f (nI_pos (by omega)) (xv_expected I2 (fun z => absurd rfl (z d (by omega))) (fun k u' r hk ek I3 hr => ?_))
      have ekd : k = d := ((nI_eq (by omega) (by omega)).mp ek).symm
      subst ekd
      have hz : r = 0 ↔ ¬ gm_Bg g k := by
        rw [cp_St_z hr, gm_B ok]
        constructor
        · rintro w (q | ⟨t, ht, q⟩)
          · exact w 6 (by omega) (Or.inr ⟨rfl, q⟩)
          · exact w t (by omega) (Or.inl ⟨ht, q⟩)
        · rintro w x _ (⟨q1, q2⟩ | ⟨_, q⟩)
          · exact w (Or.inr ⟨x, q1, q2⟩)
          · exact w (Or.inl q)
      obtain ⟨f_productions, f_length, f_good, f_empty, f_used, f_known, f_firstRow, f_firstFar, f_columns, f_endless, f_derived, a_left, a_right, a_size, a_text, a_ends, a_trees, a_heights, a_chosen, a_nodes, a_values, a_far, a_op, a_constant, a_wanted, a_sum, a_edges⟩ := u'
      obtain ⟨rfl, rfl, I4⟩ := I3
      refine br_i hz (fun w => nm_e (ih k rfl (by omega) (fun k' q1 q2 => ?_) ⟨rfl, rfl, I4⟩)) (fun w => ?_)
      · rcases Nat.lt_or_ge k k' with y | y
        · exact hno k' y q2
        · have : k' = k := by omega
          subst this; exact w
      · unfold wX_errorAt_46
        exact br_t (nI_pos' (by omega)) (h1 _ _ ⟨rfl, rfl, I4⟩ (Or.inr ⟨hD, Or.inr ⟨k, rfl, by omega, Classical.not_not.mp w, fun k' q1 q2 => hno k' q1 q2⟩⟩))
  refine br_bit (by omega) (fun z => ?_) (fun z => h1 _ _ I' (Or.inl ⟨rfl, e.mp z⟩))
  have := lp (fun w => z (e.mpr w)) (L + 1) (L + 1) rfl (Nat.le_refl _) (fun k' q1 q2 => absurd q1 (by omega)) I'
  rw [pk_m1] at this
  exact ⟨L + 2, this⟩
theorem xv_traits {post : Int32 → SX → Prop} (I : xk_I g op cn L u) (h0 : (∀ n, n < 5 → v1 ≠ nI (n + 10)) → post (-1) u) (h1 : ∀ n u' r, n < 5 → v1 = nI (n + 10) → xk_I g op cn L u' → cp_St r (fun x => (x = 0 ∧ gm_Pd g n) ∨ (x = 1 ∧ gm_D g n 0 0) ∨ (x = 2 ∧ gm_Us g n)) → post r u') : wpX_traits post u v1 := by
  obtain ⟨f_productions, f_length, f_good, f_empty, f_used, f_known, f_firstRow, f_firstFar, f_columns, f_endless, f_derived, a_left, a_right, a_size, a_text, a_ends, a_trees, a_heights, a_chosen, a_nodes, a_values, a_far, a_op, a_constant, a_wanted, a_sum, a_edges⟩ := u
  obtain ⟨rfl, rfl, G, hl, O, hkn, R, F, C⟩ := I
  unfold wpX_traits
  refine xs_isNonterminal (fun n hn e => br_f (by decide) (xs_learn G hl hkn fun a b u hK => ?_)) (fun hz => br_t rfl (h0 hz))
  dsimp only
  rw [e]
  refine nm_r ix_N (h1 n _ _ hn e ⟨rfl, rfl, G, hl, O, fun _ => ⟨rfl, hK⟩, R, F, C⟩ ?_)
  rw [cp_bit _ (show n < 32 by omega), cp_bit _ (show n < 32 by omega), cp_bit _ (show n < 32 by omega)]
  refine cp_St_i (cp_St_or (cp_St_or (A := fun x => x = 0 ∧ gm_Pd g n) ?_ (cp_St_c (q := 1) (by omega))) (cp_St_c (q := 2) (by omega))) fun x _ => ?_
  · have := hK.1 n (by omega)
    by_cases z : bt a n = true
    · rw [if_pos z]
      intro x hx
      rw [cp_b1 x hx, decide_eq_true_iff]
      exact ⟨fun w => ⟨w, this.mp z⟩, fun w => w.1⟩
    · rw [if_neg z]
      intro x hx
      rw [b_0]
      exact ⟨fun w => absurd w (by decide), fun w => absurd (this.mpr w.2) z⟩
  · rw [hK.2.1 n (by omega), hK.2.2 n (by omega)]
    constructor
    · rintro ((w | w) | w)
      · exact Or.inl w
      · exact Or.inr (Or.inl w)
      · exact Or.inr (Or.inr w)
    · rintro (w | w | w)
      · exact Or.inl (Or.inl w)
      · exact Or.inl (Or.inr w)
      · exact Or.inr w
end
end
section
/-! X: node -/
noncomputable def gm_nd (g : gm_G) : Nat → Nat → Nat → Nat → Nat → Nat
  | 0 => fun _ _ _ _ => 0
  | f + 1 => fun n i j k =>
    if k = 0 then 10000 * (gm_C g n i j).1 + 100 * i + j
    else if k - 1 < gm_Np (gm_N g) (gm_s g (3 * (gm_C g n i j).1)) i (gm_C g n i j).2.1 then gm_nd g f (gm_s g (3 * (gm_C g n i j).1) - 10) i (gm_C g n i j).2.1 (k - 1)
    else if k - 1 - gm_Np (gm_N g) (gm_s g (3 * (gm_C g n i j).1)) i (gm_C g n i j).2.1 < gm_Np (gm_N g) (gm_s g (3 * (gm_C g n i j).1 + 1)) (gm_C g n i j).2.1 (gm_C g n i j).2.2 then gm_nd g f (gm_s g (3 * (gm_C g n i j).1 + 1) - 10) (gm_C g n i j).2.1 (gm_C g n i j).2.2 (k - 1 - gm_Np (gm_N g) (gm_s g (3 * (gm_C g n i j).1)) i (gm_C g n i j).2.1)
    else gm_nd g f (gm_s g (3 * (gm_C g n i j).1 + 2) - 10) (gm_C g n i j).2.2 j (k - 1 - gm_Np (gm_N g) (gm_s g (3 * (gm_C g n i j).1)) i (gm_C g n i j).2.1 - gm_Np (gm_N g) (gm_s g (3 * (gm_C g n i j).1 + 1)) (gm_C g n i j).2.1 (gm_C g n i j).2.2)
theorem gm_Np_p {g : gm_G} {c i j : Nat} {k : Nat} (h : k < gm_Np (gm_N g) c i j) : 10 ≤ c ∧ gm_Np (gm_N g) c i j = gm_N g (c - 10) i j := by
  unfold gm_Np at h ⊢
  by_cases z : 10 ≤ c
  · rw [if_pos z]; exact ⟨z, rfl⟩
  · rw [if_neg z] at h; omega
/-- where node answers -1 -/
def cp_nb (g : gm_G) (L : Nat) (v1 : Int32) : Prop := v1 < 0 ∨ gm_Ht g 0 0 L = 0 ∨ ∃ k, k < 2 ^ 31 ∧ v1 = nI k ∧ (gm_N g 0 0 L ≤ k ∨ 1000000000 < gm_N g 0 0 L)
section
variable {g : gm_G} {L : Nat} {f_good f_empty f_used f_known f_firstRow f_firstFar f_columns f_endless f_derived : Int32} {a_left a_right a_size a_text a_ends a_trees a_heights a_chosen a_nodes a_far a_op a_constant a_wanted a_edges : Nat → Int32} {a_values a_sum : Nat → Int64} {c i j p n k m a b r v : Nat} {op : Nat → Nat} {cn : Nat → Int32}
theorem xk_ins (G : cp_G g L a_right a_size a_text) (hR : xk_RW g op cn L 0 a_ends a_trees a_heights a_chosen a_nodes a_values) (hc : c < 15) (hab : a ≤ b) (hb : b ≤ L) {h : Nat} (hs : gm_Sp g (gm_T g h) c a b) (hN : gm_Np (gm_N g) c a b ≤ 1000000000) : (if 10 ≤ c then a_nodes (55 * a + 11 * (c - 10) + b) else 0) = nI (gm_Np (gm_N g) c a b) := by
  unfold gm_Np at hN ⊢
  by_cases z : 10 ≤ c
  · rw [if_pos z, if_pos z]
    rw [if_pos z] at hN
    have t := gm_T_iff.mp ((gm_Sp_n z).mp hs)
    have q := ((hR.2 (c - 10) a b (by omega) (Nat.zero_le _) hab hb).2.2.1 t.1).2.1
    unfold xk_Nv at q
    rw [q, Nat.min_eq_left (by omega)]
  · rw [if_neg z, if_neg z]; rfl
theorem xs_node_51 {post : Int32 → SX → Prop} (G : cp_G g L a_right a_size a_text) (hR : xk_RW g op cn L 0 a_ends a_trees a_heights a_chosen a_nodes a_values) :
    ∀ f n i j k, k < f → n < 5 → i ≤ j → j ≤ L → 0 < gm_Ht g n i j → k < gm_N g n i j → gm_N g n i j ≤ 1000000000 → post (nI (gm_nd g f n i j k)) (nI (gm_P g), nI L, f_good, f_empty, f_used, f_known, f_firstRow, f_firstFar, f_columns, f_endless, f_derived, a_left, a_right, a_size, a_text, a_ends, a_trees, a_heights, a_chosen, a_nodes, a_values, a_far, a_op, a_constant, a_wanted, a_sum, a_edges) → wX_node_51 post (nI (gm_P g)) (nI L) f_good f_empty f_used f_known f_firstRow f_firstFar f_columns f_endless f_derived a_left a_right a_size a_text a_ends a_trees a_heights a_chosen a_nodes a_values a_far a_op a_constant a_wanted a_sum a_edges f (nI k) (nI n) (nI i) (nI j) := by
  have h12 := cp_G_P G
  have hL := cp_G_L G
  have ok := cp_G_ok G
  intro f
  induction f with
  | zero => intro n i j k h; omega
  | succ f ih =>
    intro n i j k hkf hn hij hjL h0 hk hN hpost
    have hC := gm_C_is h0
    have hch := ((hR.2 n i j hn (Nat.zero_le _) hij hjL).2.2.1 h0).1 _ _ _ hC
    have hNe := gm_N_eq hC h0
    rw [gm_nd] at hpost; dsimp only at hpost
    generalize hp0 : (gm_C g n i j).1 = p at *
    generalize hu0 : (gm_C g n i j).2.1 = u at *
    generalize hv0 : (gm_C g n i j).2.2 = v at *
    obtain ⟨hp, hl, ⟨h1, h2, h3, sa, sb, sc⟩, -⟩ := hC
    have c0 : gm_s g (3 * p) < 15 := gm_ok_15 ok hp (show 0 < 3 by omega)
    have c1 := gm_ok_15 ok hp (show 1 < 3 by omega)
    have c2 := gm_ok_15 ok hp (show 2 < 3 by omega)
    unfold gm_Ns at hNe
    rw [wX_node_51]; dsimp only
    rw [ix_55, nI_clamp (show 55 * i + 11 * n + j < 2 ^ 31 by omega), hch]
    refine pk_le k 0 (fun z => ⟨vp_in_nI (by omega) (by omega), ?_⟩) (fun z => ⟨vp_in_nI (by omega) (by omega), nm_e ?_⟩)
    · rw [if_pos (show k = 0 by omega)] at hpost
      rw [cp_ch0 p (by omega) u (by omega) v (by omega), show (10000 : Int32) = nI 10000 from rfl, show (100 : Int32) = nI 100 from rfl, pk_mul, pk_mul, nI_add, nI_add]
      exact hpost
    · rw [if_neg (show ¬ k = 0 by omega)] at hpost
      rw [cp_ch0 p (by omega) u (by omega) v (by omega), cp_ch1 p (by omega) u (by omega) v (by omega)]
      obtain ⟨k, rfl⟩ : ∃ q, k = q + 1 := ⟨k - 1, by omega⟩
      rw [Nat.add_sub_cancel] at hpost
      refine nm_r ix_3 (nm_e (nm_r (pk_m1 k) ⟨3, ?_⟩))
      have go : ∀ c a b q, c < 15 → a ≤ b → b ≤ L → q < gm_Np (gm_N g) c a b → q < f → gm_Np (gm_N g) c a b ≤ 1000000000 → gm_Sp g (gm_T g (gm_Ht g n i j - 1)) c a b → post (nI (gm_nd g f (c - 10) a b q)) (nI (gm_P g), nI L, f_good, f_empty, f_used, f_known, f_firstRow, f_firstFar, f_columns, f_endless, f_derived, a_left, a_right, a_size, a_text, a_ends, a_trees, a_heights, a_chosen, a_nodes, a_values, a_far, a_op, a_constant, a_wanted, a_sum, a_edges) → wX_node_51 post (nI (gm_P g)) (nI L) f_good f_empty f_used f_known f_firstRow f_firstFar f_columns f_endless f_derived a_left a_right a_size a_text a_ends a_trees a_heights a_chosen a_nodes a_values a_far a_op a_constant a_wanted a_sum a_edges f (nI q) (cp_Sy c - 10) (nI a) (nI b) := by
        intro c a b q hc hab hb hq hqf hNb hs hp'
        obtain ⟨h10, e⟩ := gm_Np_p hq
        rw [ix_S h10]
        exact ih (c - 10) a b q hqf (by omega) hab hb (gm_T_iff.mp ((gm_Sp_n h10).mp hs)).1 (by omega) (by omega) hp'
      rw [wX_node_103]; dsimp only
      rw [nI_clamp (show 3 * p < 2 ^ 31 by omega), cp_G_r0 G hp]
      refine br_f (by decide) ⟨vp_in_nI (by omega) (by omega), xs_inside G c0 (by omega) (by omega) ?_⟩
      rw [xk_ins G hR c0 h1 (by omega) sa (by omega)]
      refine pk_lt k (gm_Np (gm_N g) (gm_s g (3 * p)) i u) (fun y => ?_) (fun y => ⟨vp_in_nI (by omega) (by omega), xs_inside G c0 (by omega) (by omega) ?_⟩)
      · rw [if_pos y] at hpost
        unfold wX_node_176
        rw [nI_clamp (show 3 * p < 2 ^ 31 by omega), cp_G_r0 G hp]
        exact ⟨vp_in_nI (by omega) (by omega), nm_e (go _ _ _ _ c0 h1 (by omega) y (by omega) (by omega) sa hpost)⟩
      · rw [if_neg (show ¬ k < gm_Np (gm_N g) (gm_s g (3 * p)) i u by omega)] at hpost
        rw [xk_ins G hR c0 h1 (by omega) sa (by omega)]
        refine nm_r (pk_sub y) (nm_r (nI_1 _) (br_t rfl (nm_r (cp_ch2 p (by omega) u (by omega) v (by omega)) (nm_e ?_))))
        show wX_node_103 post _ (nI j) _ (nI (gm_P g)) (nI L) f_good f_empty f_used f_known f_firstRow f_firstFar f_columns f_endless f_derived a_left a_right a_size a_text a_ends a_trees a_heights a_chosen a_nodes a_values a_far a_op a_constant a_wanted a_sum a_edges 2 _ _ _ _ (nI 1)
        rw [wX_node_103]; dsimp only
        rw [nI_clamp (show 3 * p + 1 < 2 ^ 31 by omega), cp_G_rt G hp (show 1 < 3 by omega)]
        refine br_f (by decide) ⟨vp_in_nI (by omega) (by omega), xs_inside G c1 (by omega) (by omega) ?_⟩
        rw [xk_ins G hR c1 h2 (by omega) sb (by omega)]
        refine pk_lt (k - gm_Np (gm_N g) (gm_s g (3 * p)) i u) (gm_Np (gm_N g) (gm_s g (3 * p + 1)) u v) (fun w => ?_) (fun w => ⟨vp_in_nI (by omega) (by omega), xs_inside G c1 (by omega) (by omega) ?_⟩)
        · rw [if_pos w] at hpost
          unfold wX_node_176
          rw [nI_clamp (show 3 * p + 1 < 2 ^ 31 by omega), cp_G_rt G hp (show 1 < 3 by omega)]
          exact ⟨vp_in_nI (by omega) (by omega), nm_e (go _ _ _ _ c1 h2 (by omega) w (by omega) (by omega) sb hpost)⟩
        · rw [if_neg (show ¬ k - gm_Np (gm_N g) (gm_s g (3 * p)) i u < gm_Np (gm_N g) (gm_s g (3 * p + 1)) u v by omega)] at hpost
          rw [xk_ins G hR c1 h2 (by omega) sb (by omega)]
          refine nm_r (pk_sub w) (nm_r (nI_1 _) (br_f (by decide) (nm_e ?_)))
          show wX_node_103 post _ (nI j) _ (nI (gm_P g)) (nI L) f_good f_empty f_used f_known f_firstRow f_firstFar f_columns f_endless f_derived a_left a_right a_size a_text a_ends a_trees a_heights a_chosen a_nodes a_values a_far a_op a_constant a_wanted a_sum a_edges 1 _ _ _ _ (nI 2)
          rw [wX_node_103]; dsimp only
          refine br_t (by decide) ?_
          unfold wX_node_176
          rw [nI_clamp (show 3 * p + 1 + 1 < 2 ^ 31 by omega), cp_G_rt G hp (show 2 < 3 by omega)]
          exact ⟨vp_in_nI (by omega) (by omega), nm_e (go _ _ _ _ c2 h3 (by omega) (by omega) (by omega) (by omega) sc hpost)⟩
end
section
variable {g : gm_G} {L : Nat} {op : Nat → Nat} {cn : Nat → Int32} {u : SX} {v1 v2 v3 : Int32}
theorem xv_node {post : Int32 → SX → Prop} (I : xk_I g op cn L u) (h0 : ∀ u', xk_I g op cn L u' → cp_nb g L v1 → post (-1) u') (h1 : ∀ k u', k < 2 ^ 31 → v1 = nI k → 0 < gm_Ht g 0 0 L → k < gm_N g 0 0 L → gm_N g 0 0 L ≤ 1000000000 → xk_I g op cn L u' → post (nI (gm_nd g (k + 1) 0 0 L k)) u') : wpX_node post u v1 := by
  obtain ⟨f_productions, f_length, f_good, f_empty, f_used, f_known, f_firstRow, f_firstFar, f_columns, f_endless, f_derived, a_left, a_right, a_size, a_text, a_ends, a_trees, a_heights, a_chosen, a_nodes, a_values, a_far, a_op, a_constant, a_wanted, a_sum, a_edges⟩ := u
  obtain ⟨rfl, rfl, G, hl, O, hkn, ⟨f, hf, hfL, hR⟩, F, C⟩ := I
  have hL := cp_G_L G
  have ok := cp_G_ok G
  unfold wpX_node
  refine xs_rowsTo (i := 0) G hl O (Nat.zero_le _) hf hfL hR fun f' fe fd en ta ah ac an av az ae hf' hR' => ?_
  have I' : xk_I g op cn L (nI (gm_P g), nI L, f_good, f_empty, f_used, f_known, nI f', f_firstFar, f_columns, fe, fd, a_left, a_right, a_size, a_text, en, ta, ah, ac, an, av, a_far, a_op, a_constant, a_wanted, az, ae) := ⟨rfl, rfl, G, hl, O, hkn, ⟨f', rfl, by omega, hR'⟩, F, C⟩
  have e0 : f' = 0 := by omega
  subst e0
  dsimp only
  rw [nI_clamp (show L < 2 ^ 31 by omega)]
  refine br_c (fun z => h0 _ I' (Or.inl z)) (fun z => ⟨vp_in_nI (by omega) (by omega), ?_⟩)
  obtain ⟨k, hk, e⟩ := nI_of z
  have cell := (hR'.2 0 0 L (by omega) (Nat.le_refl _) (Nat.zero_le _) (Nat.le_refl _)).2.2
  rw [show 55 * 0 + 11 * 0 + L = L by omega] at cell
  rcases Nat.eq_zero_or_pos (gm_Ht g 0 0 L) with w | w
  · rw [(cell.2 w).1]
    refine br_t ?_ (h0 _ I' (Or.inr (Or.inl w)))
    rw [e]; exact nI_pos' hk
  · have q := (cell.1 w).2.1
    unfold xk_Nv at q
    rw [show 55 * 0 + 11 * 0 + L = L by omega] at q
    rw [q, e]
    refine pk_le (min (gm_N g 0 0 L) 1000000001) k (fun y => h0 _ I' (Or.inr (Or.inr ⟨k, hk, e, by omega⟩))) (fun y => ⟨vp_in_nI (by omega) (by omega), pk_le (min (gm_N g 0 0 L) 1000000001) 1000000000 (fun x => ⟨k + 1, ?_⟩) (fun x => h0 _ I' (Or.inr (Or.inr ⟨k, hk, e, by omega⟩)))⟩)
    exact xs_node_51 (op := op) (cn := cn) G hR' (k + 1) 0 0 L k (by omega) (by omega) (Nat.zero_le _) (Nat.le_refl _) w (by omega) (by omega) (h1 k _ hk e w (by omega) (by omega) I')
end
end
section
/-! X: moveRow -/
theorem cp_aps {a b c : Nat} (h : c ≤ a + b) : nI a + (nI b - nI c) = nI (a + b - c) := by
  rw [← pk_sub h, ← nI_add]
  grind
/-- a copied row: cells before K -/
def xk_cpy {α : Type} (fr to K : Nat) (φ : α → α) (B A : Nat → α) : Prop := (∀ k, k < K → fr ≤ k % 11 → k % 11 + to - fr ≤ 10 → B (55 * to + k + to - fr) = φ (A (55 * fr + k))) ∧ ∀ y, (y < 55 * to ∨ 55 * to + 55 ≤ y) → B y = A y
theorem xk_cpy_0 {α : Type} {fr to : Nat} {φ : α → α} {A : Nat → α} : xk_cpy fr to 0 φ A A := ⟨fun k hk => absurd hk (by omega), fun _ _ => rfl⟩
theorem xk_cpy_s {α : Type} {fr to K : Nat} {φ : α → α} {B A : Nat → α} (h : xk_cpy fr to K φ B A) (hn : ¬ (fr ≤ K % 11 ∧ K % 11 + to - fr ≤ 10)) : xk_cpy fr to (K + 1) φ B A := by
  refine ⟨fun k hk h1 h2 => ?_, h.2⟩
  by_cases e : k = K
  · subst e; exact absurd ⟨h1, h2⟩ hn
  · exact h.1 k (by omega) h1 h2
theorem xk_cpy_i {fr to K : Nat} {φ : Int32 → Int32} {B A : Nat → Int32} (h : xk_cpy fr to K φ B A) (hft : fr = to + 1 ∨ to = fr + 1) (hK : K < 55) (h1 : fr ≤ K % 11) (h2 : K % 11 + to - fr ≤ 10) : xk_cpy fr to (K + 1) φ (upd B (55 * to + K + to - fr) (φ (B (55 * fr + K)))) A := by
  refine ⟨fun k hk q1 q2 => ?_, fun y hy => ?_⟩
  · by_cases e : k = K
    · subst e; rw [pk_us, h.2 _ (by omega)]
    · rw [pk_un (by omega)]; exact h.1 k (by omega) q1 q2
  · rw [pk_un (by omega)]; exact h.2 y hy
theorem xk_cpy_l {fr to K : Nat} {B A : Nat → Int64} (h : xk_cpy fr to K id B A) (hft : fr = to + 1 ∨ to = fr + 1) (hK : K < 55) (h1 : fr ≤ K % 11) (h2 : K % 11 + to - fr ≤ 10) : xk_cpy fr to (K + 1) id (vp_updL B (55 * to + K + to - fr) (B (55 * fr + K))) A := by
  refine ⟨fun k hk q1 q2 => ?_, fun y hy => ?_⟩
  · by_cases e : k = K
    · subst e; rw [pk_uLs, h.2 _ (by omega)]; rfl
    · rw [pk_uLn (by omega)]; exact h.1 k (by omega) q1 q2
  · rw [pk_uLn (by omega)]; exact h.2 y hy
def xk_chf (fr to : Nat) (x : Int32) : Int32 := vp_nar .short ((x + (nI to - nI fr) * 272).toInt16.toInt32)
/-- the ends of a moved row -/
def xk_enf (fr to : Nat) (x : Int32) : Int32 := if to ≤ fr then vp_nar .short ((x >>> ((1 : Int32) &&& 31)).toInt16.toInt32) else vp_nar .short ((x <<< ((1 : Int32) &&& 31)).toInt16.toInt32)
def xk_enr (fr to K : Nat) (B A : Nat → Int32) : Prop := (∀ n, n < K → B (5 * to + n) = xk_enf fr to (A (5 * fr + n))) ∧ ∀ y, (y < 5 * to ∨ 5 * to + 5 ≤ y) → B y = A y
section
variable {g : gm_G} {L : Nat} {f_good f_empty f_used f_known f_firstRow f_firstFar f_columns f_endless f_derived : Int32} {a_left a_right a_size a_text a_ends a_trees a_heights a_chosen a_nodes a_far a_op a_constant a_wanted a_edges : Nat → Int32} {a_values a_sum : Nat → Int64} {fr to : Nat}
theorem xs_move_59 {post : SX → Prop} {ta0 ah0 ac0 an0 af0 : Nat → Int32} {av0 : Nat → Int64} (hft : fr = to + 1 ∨ to = fr + 1) (hfr : fr ≤ 10) (hto : to ≤ 10)
    (h : ∀ ta ah ac an av af, xk_cpy fr to 55 id ta ta0 → xk_cpy fr to 55 (vp_nar .byte) ah ah0 → xk_cpy fr to 55 (xk_chf fr to) ac ac0 → xk_cpy fr to 55 id an an0 → xk_cpy fr to 55 id av av0 → xk_cpy fr to 55 (vp_nar .short) af af0 → post (nI (gm_P g), nI L, f_good, f_empty, f_used, f_known, f_firstRow, f_firstFar, f_columns, f_endless, f_derived, a_left, a_right, a_size, a_text, a_ends, ta, ah, ac, an, av, af, a_op, a_constant, a_wanted, a_sum, a_edges)) :
    ∀ d k ta ah ac an av af, k + d = 55 → xk_cpy fr to k id ta ta0 → xk_cpy fr to k (vp_nar .byte) ah ah0 → xk_cpy fr to k (xk_chf fr to) ac ac0 → xk_cpy fr to k id an an0 → xk_cpy fr to k id av av0 → xk_cpy fr to k (vp_nar .short) af af0 →
      wX_moveRow_59 post (nI fr) (nI to) (nI to - nI fr) (nI (gm_P g)) (nI L) f_good f_empty f_used f_known f_firstRow f_firstFar f_columns f_endless f_derived (d + 1) (nI k) a_left a_right a_size a_text a_ends ta ah ac an av af a_op a_constant a_wanted a_sum a_edges := by
  intro d
  induction d with
  | zero =>
    intro k ta ah ac an av af hk h1 h2 h3 h4 h5 h6
    rw [wX_moveRow_59]
    have e : k = 55 := by omega
    subst e
    exact pk_le 55 55 (fun _ => h ta ah ac an av af h1 h2 h3 h4 h5 h6) (fun z => absurd z (by omega))
  | succ d ih =>
    intro k ta ah ac an av af hk h1 h2 h3 h4 h5 h6
    rw [wX_moveRow_59]
    have hrem : nI k - nI k / 11 * 11 = nI (k % 11) := pk_rem (d := 11) (by omega) (by omega) (by omega)
    have h11 : k % 11 < 11 := Nat.mod_lt _ (by omega)
    refine pk_le 55 k (fun z => absurd z (by omega)) (fun _ => ⟨by decide, ?_⟩)
    rw [hrem]
    refine pk_lt (k % 11) fr (fun z => nm_r (nI_1 _) (ih (k + 1) ta ah ac an av af (by omega) (xk_cpy_s h1 (by omega)) (xk_cpy_s h2 (by omega)) (xk_cpy_s h3 (by omega)) (xk_cpy_s h4 (by omega)) (xk_cpy_s h5 (by omega)) (xk_cpy_s h6 (by omega)))) (fun z => ⟨by decide, ?_⟩)
    rw [cp_aps (show fr ≤ k % 11 + to by omega)]
    refine pk_le (k % 11 + to - fr) 10 (fun y => ?_) (fun y => nm_r (nI_1 _) (ih (k + 1) ta ah ac an av af (by omega) (xk_cpy_s h1 (by omega)) (xk_cpy_s h2 (by omega)) (xk_cpy_s h3 (by omega)) (xk_cpy_s h4 (by omega)) (xk_cpy_s h5 (by omega)) (xk_cpy_s h6 (by omega))))
    have e1 : (55 * nI fr) + nI k = nI (55 * fr + k) := by rw [show (55 : Int32) = nI 55 from rfl, pk_mul, nI_add]
    have e2 : ((55 * nI to) + nI k) + (nI to - nI fr) = nI (55 * to + k + to - fr) := by rw [show (55 : Int32) = nI 55 from rfl, pk_mul, nI_add, cp_aps (by omega)]
    rw [e1, e2, nI_clamp (show 55 * fr + k < 2 ^ 31 by omega), nI_clamp (show 55 * to + k + to - fr < 2 ^ 31 by omega)]
    exact ⟨vp_in_nI (by omega) (by omega), vp_in_nI (by omega) (by omega), nm_e ⟨vp_in_nI (by omega) (by omega), vp_in_nI (by omega) (by omega), nm_e ⟨vp_in_nI (by omega) (by omega), vp_in_nI (by omega) (by omega), nm_e ⟨vp_in_nI (by omega) (by omega), vp_in_nI (by omega) (by omega), nm_e ⟨vp_in_nI (by omega) (by omega), vp_in_nI (by omega) (by omega), nm_e ⟨vp_in_nI (by omega) (by omega), vp_in_nI (by omega) (by omega), nm_e (nm_r (nI_1 _) (ih (k + 1) _ _ _ _ _ _ (by omega) (xk_cpy_i h1 hft (by omega) z y) (xk_cpy_i h2 hft (by omega) z y) (xk_cpy_i (φ := xk_chf fr to) h3 hft (by omega) z y) (xk_cpy_i h4 hft (by omega) z y) (xk_cpy_l h5 hft (by omega) z y) (xk_cpy_i h6 hft (by omega) z y)))⟩⟩⟩⟩⟩⟩
theorem xs_moveRow {post : SX → Prop} (hft : fr = to + 1 ∨ to = fr + 1) (hfr : fr ≤ 10) (hto : to ≤ 10)
    (h : ∀ en ta ah ac an av af, xk_enr fr to 5 en a_ends → xk_cpy fr to 55 id ta a_trees → xk_cpy fr to 55 (vp_nar .byte) ah a_heights → xk_cpy fr to 55 (xk_chf fr to) ac a_chosen → xk_cpy fr to 55 id an a_nodes → xk_cpy fr to 55 id av a_values → xk_cpy fr to 55 (vp_nar .short) af a_far → post (nI (gm_P g), nI L, f_good, f_empty, f_used, f_known, f_firstRow, f_firstFar, f_columns, f_endless, f_derived, a_left, a_right, a_size, a_text, en, ta, ah, ac, an, av, af, a_op, a_constant, a_wanted, a_sum, a_edges)) : wpX_moveRow post (nI (gm_P g), nI L, f_good, f_empty, f_used, f_known, f_firstRow, f_firstFar, f_columns, f_endless, f_derived, a_left, a_right, a_size, a_text, a_ends, a_trees, a_heights, a_chosen, a_nodes, a_values, a_far, a_op, a_constant, a_wanted, a_sum, a_edges) (nI fr) (nI to) := by
  have lp : ∀ d n en, n + d = 5 → xk_enr fr to n en a_ends → wX_moveRow_2 post (nI fr) (nI to) (nI (gm_P g)) (nI L) f_good f_empty f_used f_known f_firstRow f_firstFar f_columns f_endless f_derived (d + 1) (nI n) a_left a_right a_size a_text en a_trees a_heights a_chosen a_nodes a_values a_far a_op a_constant a_wanted a_sum a_edges := by
    intro d
    induction d with
    | zero =>
      intro n en hn he
      rw [wX_moveRow_2]
      have e : n = 5 := by omega
      subst e
      exact pk_le 5 5 (fun _ => nm_e ⟨56, xs_move_59 hft hfr hto (fun ta ah ac an av af h1 h2 h3 h4 h5 h6 => h en ta ah ac an av af he h1 h2 h3 h4 h5 h6) 55 0 _ _ _ _ _ _ rfl xk_cpy_0 xk_cpy_0 xk_cpy_0 xk_cpy_0 xk_cpy_0 xk_cpy_0⟩) (fun z => absurd z (by omega))
    | succ d ih =>
      intro n en hn he
      rw [wX_moveRow_2]
      refine pk_le 5 n (fun z => absurd z (by omega)) (fun _ => ?_)
      rw [ix_5, ix_5, nI_clamp (show 5 * fr + n < 2 ^ 31 by omega), nI_clamp (show 5 * to + n < 2 ^ 31 by omega)]
      have nx : ∀ w, w = xk_enf fr to (en (5 * fr + n)) → xk_enr fr to (n + 1) (upd en (5 * to + n) w) a_ends := by
        intro w hw
        refine ⟨fun m hm => ?_, fun y hy => ?_⟩
        · by_cases e : m = n
          · subst e; rw [pk_us, hw, he.2 _ (by omega)]
          · rw [pk_un (by omega)]; exact he.1 m (by omega)
        · rw [pk_un (by omega)]; exact he.2 y hy
      exact ⟨vp_in_nI (by omega) (by omega), nm_e (pk_le to fr (fun z => ⟨vp_in_nI (by omega) (by omega), nm_e (nm_r (nI_1 _) (ih (n + 1) _ (by omega) (nx _ (if_pos z).symm)))⟩) (fun z => ⟨vp_in_nI (by omega) (by omega), nm_e (nm_r (nI_1 _) (ih (n + 1) _ (by omega) (nx _ (if_neg (by omega)).symm)))⟩))⟩
  unfold wpX_moveRow
  exact ⟨6, lp 5 0 a_ends rfl ⟨fun m hm => absurd hm (by omega), fun _ _ => rfl⟩⟩
end
/-! a row that has moved: one up, one down -/
def xk_up1 {α : Type} (φ : α → α) (k : Nat) (B A : Nat → α) : Prop := ∀ n j, n < 5 → k ≤ j → j ≤ 9 → B (55 * (k + 1) + 11 * n + (j + 1)) = φ (A (55 * k + 11 * n + j))
def xk_dn1 {α : Type} (φ : α → α) (k : Nat) (B A : Nat → α) : Prop := ∀ n j, n < 5 → k ≤ j → j ≤ 9 → B (55 * k + 11 * n + j) = φ (A (55 * (k + 1) + 11 * n + (j + 1)))
theorem xk_cpy_up {α : Type} {φ : α → α} {k : Nat} {B A : Nat → α} (h : xk_cpy k (k + 1) 55 φ B A) : xk_up1 φ k B A := fun n j hn hk hj => by
  have e := h.1 (11 * n + j) (by omega) (by omega) (by omega)
  rw [show 55 * (k + 1) + (11 * n + j) + (k + 1) - k = 55 * (k + 1) + 11 * n + (j + 1) by omega, show 55 * k + (11 * n + j) = 55 * k + 11 * n + j by omega] at e
  exact e
theorem xk_cpy_dn {α : Type} {φ : α → α} {k : Nat} {B A : Nat → α} (h : xk_cpy (k + 1) k 55 φ B A) : xk_dn1 φ k B A := fun n j hn hk hj => by
  have e := h.1 (11 * n + (j + 1)) (by omega) (by omega) (by omega)
  rw [show 55 * k + (11 * n + (j + 1)) + k - (k + 1) = 55 * k + 11 * n + j by omega, show 55 * (k + 1) + (11 * n + (j + 1)) = 55 * (k + 1) + 11 * n + (j + 1) by omega] at e
  exact e
end
section
/-! cells that have moved -/
def xk_MU (k : Nat) (en ta ah ac an : Nat → Int32) (av : Nat → Int64) (af en0 ta0 ah0 ac0 an0 : Nat → Int32) (av0 : Nat → Int64) (af0 : Nat → Int32) : Prop :=
  (∀ n, n < 5 → en (5 * (k + 1) + n) = xk_enf k (k + 1) (en0 (5 * k + n))) ∧ xk_up1 id k ta ta0 ∧ xk_up1 (vp_nar .byte) k ah ah0 ∧ xk_up1 (xk_chf k (k + 1)) k ac ac0 ∧ xk_up1 id k an an0 ∧ xk_up1 id k av av0 ∧ xk_up1 (vp_nar .short) k af af0
def xk_MD (k : Nat) (en ta ah ac an : Nat → Int32) (av : Nat → Int64) (af en0 ta0 ah0 ac0 an0 : Nat → Int32) (av0 : Nat → Int64) (af0 : Nat → Int32) : Prop :=
  (∀ n, n < 5 → en (5 * k + n) = xk_enf (k + 1) k (en0 (5 * (k + 1) + n))) ∧ xk_dn1 id k ta ta0 ∧ xk_dn1 (vp_nar .byte) k ah ah0 ∧ xk_dn1 (xk_chf (k + 1) k) k ac ac0 ∧ xk_dn1 id k an an0 ∧ xk_dn1 id k av av0 ∧ xk_dn1 (vp_nar .short) k af af0
section
variable {g g' : gm_G} {op : Nat → Nat} {cn : Nat → Int32} {L n a b lo hi : Nat} {en ta ah ac an af en0 ta0 ah0 ac0 an0 af0 : Nat → Int32} {av av0 : Nat → Int64}
theorem xk_chf_u {x : Nat} (hx : x < 20000) : xk_chf a (a + 1) (nI x) = nI (x + 272) := by
  unfold xk_chf
  rw [pk_sub (show a ≤ a + 1 by omega), show a + 1 - a = 1 by omega, show (272 : Int32) = nI 272 from rfl, pk_mul, nI_add, show x + 1 * 272 = x + 272 by omega]
  exact cp_n16 (cp_t16 (by omega))
theorem xk_chf_d {x : Nat} (hx : x < 20000) : xk_chf (a + 1) a (nI (x + 272)) = nI x := by
  have e : nI (x + 272) + (nI a - nI (a + 1)) * 272 = nI x := by
    rw [← nI_add x 272, ← nI_1 a, show nI 272 = 272 from rfl]
    grind
  unfold xk_chf
  rw [e]
  exact cp_n16 (cp_t16 (by omega))
theorem xk_Cl_up (A : gm_Ag g g' 1 lo hi) (ok : gm_ok g) (h1 : lo ≤ a) (hab : a ≤ b) (h2 : b ≤ hi) (hb : b ≤ 9) (hn : n < 5) (M : xk_MU a en ta ah ac an av af en0 ta0 ah0 ac0 an0 av0 af0) (h : xk_Cl g op cn ta0 ah0 ac0 an0 av0 n a b) : xk_Cl g' op cn ta ah ac an av n (a + 1) (b + 1) := by
  obtain ⟨-, m1, m2, m3, m4, m5, -⟩ := M
  obtain ⟨t, hh, hc, hz⟩ := h
  have eH : gm_Ht g' n (a + 1) (b + 1) = gm_Ht g n a b := gm_Ht_tr A h1 h2
  have hB := gm_Ht_B (g := g) (n := n) (i := a) (j := b) ok (by omega)
  refine ⟨⟨fun hf => ?_, fun hf => ?_⟩, ?_, fun h0 => ⟨fun p u v hC => ?_, ?_, ?_⟩, fun h0 => ?_⟩
  · have hf' := (gm_F_tr A h1 h2).mpr hf
    rw [m1 n b hn hab hb, gm_M_tr A hf' h1 h2]; exact t.1 hf'
  · rw [m1 n b hn hab hb]; exact t.2 fun w => hf ((gm_F_tr A h1 h2).mp w)
  · unfold xk_HA at hh ⊢
    rw [m2 n b hn hab hb, hh, eH, cp_n8' (cp_t8 _ (by omega))]
  · rw [eH] at h0
    have hC0 := gm_C_is h0
    obtain ⟨rfl, rfl, rfl⟩ := gm_IsC_un (gm_IsC_tr A h1 h2 hC0) hC
    have q := (hc h0).1 _ _ _ hC0
    have d1 := hC0.2.2.1.2.1
    have d2 := hC0.2.2.1.2.2.1
    have d3 := hC0.1
    have d4 := ok.1
    rw [m3 n b hn hab hb, q, xk_chf_u (by omega)]
    exact congrArg nI (by omega)
  · rw [eH] at h0
    have q := (hc h0).2.1
    unfold xk_Nv at q ⊢
    rw [m4 n b hn hab hb, gm_N_tr A h0 h1 h2]; exact q
  · rw [eH] at h0
    have q := (hc h0).2.2
    unfold xk_Vv at q ⊢
    rw [m5 n b hn hab hb, gm_V_tr A h0 h1 h2]; exact q
  · rw [eH] at h0
    rw [m4 n b hn hab hb, m5 n b hn hab hb]; exact hz h0
theorem xk_Cl_dn (A : gm_Ag g' g 1 lo hi) (ok : gm_ok g) (h1 : lo ≤ a) (hab : a ≤ b) (h2 : b ≤ hi) (hb : b ≤ 9) (hn : n < 5) (M : xk_MD a en ta ah ac an av af en0 ta0 ah0 ac0 an0 av0 af0) (h : xk_Cl g op cn ta0 ah0 ac0 an0 av0 n (a + 1) (b + 1)) : xk_Cl g' op cn ta ah ac an av n a b := by
  obtain ⟨-, m1, m2, m3, m4, m5, -⟩ := M
  obtain ⟨t, hh, hc, hz⟩ := h
  have eH : gm_Ht g n (a + 1) (b + 1) = gm_Ht g' n a b := gm_Ht_tr A h1 h2
  have hB := gm_Ht_B (g := g) (n := n) (i := a + 1) (j := b + 1) ok (by omega)
  refine ⟨⟨fun hf => ?_, fun hf => ?_⟩, ?_, fun h0 => ⟨fun p u v hC => ?_, ?_, ?_⟩, fun h0 => ?_⟩
  · rw [m1 n b hn hab hb, ← gm_M_tr A hf h1 h2]; exact t.1 ((gm_F_tr A h1 h2).mp hf)
  · rw [m1 n b hn hab hb]; exact t.2 fun w => hf ((gm_F_tr A h1 h2).mpr w)
  · unfold xk_HA at hh ⊢
    rw [m2 n b hn hab hb, hh, ← eH, cp_n8' (cp_t8 _ (by omega))]
  · have hC0 := gm_IsC_tr A h1 h2 hC
    have q := (hc (by rw [eH]; exact h0)).1 _ _ _ hC0
    have d1 := hC0.2.2.1.2.1
    have d2 := hC0.2.2.1.2.2.1
    have d3 := hC0.1
    have d4 := ok.1
    rw [m3 n b hn hab hb, q, show p + 16 * (u + 1) + 256 * (v + 1) = (p + 16 * u + 256 * v) + 272 by omega, xk_chf_d (by omega)]
  · have q := (hc (by rw [eH]; exact h0)).2.1
    unfold xk_Nv at q ⊢
    rw [m4 n b hn hab hb, ← gm_N_tr A h0 h1 h2]; exact q
  · have q := (hc (by rw [eH]; exact h0)).2.2
    unfold xk_Vv at q ⊢
    rw [m5 n b hn hab hb, ← gm_V_tr A h0 h1 h2]; exact q
  · rw [m4 n b hn hab hb, m5 n b hn hab hb]; exact hz (by rw [eH]; exact h0)
theorem xk_Cl_eq (A : gm_Ag g g' 0 lo hi) (h1 : lo ≤ a) (h2 : b ≤ hi) (h : xk_Cl g op cn ta ah ac an av n a b) : xk_Cl g' op cn ta ah ac an av n a b := by
  obtain ⟨t, hh, hc, hz⟩ := h
  have eH : gm_Ht g' n a b = gm_Ht g n a b := gm_Ht_tr A h1 h2
  have eF : gm_F g n a b ↔ gm_F g' n a b := gm_F_tr A h1 h2
  refine ⟨⟨fun hf => ?_, fun hf => t.2 fun w => hf (eF.mp w)⟩, ?_, fun h0 => ⟨fun p u v hC => ?_, ?_, ?_⟩, fun h0 => ?_⟩
  · have hf' := eF.mpr hf
    have e : gm_M g' n a b = gm_M g n a b := gm_M_tr A hf' h1 h2
    rw [e]; exact t.1 hf'
  · unfold xk_HA at hh ⊢
    rw [eH]; exact hh
  · rw [eH] at h0
    exact (hc h0).1 _ _ _ (gm_IsC_tr (gm_Ag_sy A) h1 h2 hC)
  · rw [eH] at h0
    have q := (hc h0).2.1
    have e : gm_N g' n a b = gm_N g n a b := gm_N_tr A h0 h1 h2
    unfold xk_Nv at q ⊢
    rw [e]; exact q
  · rw [eH] at h0
    have q := (hc h0).2.2
    have e : gm_V g' op cn n a b = gm_V g op cn n a b := gm_V_tr A h0 h1 h2
    unfold xk_Vv at q ⊢
    rw [e]; exact q
  · rw [eH] at h0; exact hz h0
theorem xk_Fc_up (A : gm_Ag g g' 1 lo hi) (h1 : lo ≤ a) (hab : a ≤ b) (h2 : b ≤ hi) (hb : b ≤ 9) (hn : n < 5) (M : xk_up1 (vp_nar .short) a af af0) (h : xk_Fc g af0 n a b) : xk_Fc g' af n (a + 1) (b + 1) := by
  obtain ⟨x, e, hx⟩ := h
  have := hx.2.1
  exact ⟨x, by rw [M n b hn hab hb, e, cp_n16' (cp_t16 (by omega))], (gm_FX_tr A h1 h2).mp hx⟩
theorem xk_Fc_dn (A : gm_Ag g' g 1 lo hi) (h1 : lo ≤ a) (hab : a ≤ b) (h2 : b ≤ hi) (hb : b ≤ 9) (hn : n < 5) (M : xk_dn1 (vp_nar .short) a af af0) (h : xk_Fc g af0 n (a + 1) (b + 1)) : xk_Fc g' af n a b := by
  obtain ⟨x, e, hx⟩ := h
  have := hx.2.1
  exact ⟨x, by rw [M n b hn hab hb, e, cp_n16' (cp_t16 (by omega))], (gm_FX_tr A h1 h2).mpr hx⟩
theorem xk_Fc_eq (A : gm_Ag g g' 0 lo hi) (h1 : lo ≤ a) (h2 : b ≤ hi) (h : xk_Fc g af n a b) : xk_Fc g' af n a b := by
  obtain ⟨x, e, hx⟩ := h
  exact ⟨x, e, (gm_FX_tr A h1 h2).mp hx⟩
theorem xk_En_up (A : gm_Ag g g' 1 lo hi) (hL : L ≤ 9) (hLh : L ≤ hi) (h1 : lo ≤ a) {x : Int32} (h : cp_St x (fun j => gm_D g n a j ∧ j ≤ L)) : cp_St (xk_enf a (a + 1) x) (fun j => gm_D g' n (a + 1) j ∧ j ≤ L + 1) := by
  have h' : cp_St (x <<< ((1 : Int32) &&& 31)) (fun j => gm_D g' n (a + 1) j ∧ j ≤ L + 1) := fun j hj => by
    rw [show (x <<< ((1 : Int32) &&& 31)) = x <<< (nI 1 &&& 31) from rfl, b_shl 1 (by omega) x hj, Bool.and_eq_true, decide_eq_true_iff]
    constructor
    · rintro ⟨w1, w2⟩
      obtain ⟨q1, q2⟩ := (h (j - 1) (by omega)).mp w2
      have := (gm_D_tr A h1 (show j - 1 ≤ hi by omega)).mp q1
      rw [show j - 1 + 1 = j by omega] at this
      exact ⟨this, by omega⟩
    · rintro ⟨w1, w2⟩
      have hle := gm_D_le w1
      refine ⟨by omega, (h (j - 1) (by omega)).mpr ⟨(gm_D_tr A h1 (show j - 1 ≤ hi by omega)).mpr ?_, by omega⟩⟩
      rw [show j - 1 + 1 = j by omega]; exact w1
  unfold xk_enf
  rw [if_neg (show ¬ a + 1 ≤ a by omega), cp_n16 (cp_St_16 h' fun j _ w => by omega)]
  exact h'
theorem xk_En_dn (A : gm_Ag g' g 1 lo hi) (hL : L ≤ 9) (hLh : L ≤ hi) (h1 : lo ≤ a) {x : Int32} (h : cp_St x (fun j => gm_D g n (a + 1) j ∧ j ≤ L + 1)) : cp_St (xk_enf (a + 1) a x) (fun j => gm_D g' n a j ∧ j ≤ L) := by
  have h' : cp_St (x >>> ((1 : Int32) &&& 31)) (fun j => gm_D g' n a j ∧ j ≤ L) := fun j hj => by
    rw [show (x >>> ((1 : Int32) &&& 31)) = x >>> (nI 1 &&& 31) from rfl, b_sshr 1 (by omega) x hj]
    by_cases z : 1 + j < 32
    · rw [if_pos z, h (1 + j) z]
      constructor
      · rintro ⟨w1, w2⟩
        rw [Nat.add_comm 1 j] at w1
        exact ⟨(gm_D_tr A h1 (show j ≤ hi by omega)).mpr w1, by omega⟩
      · rintro ⟨w1, w2⟩
        rw [Nat.add_comm 1 j]
        exact ⟨(gm_D_tr A h1 (show j ≤ hi by omega)).mp w1, by omega⟩
    · rw [if_neg z, h 31 (by omega)]
      constructor
      · rintro ⟨_, w⟩; omega
      · rintro ⟨_, w⟩; omega
  unfold xk_enf
  rw [if_pos (show a ≤ a + 1 by omega), cp_n16 (cp_St_16 h' fun j _ w => by omega)]
  exact h'
end
/-! the grammar after an edit -/
def gm_tx (g : gm_G) (t : Nat → Nat) : gm_G := (gm_P g, gm_l g, gm_s g, t)
def gm_it (g : gm_G) (L at' v i : Nat) : Nat := if i < at' then gm_t g i else if i = at' then v else if i ≤ L then gm_t g (i - 1) else gm_t g i
def gm_et (g : gm_G) (L at' i : Nat) : Nat := if i < at' then gm_t g i else if i + 1 < L then gm_t g (i + 1) else gm_t g i
def gm_st (g : gm_G) (at' v i : Nat) : Nat := if i = at' then v else gm_t g i
section
variable {g : gm_G} {L at' v : Nat}
theorem gm_it_Ag : gm_Ag g (gm_tx g (gm_it g L at' v)) 1 at' L := ⟨rfl, rfl, rfl, fun k h1 h2 => by
  show gm_it g L at' v (k + 1) = gm_t g k
  unfold gm_it
  rw [if_neg (by omega), if_neg (by omega), if_pos (by omega), Nat.add_sub_cancel]⟩
theorem gm_it_A0 : gm_Ag g (gm_tx g (gm_it g L at' v)) 0 0 at' := ⟨rfl, rfl, rfl, fun k h1 h2 => by
  show gm_it g L at' v k = gm_t g k
  unfold gm_it
  rw [if_pos h2]⟩
theorem gm_et_Ag : gm_Ag (gm_tx g (gm_et g L at')) g 1 at' (L - 1) := ⟨rfl, rfl, rfl, fun k h1 h2 => by
  show gm_t g (k + 1) = gm_et g L at' k
  unfold gm_et
  rw [if_neg (by omega), if_pos (by omega)]⟩
theorem gm_et_A0 : gm_Ag g (gm_tx g (gm_et g L at')) 0 0 at' := ⟨rfl, rfl, rfl, fun k h1 h2 => by
  show gm_et g L at' k = gm_t g k
  unfold gm_et
  rw [if_pos h2]⟩
theorem gm_st_Ag : gm_Ag g (gm_tx g (gm_st g at' v)) 0 (at' + 1) 100 := ⟨rfl, rfl, rfl, fun k h1 h2 => by
  show gm_st g at' v k = gm_t g k
  unfold gm_st
  rw [if_neg (by omega)]⟩
theorem gm_st_A0 : gm_Ag g (gm_tx g (gm_st g at' v)) 0 0 at' := ⟨rfl, rfl, rfl, fun k h1 h2 => by
  show gm_st g at' v k = gm_t g k
  unfold gm_st
  rw [if_neg (by omega)]⟩
theorem gm_tx_Sg {t : Nat → Nat} : gm_Sg g (gm_tx g t) := ⟨rfl, rfl, rfl⟩
theorem gm_tx_ok {t : Nat → Nat} (h : gm_ok g) : gm_ok (gm_tx g t) := h
theorem cp_G_tx' {t : Nat → Nat} {L L' : Nat} {a_right a_size a_text a_text' : Nat → Int32} (G : cp_G g L a_right a_size a_text) (hL : L' ≤ 10) (h : ∀ i, t i < 6 ∧ a_text' i = nI (t i)) : cp_G (gm_tx g t) L' a_right a_size a_text' := ⟨G.1, hL, G.2.2.1, h⟩
theorem xk_K_tr {g' : gm_G} {a b u : Int32} (h : gm_Sg g g') (k : xk_K g a b u) : xk_K g' a b u :=
  ⟨cp_St_i k.1 fun n _ => gm_Pd_tr h, cp_St_i k.2.1 fun n _ => gm_D_tr (gm_Sg_Ag h) (Nat.le_refl _) (Nat.le_refl _), cp_St_i k.2.2 fun n _ => gm_Us_tr h⟩
theorem xk_CW_tr {g' : gm_G} {c hi : Nat} {aw : Nat → Int32} (A : gm_Ag g g' 0 0 hi) (hc : c ≤ hi + 1) (h : xk_CW g c aw) : xk_CW g' c aw := fun k hk => cp_St_i (h k hk) fun m _ => gm_Wt_tr A (by omega)
end
end
section
/-! X: the edits -/
theorem xk_RW_0 {g : gm_G} {op : Nat → Nat} {cn : Nat → Int32} {L : Nat} {en ta ah ac an : Nat → Int32} {av : Nat → Int64} : xk_RW g op cn L (L + 1) en ta ah ac an av := ⟨fun k n h1 h2 => absurd h1 (by omega), fun n a b _ h1 h2 h3 => absurd h1 (by omega)⟩
theorem xk_FW_0 {g : gm_G} {L : Nat} {af : Nat → Int32} : xk_FW g L (L + 1) af := fun n a b _ h1 h2 h3 => absurd h1 (by omega)
theorem xk_CW_0 {g : gm_G} {aw : Nat → Int32} : xk_CW g 0 aw := fun k hk => absurd hk (by omega)
def cp_sA (L : Nat) (v1 v2 : Int32) (at' t : Nat) : Prop := at' < L ∧ t < 6 ∧ v1 = nI at' ∧ v2 = nI t
def cp_iA (L : Nat) (v1 v2 : Int32) (at' t : Nat) : Prop := at' ≤ L ∧ L < 10 ∧ t < 6 ∧ v1 = nI at' ∧ v2 = nI t
def cp_eA (L : Nat) (v1 : Int32) (at' : Nat) : Prop := at' < L ∧ v1 = nI at'
def cp_aA (P : Nat) (v1 v2 : Int32) (p o : Nat) : Prop := p < P ∧ o ≤ 7 ∧ v1 = nI p ∧ v2 = nI o
section
variable {g : gm_G} {L : Nat} {op : Nat → Nat} {cn : Nat → Int32} {u : SX} {v1 v2 v3 v4 : Int32}
theorem xv_set {post : Int32 → SX → Prop} (I : xk_I g op cn L u) (h0 : (∀ a t, ¬ cp_sA L v1 v2 a t) → post 0 u) (h1 : ∀ a t u', cp_sA L v1 v2 a t → xk_I (gm_tx g (gm_st g a t)) op cn L u' → post 1 u') : wpX_set post u v1 v2 := by
  obtain ⟨f_productions, f_length, f_good, f_empty, f_used, f_known, f_firstRow, f_firstFar, f_columns, f_endless, f_derived, a_left, a_right, a_size, a_text, a_ends, a_trees, a_heights, a_chosen, a_nodes, a_values, a_far, a_op, a_constant, a_wanted, a_sum, a_edges⟩ := u
  obtain ⟨rfl, rfl, G, hl, O, hkn, ⟨f, rfl, hfL, hR⟩, ⟨f2, rfl, hf2, hF⟩, ⟨c, rfl, hc, hC⟩⟩ := I
  have hL := cp_G_L G
  unfold wpX_set
  rcases Classical.em (∃ a t, cp_sA L v1 v2 a t) with ⟨a, t, ha⟩ | hn
  · have ha' := ha
    obtain ⟨haL, ht, e1, e2⟩ := ha'
    rw [e1, e2]
    have G' : cp_G (gm_tx g (gm_st g a t)) L a_right a_size (upd a_text a (nI t)) := cp_G_tx' G hL fun i => by
      unfold gm_st
      by_cases e : i = a
      · subst e; rw [if_pos rfl, pk_us]; exact ⟨ht, rfl⟩
      · rw [if_neg e, pk_un e]; exact ⟨cp_G_t6 G, cp_G_tx G⟩
    have hkn' : f_known ≠ 0 → f_known = 1 ∧ xk_K (gm_tx g (gm_st g a t)) f_good f_empty f_used := fun z => ⟨(hkn z).1, xk_K_tr gm_tx_Sg (hkn z).2⟩
    have hR' : ∀ f', f ≤ f' → a < f' → xk_RW (gm_tx g (gm_st g a t)) op cn L f' a_ends a_trees a_heights a_chosen a_nodes a_values := fun f' q1 q2 => ⟨fun k n w1 w2 w3 => cp_St_i (hR.1 k n (by omega) w2 w3) fun j _ => ⟨fun q => ⟨(gm_D_tr gm_st_Ag (show a + 1 ≤ k by omega) (show j ≤ 100 by omega)).mp q.1, q.2⟩, fun q => ⟨(gm_D_tr gm_st_Ag (show a + 1 ≤ k by omega) (show j ≤ 100 by omega)).mpr q.1, q.2⟩⟩, fun n i j w1 w2 w3 w4 => xk_Cl_eq gm_st_Ag (by omega) (by omega) (hR.2 n i j w1 (by omega) w3 w4)⟩
    have hF' : ∀ f', f2 ≤ f' → a < f' → xk_FW (gm_tx g (gm_st g a t)) L f' a_far := fun f' q1 q2 n i j w1 w2 w3 w4 => xk_Fc_eq gm_st_Ag (show a + 1 ≤ i by omega) (by omega) (hF n i j w1 (by omega) w3 w4)
    have w59 : ∀ fr ff, (∃ f', fr = nI f' ∧ f' ≤ L + 1 ∧ xk_RW (gm_tx g (gm_st g a t)) op cn L f' a_ends a_trees a_heights a_chosen a_nodes a_values) → (∃ f', ff = nI f' ∧ f' ≤ L + 1 ∧ xk_FW (gm_tx g (gm_st g a t)) L f' a_far) → wX_set_59 post (nI a) (nI (gm_P g)) (nI L) f_good f_empty f_used f_known fr ff (nI c) f_endless f_derived a_left a_right a_size (upd a_text a (nI t)) a_ends a_trees a_heights a_chosen a_nodes a_values a_far a_op a_constant a_wanted a_sum a_edges := by
      intro fr ff hr hf
      unfold wX_set_59
      refine pk_le c (a + 1) (fun z => h1 a t _ ha ⟨rfl, rfl, G', hl, O, hkn', hr, hf, ⟨c, rfl, hc, xk_CW_tr gm_st_A0 z hC⟩⟩) (fun z => nm_r (nI_1 _) (h1 a t _ ha ⟨rfl, rfl, G', hl, O, hkn', hr, hf, ⟨a + 1, rfl, by omega, xk_CW_tr gm_st_A0 (Nat.le_refl _) fun k hk => hC k (by omega)⟩⟩)) (hy := nI_1 a)
    have w44 : ∀ fr, (∃ f', fr = nI f' ∧ f' ≤ L + 1 ∧ xk_RW (gm_tx g (gm_st g a t)) op cn L f' a_ends a_trees a_heights a_chosen a_nodes a_values) → wX_set_44 post (nI a) (nI (gm_P g)) (nI L) f_good f_empty f_used f_known fr (nI f2) (nI c) f_endless f_derived a_left a_right a_size (upd a_text a (nI t)) a_ends a_trees a_heights a_chosen a_nodes a_values a_far a_op a_constant a_wanted a_sum a_edges := by
      intro fr hr
      unfold wX_set_44
      exact pk_lt a f2 (fun z => w59 _ _ hr ⟨f2, rfl, hf2, hF' f2 (Nat.le_refl _) z⟩) (fun z => nm_r (nI_1 _) (w59 _ _ hr ⟨a + 1, rfl, by omega, hF' (a + 1) (by omega) (by omega)⟩))
    refine br_f (nI_pos (by omega)) (pk_le L a (fun z => absurd z (by omega)) (fun _ => xs_isTerminal (fun t' ht' et => br_f (by decide) ?_) (fun w => absurd rfl (w t ht))))
    rw [nI_clamp (show a < 2 ^ 31 by omega), cp_n8 (cp_t8 t (by omega))]
    exact ⟨vp_in_nI (by omega) (by omega), nm_e (pk_lt a f (fun z => w44 _ ⟨f, rfl, hfL, hR' f (Nat.le_refl _) z⟩) (fun z => nm_r (nI_1 _) (w44 _ ⟨a + 1, rfl, by omega, hR' (a + 1) (by omega) (by omega)⟩)))⟩
  · have hn' : ∀ a t, ¬ cp_sA L v1 v2 a t := fun a t h => hn ⟨a, t, h⟩
    refine br_c (fun _ => h0 hn') (fun z => br_c (fun _ => h0 hn') (fun y => xs_isTerminal (fun t ht e => ?_) (fun _ => br_t rfl (h0 hn'))))
    obtain ⟨a, ha, ea⟩ := nI_of z
    subst ea
    have : a < L := Nat.lt_of_not_le fun w => y (nI_le w ha)
    exact absurd ⟨this, ht, rfl, e⟩ (hn' a t)
theorem xv_action {post : Int32 → SX → Prop} (I : xk_I g op cn L u) (h0 : (∀ p o, ¬ cp_aA (gm_P g) v1 v2 p o) → post 0 u) (h1 : ∀ p o u', cp_aA (gm_P g) v1 v2 p o → xk_I g (fun q => if q = p then o else op q) (fun q => if q = p then v3 else cn q) L u' → post 1 u') : wpX_action post u v1 v2 v3 := by
  obtain ⟨f_productions, f_length, f_good, f_empty, f_used, f_known, f_firstRow, f_firstFar, f_columns, f_endless, f_derived, a_left, a_right, a_size, a_text, a_ends, a_trees, a_heights, a_chosen, a_nodes, a_values, a_far, a_op, a_constant, a_wanted, a_sum, a_edges⟩ := u
  obtain ⟨rfl, rfl, G, hl, O, hkn, ⟨f, rfl, hfL, hR⟩, F, C⟩ := I
  have hL := cp_G_L G
  have h12 := cp_G_P G
  unfold wpX_action
  rcases Classical.em (∃ p o, cp_aA (gm_P g) v1 v2 p o) with ⟨p, o, ha⟩ | hn
  · have ha' := ha
    obtain ⟨hp, ho, e1, e2⟩ := ha'
    rw [e1, e2]
    refine br_f (nI_pos (by omega)) (pk_le (gm_P g) p (fun z => absurd z (by omega)) (fun _ => br_f (nI_pos (by omega)) (pk_le o 7 (fun _ => ?_) (fun z => absurd z (by omega)))))
    rw [nI_clamp (show p < 2 ^ 31 by omega), cp_n8 (cp_t8 o (by omega))]
    refine ⟨vp_in_nI (by omega) (by omega), nm_e ⟨vp_in_nI (by omega) (by omega), nm_e (nm_r (nI_1 _) (h1 p o _ ha ⟨rfl, rfl, G, hl, fun q hq => ?_, hkn, ⟨L + 1, rfl, Nat.le_refl _, xk_RW_0⟩, F, C⟩))⟩⟩
    by_cases e : q = p
    · subst e; rw [pk_us, pk_us]; dsimp only; rw [if_pos rfl, if_pos rfl]; exact ⟨ho, rfl, rfl⟩
    · rw [pk_un e, pk_un e]; dsimp only; rw [if_neg e, if_neg e]; exact O q hq
  · have hn' : ∀ p o, ¬ cp_aA (gm_P g) v1 v2 p o := fun a t h => hn ⟨a, t, h⟩
    refine br_c (fun _ => h0 hn') (fun z => br_c (fun _ => h0 hn') (fun y => br_c (fun _ => h0 hn') (fun x => br_c (fun w => ?_) (fun _ => h0 hn'))))
    obtain ⟨p, hp, ep⟩ := nI_of z
    obtain ⟨o, ho, eo⟩ := nI_of x
    subst ep; subst eo
    have h1' : p < gm_P g := Nat.lt_of_not_le fun w => y (nI_le w hp)
    rw [show (7 : Int32) = nI 7 from rfl, nI_leI ho (by omega)] at w
    exact absurd ⟨h1', w, rfl, rfl⟩ (hn' p o)
/-- one production fewer -/
def gm_rt (g : gm_G) : gm_G := (gm_P g - 1, gm_l g, gm_s g, gm_t g)
theorem gm_rt_ok (h : gm_ok g) : gm_ok (gm_rt g) := ⟨by have := h.1; show gm_P g - 1 ≤ 12; omega, fun p hp => h.2 p (by have : p < gm_P g - 1 := hp; omega)⟩
theorem cp_G_rt' {a_right a_size a_text : Nat → Int32} (G : cp_G g L a_right a_size a_text) : cp_G (gm_rt g) L a_right a_size a_text := ⟨gm_rt_ok G.1, G.2.1, fun p hp => G.2.2.1 p (by have : p < gm_P g - 1 := hp; omega), G.2.2.2⟩
theorem xv_retract {post : Int32 → SX → Prop} (I : xk_I g op cn L u) (h0 : gm_P g = 0 → post 0 u) (h1 : ∀ u', gm_P g ≠ 0 → xk_I (gm_rt g) op cn L u' → post 1 u') : wpX_retract post u := by
  obtain ⟨f_productions, f_length, f_good, f_empty, f_used, f_known, f_firstRow, f_firstFar, f_columns, f_endless, f_derived, a_left, a_right, a_size, a_text, a_ends, a_trees, a_heights, a_chosen, a_nodes, a_values, a_far, a_op, a_constant, a_wanted, a_sum, a_edges⟩ := u
  obtain ⟨rfl, rfl, G, hl, O, hkn, R, F, C⟩ := I
  have h12 := cp_G_P G
  have hL := cp_G_L G
  unfold wpX_retract
  refine pk_eq (gm_P g) 0 (fun e => h0 e) (fun e => nm_r (pk_sub (b := 1) (by omega)) ?_)
  unfold wpX_changed
  exact nm_r (nI_1 _) (nm_r (nI_1 _) (h1 _ e ⟨rfl, rfl, cp_G_rt' G, fun p hp => hl p (by have : p < gm_P g - 1 := hp; omega), fun p hp => O p (by have : p < gm_P g - 1 := hp; omega), fun z => absurd rfl z, ⟨L + 1, rfl, Nat.le_refl _, xk_RW_0⟩, ⟨L + 1, rfl, Nat.le_refl _, xk_FW_0⟩, ⟨0, rfl, Nat.zero_le _, xk_CW_0⟩⟩))
/-- one production more -/
def gm_pd (g : gm_G) (n a b c : Nat) : gm_G := (gm_P g + 1, fun p => if p = gm_P g then n else gm_l g p, fun k => if k = 3 * gm_P g then a else if k = 3 * gm_P g + 1 then b else if k = 3 * gm_P g + 2 then c else gm_s g k, gm_t g)
def cp_v (c : Nat) : Prop := c < 6 ∨ c = 9 ∨ (10 ≤ c ∧ c < 15)
/-- a production that may be added -/
def cp_pA (v1 v2 v3 v4 : Int32) (n a b c : Nat) : Prop := n < 5 ∧ v1 = nI (n + 10) ∧ cp_v a ∧ v2 = cp_Sy a ∧ cp_v b ∧ v3 = cp_Sy b ∧ cp_v c ∧ v4 = cp_Sy c ∧ (a = 9 → b = 9) ∧ (b = 9 → c = 9)
theorem gm_pd_s {n a b c p k : Nat} (hp : p < gm_P g) (hk : k < 3) : gm_s (gm_pd g n a b c) (3 * p + k) = gm_s g (3 * p + k) := by
  show (if 3 * p + k = 3 * gm_P g then a else if 3 * p + k = 3 * gm_P g + 1 then b else if 3 * p + k = 3 * gm_P g + 2 then c else gm_s g (3 * p + k)) = _
  rw [if_neg (by omega), if_neg (by omega), if_neg (by omega)]
theorem gm_pd_0 {n a b c : Nat} : gm_s (gm_pd g n a b c) (3 * gm_P g) = a := if_pos rfl
theorem gm_pd_1 {n a b c : Nat} : gm_s (gm_pd g n a b c) (3 * gm_P g + 1) = b := by
  show (if 3 * gm_P g + 1 = 3 * gm_P g then a else if 3 * gm_P g + 1 = 3 * gm_P g + 1 then b else _) = b
  rw [if_neg (by omega), if_pos rfl]
theorem gm_pd_2 {n a b c : Nat} : gm_s (gm_pd g n a b c) (3 * gm_P g + 2) = c := by
  show (if 3 * gm_P g + 2 = 3 * gm_P g then a else if 3 * gm_P g + 2 = 3 * gm_P g + 1 then b else if 3 * gm_P g + 2 = 3 * gm_P g + 2 then c else _) = c
  rw [if_neg (by omega), if_neg (by omega), if_pos rfl]
theorem gm_pd_ok {n a b c : Nat} (ok : gm_ok g) (hP : gm_P g < 12) (hn : n < 5) (ha : cp_v a) (hb : cp_v b) (hc : cp_v c) (h1 : a = 9 → b = 9) (h2 : b = 9 → c = 9) : gm_ok (gm_pd g n a b c) := by
  refine ⟨hP, fun p hp => ?_⟩
  have hp' : p < gm_P g + 1 := hp
  by_cases e : p = gm_P g
  · subst e
    refine ⟨?_, fun k hk => ?_, ?_, ?_⟩
    · show (if gm_P g = gm_P g then n else _) < 5
      rw [if_pos rfl]; exact hn
    · rcases (by omega : k = 0 ∨ k = 1 ∨ k = 2) with rfl | rfl | rfl
      · rw [show 3 * gm_P g + 0 = 3 * gm_P g from rfl, gm_pd_0]; exact ha
      · rw [gm_pd_1]; exact hb
      · rw [gm_pd_2]; exact hc
    · rw [gm_pd_0, gm_pd_1]; exact h1
    · rw [gm_pd_1, gm_pd_2]; exact h2
  · have hlt : p < gm_P g := by omega
    obtain ⟨q1, q2, q3, q4⟩ := ok.2 p hlt
    have e0 : gm_s (gm_pd g n a b c) (3 * p) = gm_s g (3 * p) := gm_pd_s (k := 0) hlt (by omega)
    refine ⟨?_, fun k hk => ?_, ?_, ?_⟩
    · show (if p = gm_P g then n else gm_l g p) < 5
      rw [if_neg e]; exact q1
    · rw [gm_pd_s hlt hk]; exact q2 k hk
    · rw [e0, gm_pd_s hlt (by omega)]; exact q3
    · rw [gm_pd_s hlt (by omega), gm_pd_s hlt (by omega)]; exact q4
def cp_szf (a b c : Nat) : Nat := if a = 9 then 0 else if b = 9 then 1 else if c = 9 then 2 else 3
theorem cp_G_pd {n a b c : Nat} {a_right a_size a_text : Nat → Int32} (G : cp_G g L a_right a_size a_text) (hP : gm_P g < 12) (hn : n < 5) (ha : cp_v a) (hb : cp_v b) (hc : cp_v c) (h1 : a = 9 → b = 9) (h2 : b = 9 → c = 9) :
    cp_G (gm_pd g n a b c) L (upd (upd (upd a_right (3 * gm_P g) (cp_Sy a)) (3 * gm_P g + 1) (cp_Sy b)) (3 * gm_P g + 2) (cp_Sy c)) (upd a_size (gm_P g) (nI (cp_szf a b c))) a_text := by
  refine ⟨gm_pd_ok G.1 hP hn ha hb hc h1 h2, G.2.1, fun p hp => ?_, G.2.2.2⟩
  have hp' : p < gm_P g + 1 := hp
  by_cases e : p = gm_P g
  · subst e
    refine ⟨?_, fun k hk => ?_⟩
    · rw [pk_us]
      unfold gm_sz cp_szf
      rw [gm_pd_0, gm_pd_1, gm_pd_2]
    · rcases (by omega : k = 0 ∨ k = 1 ∨ k = 2) with rfl | rfl | rfl
      · rw [show 3 * gm_P g + 0 = 3 * gm_P g from rfl, gm_pd_0, pk_un (by omega), pk_un (by omega), pk_us]
      · rw [gm_pd_1, pk_un (by omega), pk_us]
      · rw [gm_pd_2, pk_us]
  · have hlt : p < gm_P g := by omega
    refine ⟨?_, fun k hk => ?_⟩
    · rw [pk_un e, cp_G_sz G hlt]
      have e0 : gm_s (gm_pd g n a b c) (3 * p) = gm_s g (3 * p) := gm_pd_s (k := 0) hlt (by omega)
      unfold gm_sz
      rw [e0, gm_pd_s hlt (show 1 < 3 by omega), gm_pd_s hlt (show 2 < 3 by omega)]
    · rw [pk_un (by omega), pk_un (by omega), pk_un (by omega), cp_G_rt G hlt hk, gm_pd_s hlt hk]
theorem cp_Sy_ge0' {c : Nat} (h : cp_v c) : 0 ≤ cp_Sy c ↔ c ≠ 9 := cp_Sy_ge0 (by unfold cp_v at h; omega)
theorem xv_produce {post : Int32 → SX → Prop} (I : xk_I g op cn L u) (h0 : (∀ n a b c, ¬ cp_pA v1 v2 v3 v4 n a b c) → post (-1) u) (h1 : ∀ n a b c, cp_pA v1 v2 v3 v4 n a b c → gm_P g = 12 → post (-2) u)
    (h2 : ∀ n a b c u', cp_pA v1 v2 v3 v4 n a b c → gm_P g < 12 → xk_I (gm_pd g n a b c) (fun q => if q = gm_P g then 1 else op q) (fun q => if q = gm_P g then 0 else cn q) L u' → post (nI (gm_P g)) u') : wpX_produce post u v1 v2 v3 v4 := by
  obtain ⟨f_productions, f_length, f_good, f_empty, f_used, f_known, f_firstRow, f_firstFar, f_columns, f_endless, f_derived, a_left, a_right, a_size, a_text, a_ends, a_trees, a_heights, a_chosen, a_nodes, a_values, a_far, a_op, a_constant, a_wanted, a_sum, a_edges⟩ := u
  obtain ⟨rfl, rfl, G, hl, O, hkn, R, F, C⟩ := I
  have h12 := cp_G_P G
  have hL := cp_G_L G
  unfold wpX_produce
  rcases Classical.em (∃ n a b c, cp_pA v1 v2 v3 v4 n a b c) with ⟨n, a, b, c, hA⟩ | hn
  · have hA' := hA
    obtain ⟨hn, e1, va, e2, vb, e3, vc, e4, m1, m2⟩ := hA'
    rw [e1, e2, e3, e4]
    have F1 : ∀ {x : Nat} {P : Prop}, cp_v x → ¬ cp_Vs (cp_Sy x) → P := fun {x} _ hx hz => absurd ⟨x, hx, rfl⟩ hz
    have w48 : wX_produce_48 post (nI (n + 10)) (cp_Sy a) (cp_Sy b) (cp_Sy c) (nI (gm_P g)) (nI L) f_good f_empty f_used f_known f_firstRow f_firstFar f_columns f_endless f_derived a_left a_right a_size a_text a_ends a_trees a_heights a_chosen a_nodes a_values a_far a_op a_constant a_wanted a_sum a_edges := by
      unfold wX_produce_48
      refine pk_eq (gm_P g) 12 (fun e => h1 n a b c hA e) (fun e => nm_r (nI_1 _) ?_)
      have w155 : wX_produce_155 post (nI (gm_P g)) (nI (cp_szf a b c)) (nI (gm_P g)) (nI (gm_P g + 1)) (nI L) f_good f_empty f_used f_known f_firstRow f_firstFar f_columns f_endless f_derived (upd a_left (gm_P g) (nI n)) (upd (upd (upd a_right (3 * gm_P g) (cp_Sy a)) (3 * gm_P g + 1) (cp_Sy b)) (3 * gm_P g + 2) (cp_Sy c)) a_size a_text a_ends a_trees a_heights a_chosen a_nodes a_values a_far a_op a_constant a_wanted a_sum a_edges := by
        unfold wX_produce_155
        have h4 : cp_szf a b c ≤ 3 := by
          unfold cp_szf
          by_cases q1 : a = 9
          · rw [if_pos q1]; omega
          · rw [if_neg q1]
            by_cases q2 : b = 9
            · rw [if_pos q2]; omega
            · rw [if_neg q2]
              by_cases q3 : c = 9
              · rw [if_pos q3]; omega
              · rw [if_neg q3]; omega
        rw [nI_clamp (show gm_P g < 2 ^ 31 by omega), cp_n8 (cp_t8 (cp_szf a b c) (by omega)), cp_n8' (x := 1) (by decide)]
        refine ⟨vp_in_nI (by omega) (by omega), nm_e ⟨vp_in_nI (by omega) (by omega), nm_e ⟨vp_in_nI (by omega) (by omega), nm_e ?_⟩⟩⟩
        unfold wpX_changed
        refine nm_r (nI_1 _) (nm_r (nI_1 _) (h2 n a b c _ hA (by omega) ⟨rfl, rfl, cp_G_pd G (by omega) hn va vb vc m1 m2, fun p hp => ?_, fun p hp => ?_, fun z => absurd rfl z, ⟨L + 1, rfl, Nat.le_refl _, xk_RW_0⟩, ⟨L + 1, rfl, Nat.le_refl _, xk_FW_0⟩, ⟨0, rfl, Nat.zero_le _, xk_CW_0⟩⟩))
        · have hp' : p < gm_P g + 1 := hp
          show _ = nI (if p = gm_P g then n else gm_l g p)
          by_cases q : p = gm_P g
          · subst q; rw [pk_us, if_pos rfl]
          · rw [pk_un q, if_neg q]; exact hl p (by omega)
        · have hp' : p < gm_P g + 1 := hp
          by_cases q : p = gm_P g
          · subst q; rw [pk_us, pk_us]; dsimp only; rw [if_pos rfl, if_pos rfl]; exact ⟨by omega, rfl, rfl⟩
          · rw [pk_un q, pk_un q]; dsimp only; rw [if_neg q, if_neg q]; exact O p (by omega)
      have b15 : ∀ {x}, cp_v x → x < 15 := fun h => by unfold cp_v at h; omega
      rw [ix_N, ix_31, ix_32, ix_3, nI_clamp (show gm_P g < 2 ^ 31 by omega), nI_clamp (show 3 * gm_P g < 2 ^ 31 by omega), nI_clamp (show 3 * gm_P g + 1 < 2 ^ 31 by omega), nI_clamp (show 3 * gm_P g + 2 < 2 ^ 31 by omega), cp_n8 (cp_t8 n (by omega)), cp_n8 (cp_Sy8 (b15 va)), cp_n8 (cp_Sy8 (b15 vb)), cp_n8 (cp_Sy8 (b15 vc))]
      refine ⟨vp_in_nI (by omega) (by omega), nm_e ⟨vp_in_nI (by omega) (by omega), nm_e ⟨vp_in_nI (by omega) (by omega), nm_e ⟨vp_in_nI (by omega) (by omega), nm_e (br_i (cp_Sy_ge0' va) (fun q1 => br_i (cp_Sy_ge0' vb) (fun q2 => br_i (cp_Sy_ge0' vc) (fun q3 => ?_) (fun q3 => ?_)) (fun q2 => ?_)) (fun q1 => ?_))⟩⟩⟩⟩
      · rw [show cp_szf a b c = 3 by unfold cp_szf; rw [if_neg q1, if_neg q2, if_neg q3]] at w155; exact w155
      · rw [show cp_szf a b c = 2 by unfold cp_szf; rw [if_neg q1, if_neg q2, if_pos (by omega)]] at w155; exact w155
      · rw [show cp_szf a b c = 1 by unfold cp_szf; rw [if_neg q1, if_pos (by omega)]] at w155; exact w155
      · rw [show cp_szf a b c = 0 by unfold cp_szf; rw [if_pos (by omega)]] at w155; exact w155
    have w37 : wX_produce_37 post (nI (n + 10)) (cp_Sy a) (cp_Sy b) (cp_Sy c) (nI (gm_P g)) (nI L) f_good f_empty f_used f_known f_firstRow f_firstFar f_columns f_endless f_derived a_left a_right a_size a_text a_ends a_trees a_heights a_chosen a_nodes a_values a_far a_op a_constant a_wanted a_sum a_edges := by
      unfold wX_produce_37
      refine br_i (cp_Sy_ge0' vb) (fun _ => w48) (fun q => br_t ?_ w48)
      rw [cp_Sy_9 (m2 (by omega))]; decide
    refine xs_isNonterminal (fun _ _ _ => br_f (by decide) (xs_fits (fun _ => br_f (by decide) (xs_fits (fun _ => br_f (by decide) (xs_fits (fun _ => br_f (by decide) (br_i (cp_Sy_ge0' va) (fun _ => w37) (fun q => br_f ?_ w37))) (F1 vc))) (F1 vb))) (F1 va))) (fun w => absurd rfl (w n hn))
    rw [cp_Sy_9 (m1 (by omega))]; decide
  · have hn' : ∀ n a b c, ¬ cp_pA v1 v2 v3 v4 n a b c := fun n a b c h => hn ⟨n, a, b, c, h⟩
    refine xs_isNonterminal (fun n hn5 en => br_f (by decide) (xs_fits (fun ⟨a, va, ea⟩ => br_f (by decide) (xs_fits (fun ⟨b, vb, eb⟩ => br_f (by decide) (xs_fits (fun ⟨c, vc, ec⟩ => br_f (by decide) ?_) (fun _ => br_t rfl (h0 hn')))) (fun _ => br_t rfl (h0 hn')))) (fun _ => br_t rfl (h0 hn')))) (fun _ => br_t rfl (h0 hn'))
    rw [ea, eb, ec]
    have key : ¬ ((a = 9 → b = 9) ∧ (b = 9 → c = 9)) := fun z => hn' n a b c ⟨hn5, en, va, ea, vb, eb, vc, ec, z.1, z.2⟩
    have w37 : (a = 9 → b = 9) → wX_produce_37 post v1 (cp_Sy a) (cp_Sy b) (cp_Sy c) (nI (gm_P g)) (nI L) f_good f_empty f_used f_known f_firstRow f_firstFar f_columns f_endless f_derived a_left a_right a_size a_text a_ends a_trees a_heights a_chosen a_nodes a_values a_far a_op a_constant a_wanted a_sum a_edges := by
      intro hab
      unfold wX_produce_37
      refine br_i (cp_Sy_ge0' vb) (fun q => absurd ⟨hab, fun z => absurd z q⟩ key) (fun q => br_f ?_ (h0 hn'))
      intro z
      have : c = 9 := Classical.byContradiction fun w => by
        have := (cp_Sy_ge0' vc).mpr w
        exact absurd z (Int32.not_lt.mpr this)
      exact key ⟨hab, fun _ => this⟩
    refine br_i (cp_Sy_ge0' va) (fun q => w37 fun z => absurd z q) (fun q => br_i (cp_Sy_ge0' vb) (fun _ => h0 hn') (fun y => w37 fun _ => by omega))
theorem xv_init {post : SX → Prop} (h : ∀ u, xk_I (0, fun _ => 0, fun _ => 9, fun _ => 0) (fun _ => 0) (fun _ => 0) 0 u → post u) : wpX_init post := by
  unfold wpX_init wpX_changed
  refine nm_e (nm_e (h _ ⟨rfl, rfl, ⟨⟨by show (0 : Nat) ≤ 12; omega, fun p hp => absurd hp (by show ¬ p < 0; omega)⟩, by omega, fun p hp => absurd hp (by show ¬ p < 0; omega), fun i => ⟨by show (0 : Nat) < 6; omega, rfl⟩⟩, fun p hp => absurd hp (by show ¬ p < 0; omega), fun p hp => absurd hp (by show ¬ p < 0; omega), fun z => absurd rfl z, ⟨0 + 1, by decide, Nat.le_refl _, xk_RW_0⟩, ⟨0 + 1, by decide, Nat.le_refl _, xk_FW_0⟩, ⟨0, rfl, Nat.zero_le _, xk_CW_0⟩⟩))
end
end
section
/-! X: insert, erase -/
section
variable {α : Type} {φ : α → α} {k i : Nat} {A B A0 : Nat → α}
theorem xk_up1_a (h : xk_up1 φ k B A) (hA : ∀ y, y < 55 * (k + 1) → A y = A0 y) : xk_up1 φ k B A0 := fun n j h1 h2 h3 => by rw [h n j h1 h2 h3, hA _ (by omega)]
theorem xk_up1_b (h : xk_up1 φ k A A0) (hB : ∀ y, 55 * (k + 1) ≤ y → B y = A y) : xk_up1 φ k B A0 := fun n j h1 h2 h3 => by rw [hB _ (by omega), h n j h1 h2 h3]
theorem xk_dn1_a (h : xk_dn1 φ k B A) (hA : ∀ y, 55 * (k + 1) ≤ y → A y = A0 y) : xk_dn1 φ k B A0 := fun n j h1 h2 h3 => by rw [h n j h1 h2 h3, hA _ (by omega)]
theorem xk_dn1_b (h : xk_dn1 φ k A A0) (hB : ∀ y, y < 55 * (k + 1) → B y = A y) : xk_dn1 φ k B A0 := fun n j h1 h2 h3 => by rw [hB _ (by omega), h n j h1 h2 h3]
end
def xk_IU (L i1 : Nat) (en ta ah ac an : Nat → Int32) (av : Nat → Int64) (af en0 ta0 ah0 ac0 an0 : Nat → Int32) (av0 : Nat → Int64) (af0 : Nat → Int32) : Prop :=
  (∀ k, i1 ≤ k → k ≤ L → xk_MU k en ta ah ac an av af en0 ta0 ah0 ac0 an0 av0 af0) ∧ (∀ y, y < 55 * i1 → ta y = ta0 y ∧ ah y = ah0 y ∧ ac y = ac0 y ∧ an y = an0 y ∧ av y = av0 y ∧ af y = af0 y) ∧ (∀ y, y < 5 * i1 → en y = en0 y)
def xk_ID (at' i : Nat) (en ta ah ac an : Nat → Int32) (av : Nat → Int64) (af en0 ta0 ah0 ac0 an0 : Nat → Int32) (av0 : Nat → Int64) (af0 : Nat → Int32) : Prop :=
  (∀ k, at' ≤ k → k + 1 < i → xk_MD k en ta ah ac an av af en0 ta0 ah0 ac0 an0 av0 af0) ∧ (∀ y, 55 * i ≤ y → ta y = ta0 y ∧ ah y = ah0 y ∧ ac y = ac0 y ∧ an y = an0 y ∧ av y = av0 y ∧ af y = af0 y) ∧ (∀ y, 5 * i ≤ y → en y = en0 y)
section
variable {g g' : gm_G} {op : Nat → Nat} {cn : Nat → Int32} {L at' i n a b lo hi f f' : Nat} {en ta ah ac an af en0 ta0 ah0 ac0 an0 af0 en1 ta1 ah1 ac1 an1 af1 : Nat → Int32} {av av0 av1 : Nat → Int64}
theorem xk_IU_s (h : xk_IU L (i + 1) en ta ah ac an av af en0 ta0 ah0 ac0 an0 av0 af0) (e : xk_enr i (i + 1) 5 en1 en) (q1 : xk_cpy i (i + 1) 55 id ta1 ta) (q2 : xk_cpy i (i + 1) 55 (vp_nar .byte) ah1 ah) (q3 : xk_cpy i (i + 1) 55 (xk_chf i (i + 1)) ac1 ac) (q4 : xk_cpy i (i + 1) 55 id an1 an) (q5 : xk_cpy i (i + 1) 55 id av1 av) (q6 : xk_cpy i (i + 1) 55 (vp_nar .short) af1 af) : xk_IU L i en1 ta1 ah1 ac1 an1 av1 af1 en0 ta0 ah0 ac0 an0 av0 af0 := by
  obtain ⟨hM, hS, hE⟩ := h
  refine ⟨fun k h1 h2 => ?_, fun y hy => ?_, fun y hy => ?_⟩
  · rcases Nat.lt_or_ge i k with z | z
    · obtain ⟨m0, m1, m2, m3, m4, m5, m6⟩ := hM k z h2
      exact ⟨fun n hn => by rw [e.2 _ (by omega)]; exact m0 n hn, xk_up1_b m1 fun y hy => q1.2 y (by omega), xk_up1_b m2 fun y hy => q2.2 y (by omega), xk_up1_b m3 fun y hy => q3.2 y (by omega), xk_up1_b m4 fun y hy => q4.2 y (by omega), xk_up1_b m5 fun y hy => q5.2 y (by omega), xk_up1_b m6 fun y hy => q6.2 y (by omega)⟩
    · have : k = i := by omega
      subst this
      exact ⟨fun n hn => by rw [e.1 n hn, hE _ (by omega)], xk_up1_a (xk_cpy_up q1) fun y hy => (hS y hy).1, xk_up1_a (xk_cpy_up q2) fun y hy => (hS y hy).2.1, xk_up1_a (xk_cpy_up q3) fun y hy => (hS y hy).2.2.1, xk_up1_a (xk_cpy_up q4) fun y hy => (hS y hy).2.2.2.1, xk_up1_a (xk_cpy_up q5) fun y hy => (hS y hy).2.2.2.2.1, xk_up1_a (xk_cpy_up q6) fun y hy => (hS y hy).2.2.2.2.2⟩
  · rw [q1.2 y (by omega), q2.2 y (by omega), q3.2 y (by omega), q4.2 y (by omega), q5.2 y (by omega), q6.2 y (by omega)]
    exact hS y (by omega)
  · rw [e.2 y (by omega)]; exact hE y (by omega)
theorem xk_ID_s (h : xk_ID at' (i + 1) en ta ah ac an av af en0 ta0 ah0 ac0 an0 av0 af0) (e : xk_enr (i + 1) i 5 en1 en) (q1 : xk_cpy (i + 1) i 55 id ta1 ta) (q2 : xk_cpy (i + 1) i 55 (vp_nar .byte) ah1 ah) (q3 : xk_cpy (i + 1) i 55 (xk_chf (i + 1) i) ac1 ac) (q4 : xk_cpy (i + 1) i 55 id an1 an) (q5 : xk_cpy (i + 1) i 55 id av1 av) (q6 : xk_cpy (i + 1) i 55 (vp_nar .short) af1 af) : xk_ID at' (i + 2) en1 ta1 ah1 ac1 an1 av1 af1 en0 ta0 ah0 ac0 an0 av0 af0 := by
  obtain ⟨hM, hS, hE⟩ := h
  refine ⟨fun k h1 h2 => ?_, fun y hy => ?_, fun y hy => ?_⟩
  · rcases Nat.lt_or_ge k i with z | z
    · obtain ⟨m0, m1, m2, m3, m4, m5, m6⟩ := hM k h1 (by omega)
      exact ⟨fun n hn => by rw [e.2 _ (by omega)]; exact m0 n hn, xk_dn1_b m1 fun y hy => q1.2 y (by omega), xk_dn1_b m2 fun y hy => q2.2 y (by omega), xk_dn1_b m3 fun y hy => q3.2 y (by omega), xk_dn1_b m4 fun y hy => q4.2 y (by omega), xk_dn1_b m5 fun y hy => q5.2 y (by omega), xk_dn1_b m6 fun y hy => q6.2 y (by omega)⟩
    · have : k = i := by omega
      subst this
      exact ⟨fun n hn => by rw [e.1 n hn, hE _ (by omega)], xk_dn1_a (xk_cpy_dn q1) fun y hy => (hS y hy).1, xk_dn1_a (xk_cpy_dn q2) fun y hy => (hS y hy).2.1, xk_dn1_a (xk_cpy_dn q3) fun y hy => (hS y hy).2.2.1, xk_dn1_a (xk_cpy_dn q4) fun y hy => (hS y hy).2.2.2.1, xk_dn1_a (xk_cpy_dn q5) fun y hy => (hS y hy).2.2.2.2.1, xk_dn1_a (xk_cpy_dn q6) fun y hy => (hS y hy).2.2.2.2.2⟩
  · rw [q1.2 y (by omega), q2.2 y (by omega), q3.2 y (by omega), q4.2 y (by omega), q5.2 y (by omega), q6.2 y (by omega)]
    exact hS y (by omega)
  · rw [e.2 y (by omega)]; exact hE y (by omega)
theorem xk_RW_up (A : gm_Ag g g' 1 at' L) (ok : gm_ok g) (hL : L ≤ 9) (hM : ∀ k, at' ≤ k → k ≤ L → xk_MU k en ta ah ac an av af en0 ta0 ah0 ac0 an0 av0 af0) (hR : xk_RW g op cn L f en0 ta0 ah0 ac0 an0 av0) (h1 : at' < f') (h2 : f < f') : xk_RW g' op cn (L + 1) f' en ta ah ac an av := by
  refine ⟨fun k n q1 q2 q3 => ?_, fun n a b q1 q2 q3 q4 => ?_⟩
  · obtain ⟨k, rfl⟩ : ∃ k0, k = k0 + 1 := ⟨k - 1, by omega⟩
    rw [(hM k (by omega) (by omega)).1 n q3]
    exact xk_En_up A hL (Nat.le_refl _) (by omega) (hR.1 k n (by omega) (by omega) q3)
  · obtain ⟨a, rfl⟩ : ∃ k0, a = k0 + 1 := ⟨a - 1, by omega⟩
    obtain ⟨b, rfl⟩ : ∃ k0, b = k0 + 1 := ⟨b - 1, by omega⟩
    exact xk_Cl_up A ok (by omega) (by omega) (by omega) (by omega) q1 (hM a (by omega) (by omega)) (hR.2 n a b q1 (by omega) (by omega) (by omega))
theorem xk_FW_up (A : gm_Ag g g' 1 at' L) (hL : L ≤ 9) (hM : ∀ k, at' ≤ k → k ≤ L → xk_MU k en ta ah ac an av af en0 ta0 ah0 ac0 an0 av0 af0) (hF : xk_FW g L f af0) (h1 : at' < f') (h2 : f < f') : xk_FW g' (L + 1) f' af := by
  intro n a b q1 q2 q3 q4
  obtain ⟨a, rfl⟩ : ∃ k0, a = k0 + 1 := ⟨a - 1, by omega⟩
  obtain ⟨b, rfl⟩ : ∃ k0, b = k0 + 1 := ⟨b - 1, by omega⟩
  exact xk_Fc_up A (by omega) (by omega) (by omega) (by omega) q1 (hM a (by omega) (by omega)).2.2.2.2.2.2 (hF n a b q1 (by omega) (by omega) (by omega))
theorem xk_RW_dn (A : gm_Ag g' g 1 at' L) (ok : gm_ok g) (hL : L ≤ 9) (hM : ∀ k, at' ≤ k → k ≤ L → xk_MD k en ta ah ac an av af en0 ta0 ah0 ac0 an0 av0 af0) (hR : xk_RW g op cn (L + 1) f en0 ta0 ah0 ac0 an0 av0) (h1 : at' ≤ f') (h2 : f ≤ f' + 1) : xk_RW g' op cn L f' en ta ah ac an av := by
  refine ⟨fun k n q1 q2 q3 => ?_, fun n a b q1 q2 q3 q4 => ?_⟩
  · rw [(hM k (by omega) (by omega)).1 n q3]
    exact xk_En_dn A hL (Nat.le_refl _) (by omega) (hR.1 (k + 1) n (by omega) (by omega) q3)
  · exact xk_Cl_dn A ok (by omega) (by omega) (by omega) (by omega) q1 (hM a (by omega) (by omega)) (hR.2 n (a + 1) (b + 1) q1 (by omega) (by omega) (by omega))
theorem xk_FW_dn (A : gm_Ag g' g 1 at' L) (hL : L ≤ 9) (hM : ∀ k, at' ≤ k → k ≤ L → xk_MD k en ta ah ac an av af en0 ta0 ah0 ac0 an0 av0 af0) (hF : xk_FW g (L + 1) f af0) (h1 : at' ≤ f') (h2 : f ≤ f' + 1) : xk_FW g' L f' af := by
  intro n a b q1 q2 q3 q4
  exact xk_Fc_dn A (by omega) (by omega) (by omega) (by omega) q1 (hM a (by omega) (by omega)).2.2.2.2.2.2 (hF n (a + 1) (b + 1) q1 (by omega) (by omega) (by omega))
end
section
variable {g : gm_G} {L : Nat} {op : Nat → Nat} {cn : Nat → Int32} {u : SX} {v1 v2 v3 v4 : Int32}
/-- the text while a token goes in -/
def cp_iT (g : gm_G) (L i : Nat) (tx : Nat → Int32) : Prop := ∀ y, (i < y → y ≤ L → tx y = nI (gm_t g (y - 1))) ∧ ((y ≤ i ∨ L < y) → tx y = nI (gm_t g y))
theorem cp_iT_e {at' t : Nat} {tx : Nat → Int32} (h : cp_iT g L at' tx) (ht : t < 6) (h6 : ∀ i, gm_t g i < 6) (haL : at' ≤ L) : ∀ i, gm_it g L at' t i < 6 ∧ upd tx at' (nI t) i = nI (gm_it g L at' t i) := by
  intro i
  unfold gm_it
  by_cases e : i = at'
  · subst e
    rw [pk_us, if_neg (by omega), if_pos rfl]; exact ⟨ht, rfl⟩
  · rw [pk_un e]
    by_cases q : i < at'
    · rw [if_pos q]; exact ⟨h6 _, (h i).2 (by omega)⟩
    · rw [if_neg q, if_neg e]
      by_cases w : i ≤ L
      · rw [if_pos w]; exact ⟨h6 _, (h i).1 (by omega) w⟩
      · rw [if_neg w]; exact ⟨h6 _, (h i).2 (by omega)⟩
theorem xv_insert {post : Int32 → SX → Prop} (I : xk_I g op cn L u) (h0 : (∀ a t, ¬ cp_iA L v1 v2 a t) → post 0 u) (h1 : ∀ a t u', cp_iA L v1 v2 a t → xk_I (gm_tx g (gm_it g L a t)) op cn (L + 1) u' → post 1 u') : wpX_insert post u v1 v2 := by
  obtain ⟨f_productions, f_length, f_good, f_empty, f_used, f_known, f_firstRow, f_firstFar, f_columns, f_endless, f_derived, a_left, a_right, a_size, a_text, a_ends, a_trees, a_heights, a_chosen, a_nodes, a_values, a_far, a_op, a_constant, a_wanted, a_sum, a_edges⟩ := u
  obtain ⟨rfl, rfl, G, hl, O, hkn, ⟨f, rfl, hfL, hR⟩, ⟨f2, rfl, hf2, hF⟩, ⟨c, rfl, hc, hC⟩⟩ := I
  have hL := cp_G_L G
  have ok := cp_G_ok G
  unfold wpX_insert
  rcases Classical.em (∃ a t, cp_iA L v1 v2 a t) with ⟨a, t, ha⟩ | hn
  · have ha' := ha
    obtain ⟨haL, hL9, ht, e1, e2⟩ := ha'
    rw [e1, e2]
    have hkn' : f_known ≠ 0 → f_known = 1 ∧ xk_K (gm_tx g (gm_it g L a t)) f_good f_empty f_used := fun z => ⟨(hkn z).1, xk_K_tr gm_tx_Sg (hkn z).2⟩
    -- the end
    have fin : ∀ tx en ta ah ac an av af, (∀ i, gm_it g L a t i < 6 ∧ tx i = nI (gm_it g L a t i)) → xk_IU L a en ta ah ac an av af a_ends a_trees a_heights a_chosen a_nodes a_values a_far → ∀ z0 : Nat, f ≤ z0 → a ≤ z0 → z0 ≤ L + 1 → wX_insert_119 post (nI a) (nI z0) (nI (gm_P g)) (nI (L + 1)) f_good f_empty f_used f_known (nI f) (nI f2) (nI c) f_endless f_derived a_left a_right a_size tx en ta ah ac an av af a_op a_constant a_wanted a_sum a_edges := by
      intro tx en ta ah ac an av af htx hI z0 q1 q2 q3
      have G' : cp_G (gm_tx g (gm_it g L a t)) (L + 1) a_right a_size tx := cp_G_tx' G (by omega) htx
      have hr : xk_RW (gm_tx g (gm_it g L a t)) op cn (L + 1) (z0 + 1) en ta ah ac an av := xk_RW_up gm_it_Ag ok (by omega) hI.1 hR (by omega) (by omega)
      have w141 : ∀ z1 : Nat, f2 ≤ z1 → a ≤ z1 → z1 ≤ L + 1 → wX_insert_141 post (nI a) (nI z1) (nI (gm_P g)) (nI (L + 1)) f_good f_empty f_used f_known (nI (z0 + 1)) (nI f2) (nI c) f_endless f_derived a_left a_right a_size tx en ta ah ac an av af a_op a_constant a_wanted a_sum a_edges := by
        intro z1 p1 p2 p3
        have hf : xk_FW (gm_tx g (gm_it g L a t)) (L + 1) (z1 + 1) af := xk_FW_up gm_it_Ag (by omega) hI.1 hF (by omega) (by omega)
        unfold wX_insert_141
        exact nm_r (nI_1 _) (pk_le c (a + 1) (fun z => h1 a t _ ha ⟨rfl, rfl, G', hl, O, hkn', ⟨z0 + 1, rfl, by omega, hr⟩, ⟨z1 + 1, rfl, by omega, hf⟩, ⟨c, rfl, by omega, xk_CW_tr gm_it_A0 z hC⟩⟩) (fun z => nm_r (nI_1 _) (h1 a t _ ha ⟨rfl, rfl, G', hl, O, hkn', ⟨z0 + 1, rfl, by omega, hr⟩, ⟨z1 + 1, rfl, by omega, hf⟩, ⟨a + 1, rfl, by omega, xk_CW_tr gm_it_A0 (Nat.le_refl _) fun k hk => hC k (by omega)⟩⟩)) (hy := nI_1 a))
      unfold wX_insert_119
      exact nm_r (nI_1 _) (pk_le f2 a (fun z => w141 a z (Nat.le_refl _) (by omega)) (fun z => w141 f2 (Nat.le_refl _) (by omega) hf2))
    -- the rows
    have rows : ∀ tx, (∀ i, gm_it g L a t i < 6 ∧ tx i = nI (gm_it g L a t i)) → ∀ d i1 en ta ah ac an av af, a + d = i1 → i1 ≤ L + 1 → xk_IU L i1 en ta ah ac an av af a_ends a_trees a_heights a_chosen a_nodes a_values a_far → wX_insert_73 post (nI a) (d + 1) (nI i1 + (-1)) (nI (gm_P g)) (nI L) f_good f_empty f_used f_known (nI f) (nI f2) (nI c) f_endless f_derived a_left a_right a_size tx en ta ah ac an av af a_op a_constant a_wanted a_sum a_edges := by
      intro tx htx d
      induction d with
      | zero =>
        intro i1 en ta ah ac an av af hi hiL hI
        have e : i1 = a := by omega
        subst e
        rw [wX_insert_73]
        exact br_t (cp_pl (by omega)) (nm_r (nI_1 _) (pk_le f i1 (fun z => fin tx en ta ah ac an av af htx hI i1 z (Nat.le_refl _) (by omega)) (fun z => fin tx en ta ah ac an av af htx hI f (Nat.le_refl _) (by omega) hfL)))
      | succ d ih =>
        intro i1 en ta ah ac an av af hi hiL hI
        obtain ⟨i, rfl⟩ : ∃ i, i1 = i + 1 := ⟨i1 - 1, by omega⟩
        rw [pk_m1, wX_insert_73]
        refine pk_lt i a (fun z => absurd z (by omega)) (fun _ => ?_)
        rw [nI_1]
        exact xs_moveRow (Or.inr rfl) (by omega) (by omega) fun en1 ta1 ah1 ac1 an1 av1 af1 q0 q1 q2 q3 q4 q5 q6 => nm_e (ih i en1 ta1 ah1 ac1 an1 av1 af1 (by omega) (by omega) (xk_IU_s hI q0 q1 q2 q3 q4 q5 q6))
    -- the text
    have text : ∀ d i tx, a + d = i → i ≤ L → cp_iT g L i tx → wX_insert_35 post (nI a) (nI t) (nI (gm_P g)) (nI L) f_good f_empty f_used f_known (nI f) (nI f2) (nI c) f_endless f_derived (d + 1) (nI i) a_left a_right a_size tx a_ends a_trees a_heights a_chosen a_nodes a_values a_far a_op a_constant a_wanted a_sum a_edges := by
      intro d
      induction d with
      | zero =>
        intro i tx hi hiL hT
        have e : i = a := by omega
        subst e
        rw [wX_insert_35]
        rw [nI_clamp (show i < 2 ^ 31 by omega), cp_n8 (cp_t8 t (by omega))]
        refine pk_le i i (fun _ => ⟨vp_in_nI (by omega) (by omega), nm_e ⟨L + 1 - i + 1, ?_⟩⟩) (fun z => absurd z (by omega))
        have := rows (upd tx i (nI t)) (cp_iT_e hT ht (fun i => cp_G_t6 G) haL) (L + 1 - i) (L + 1) a_ends a_trees a_heights a_chosen a_nodes a_values a_far (by omega) (Nat.le_refl _) ⟨fun k q1 q2 => absurd q1 (by omega), fun y _ => ⟨rfl, rfl, rfl, rfl, rfl, rfl⟩, fun y _ => rfl⟩
        rw [pk_m1] at this
        exact this
      | succ d ih =>
        intro i1 tx hi hiL hT
        obtain ⟨i, rfl⟩ : ∃ i, i1 = i + 1 := ⟨i1 - 1, by omega⟩
        rw [wX_insert_35]
        refine pk_le (i + 1) a (fun z => absurd z (by omega)) (fun _ => ?_)
        rw [nI_pred, nI_clamp (show i < 2 ^ 31 by omega), nI_clamp (show i + 1 < 2 ^ 31 by omega), (hT i).2 (by omega), cp_n8' (cp_t8 _ (by have := cp_G_t6 G (i := i); omega))]
        refine ⟨vp_in_nI (by omega) (by omega), vp_in_nI (by omega) (by omega), nm_e (nm_r (pk_m1 i) (ih i _ (by omega) (by omega) fun y => ⟨fun p1 p2 => ?_, fun p => ?_⟩))⟩
        · by_cases e : y = i + 1
          · subst e; rw [pk_us]; rfl
          · rw [pk_un e]; exact (hT y).1 (by omega) p2
        · rw [pk_un (by omega)]; exact (hT y).2 (by omega)
    refine br_f (nI_pos (by omega)) (pk_lt L a (fun z => absurd z (by omega)) (fun _ => xs_isTerminal (fun t' ht' et => br_f (by decide) (pk_eq L 10 (fun z => absurd z (by omega)) (fun _ => ⟨L - a + 1, text (L - a) L a_text (by omega) (Nat.le_refl _) fun y => ⟨fun p1 p2 => absurd p1 (by omega), fun _ => cp_G_tx G⟩⟩))) (fun w => absurd rfl (w t ht))))
  · have hn' : ∀ a t, ¬ cp_iA L v1 v2 a t := fun a t h => hn ⟨a, t, h⟩
    refine br_c (fun _ => h0 hn') (fun z => br_c (fun _ => h0 hn') (fun y => xs_isTerminal (fun t ht e => br_f (by decide) (pk_eq L 10 (fun _ => h0 hn') (fun w => ?_))) (fun _ => br_t rfl (h0 hn'))))
    obtain ⟨a, ha, ea⟩ := nI_of z
    subst ea
    have : a ≤ L := Nat.le_of_not_lt fun w => y (nI_lt w ha)
    exact absurd ⟨this, by omega, ht, rfl, e⟩ (hn' a t)
/-- the text while a token goes out -/
def cp_eT (g : gm_G) (at' i : Nat) (tx : Nat → Int32) : Prop := ∀ y, (at' ≤ y → y < i → tx y = nI (gm_t g (y + 1))) ∧ ((y < at' ∨ i ≤ y) → tx y = nI (gm_t g y))
theorem cp_eT_e {at' : Nat} {tx : Nat → Int32} (h : cp_eT g at' (L - 1) tx) (h6 : ∀ i, gm_t g i < 6) : ∀ i, gm_et g L at' i < 6 ∧ tx i = nI (gm_et g L at' i) := by
  intro i
  unfold gm_et
  by_cases q : i < at'
  · rw [if_pos q]; exact ⟨h6 _, (h i).2 (by omega)⟩
  · rw [if_neg q]
    by_cases w : i + 1 < L
    · rw [if_pos w]; exact ⟨h6 _, (h i).1 (by omega) (by omega)⟩
    · rw [if_neg w]; exact ⟨h6 _, (h i).2 (by omega)⟩
theorem xv_erase {post : Int32 → SX → Prop} (I : xk_I g op cn L u) (h0 : (∀ a, ¬ cp_eA L v1 a) → post 0 u) (h1 : ∀ a u', cp_eA L v1 a → xk_I (gm_tx g (gm_et g L a)) op cn (L - 1) u' → post 1 u') : wpX_erase post u v1 := by
  obtain ⟨f_productions, f_length, f_good, f_empty, f_used, f_known, f_firstRow, f_firstFar, f_columns, f_endless, f_derived, a_left, a_right, a_size, a_text, a_ends, a_trees, a_heights, a_chosen, a_nodes, a_values, a_far, a_op, a_constant, a_wanted, a_sum, a_edges⟩ := u
  obtain ⟨rfl, rfl, G, hl, O, hkn, ⟨f, rfl, hfL, hR⟩, ⟨f2, rfl, hf2, hF⟩, ⟨c, rfl, hc, hC⟩⟩ := I
  have hL := cp_G_L G
  have ok := cp_G_ok G
  unfold wpX_erase
  rcases Classical.em (∃ a, cp_eA L v1 a) with ⟨a, ha⟩ | hn
  · have ha' := ha
    obtain ⟨haL, e1⟩ := ha'
    rw [e1]
    obtain ⟨M, rfl⟩ : ∃ M, L = M + 1 := ⟨L - 1, by omega⟩
    rw [Nat.add_sub_cancel] at h1
    have A1 : gm_Ag (gm_tx g (gm_et g (M + 1) a)) g 1 a M := gm_et_Ag
    have hkn' : f_known ≠ 0 → f_known = 1 ∧ xk_K (gm_tx g (gm_et g (M + 1) a)) f_good f_empty f_used := fun z => ⟨(hkn z).1, xk_K_tr gm_tx_Sg (hkn z).2⟩
    have fin : ∀ tx en ta ah ac an av af, (∀ i, gm_et g (M + 1) a i < 6 ∧ tx i = nI (gm_et g (M + 1) a i)) → xk_ID a (M + 2) en ta ah ac an av af a_ends a_trees a_heights a_chosen a_nodes a_values a_far → ∀ z0 : Nat, f ≤ z0 + 1 → a ≤ z0 → z0 ≤ M + 1 → wX_erase_103 post (nI a) (nI z0) (nI (gm_P g)) (nI M) f_good f_empty f_used f_known (nI f) (nI f2) (nI c) f_endless f_derived a_left a_right a_size tx en ta ah ac an av af a_op a_constant a_wanted a_sum a_edges := by
      intro tx en ta ah ac an av af htx hI z0 q1 q2 q3
      have G' : cp_G (gm_tx g (gm_et g (M + 1) a)) M a_right a_size tx := cp_G_tx' G (by omega) htx
      have hMD : ∀ k, a ≤ k → k ≤ M → xk_MD k en ta ah ac an av af a_ends a_trees a_heights a_chosen a_nodes a_values a_far := fun k p1 p2 => hI.1 k p1 (by omega)
      have hr : xk_RW (gm_tx g (gm_et g (M + 1) a)) op cn M z0 en ta ah ac an av := xk_RW_dn A1 ok (by omega) hMD hR q2 q1
      have w127 : ∀ z1 : Nat, f2 ≤ z1 + 1 → a ≤ z1 → z1 ≤ M + 1 → wX_erase_127 post (nI a) (nI z1) (nI (gm_P g)) (nI M) f_good f_empty f_used f_known (nI z0) (nI f2) (nI c) f_endless f_derived a_left a_right a_size tx en ta ah ac an av af a_op a_constant a_wanted a_sum a_edges := by
        intro z1 p1 p2 p3
        have hf : xk_FW (gm_tx g (gm_et g (M + 1) a)) M z1 af := xk_FW_dn A1 (by omega) hMD hF p2 p1
        unfold wX_erase_127
        exact pk_le c (a + 1) (fun z => h1 a _ ha ⟨rfl, rfl, G', hl, O, hkn', ⟨z0, rfl, by omega, hr⟩, ⟨z1, rfl, by omega, hf⟩, ⟨c, rfl, by omega, xk_CW_tr gm_et_A0 z hC⟩⟩) (fun z => nm_r (nI_1 _) (h1 a _ ha ⟨rfl, rfl, G', hl, O, hkn', ⟨z0, rfl, by omega, hr⟩, ⟨z1, rfl, by omega, hf⟩, ⟨a + 1, rfl, by omega, xk_CW_tr gm_et_A0 (Nat.le_refl _) fun k hk => hC k (by omega)⟩⟩)) (hy := nI_1 a)
      unfold wX_erase_103
      refine pk_le f2 (a + 1) (fun z => w127 a z (Nat.le_refl _) (by omega)) (fun z => ?_) (hy := nI_1 a)
      rw [show nI f2 - 1 = nI (f2 - 1) from pk_sub (b := 1) (by omega)]
      exact w127 (f2 - 1) (by omega) (by omega) (by omega)
    have rows : ∀ tx, (∀ i, gm_et g (M + 1) a i < 6 ∧ tx i = nI (gm_et g (M + 1) a i)) → ∀ d i en ta ah ac an av af, i + d = M + 2 → a + 1 ≤ i → xk_ID a i en ta ah ac an av af a_ends a_trees a_heights a_chosen a_nodes a_values a_far → wX_erase_50 post (nI a) (d + 1) (nI i) (nI (gm_P g)) (nI (M + 1)) f_good f_empty f_used f_known (nI f) (nI f2) (nI c) f_endless f_derived a_left a_right a_size tx en ta ah ac an av af a_op a_constant a_wanted a_sum a_edges := by
      intro tx htx d
      induction d with
      | zero =>
        intro i en ta ah ac an av af hi hai hI
        have e : i = M + 2 := by omega
        subst e
        rw [wX_erase_50]
        refine pk_lt (M + 1) (M + 2) (fun _ => nm_r (nI_pred M) (pk_le f (a + 1) (fun z => fin tx en ta ah ac an av af htx hI a z (Nat.le_refl _) (by omega)) (fun z => ?_) (hy := nI_1 a))) (fun z => absurd z (by omega))
        rw [show nI f - 1 = nI (f - 1) from pk_sub (b := 1) (by omega)]
        exact fin tx en ta ah ac an av af htx hI (f - 1) (by omega) (by omega) (by omega)
      | succ d ih =>
        intro i1 en ta ah ac an av af hi hai hI
        obtain ⟨i, rfl⟩ : ∃ i, i1 = i + 1 := ⟨i1 - 1, by omega⟩
        rw [wX_erase_50]
        refine pk_lt (M + 1) (i + 1) (fun z => absurd z (by omega)) (fun _ => ?_)
        rw [nI_pred]
        exact xs_moveRow (L := M + 1) (Or.inl rfl) (by omega) (by omega) fun en1 ta1 ah1 ac1 an1 av1 af1 q0 q1 q2 q3 q4 q5 q6 => nm_r (nI_1 _) (ih (i + 2) en1 ta1 ah1 ac1 an1 av1 af1 (by omega) (by omega) (xk_ID_s hI q0 q1 q2 q3 q4 q5 q6))
    have text : ∀ d i tx, i + d = M → a ≤ i → cp_eT g a i tx → wX_erase_16 post (nI a) (nI (gm_P g)) (nI (M + 1)) f_good f_empty f_used f_known (nI f) (nI f2) (nI c) f_endless f_derived (d + 1) (nI i) a_left a_right a_size tx a_ends a_trees a_heights a_chosen a_nodes a_values a_far a_op a_constant a_wanted a_sum a_edges := by
      intro d
      induction d with
      | zero =>
        intro i tx hi hai hT
        have e : i = M := by omega
        subst e
        rw [wX_erase_16]
        rw [nI_pred]
        exact pk_le i i (fun _ => nm_r (nI_1 _) ⟨i + 2 - (a + 1) + 1, rows tx (cp_eT_e (L := i + 1) hT fun i => cp_G_t6 G) (i + 2 - (a + 1)) (a + 1) a_ends a_trees a_heights a_chosen a_nodes a_values a_far (by omega) (Nat.le_refl _) ⟨fun k q1 q2 => absurd q2 (by omega), fun y _ => ⟨rfl, rfl, rfl, rfl, rfl, rfl⟩, fun y _ => rfl⟩⟩) (fun z => absurd z (by omega))
      | succ d ih =>
        intro i tx hi hai hT
        rw [wX_erase_16]
        rw [nI_pred]
        refine pk_le M i (fun z => absurd z (by omega)) (fun _ => ?_)
        rw [nI_1, nI_clamp (show i < 2 ^ 31 by omega), nI_clamp (show i + 1 < 2 ^ 31 by omega), (hT (i + 1)).2 (by omega), cp_n8' (cp_t8 _ (by have := cp_G_t6 G (i := i + 1); omega))]
        refine ⟨vp_in_nI (by omega) (by omega), vp_in_nI (by omega) (by omega), nm_e (nm_e (ih (i + 1) _ (by omega) (by omega) fun y => ⟨fun p1 p2 => ?_, fun p => ?_⟩))⟩
        · by_cases e : y = i
          · subst e; rw [pk_us]
          · rw [pk_un e]; exact (hT y).1 p1 (by omega)
        · rw [pk_un (by omega)]; exact (hT y).2 (by omega)
    exact br_f (nI_pos (by omega)) (pk_lt a (M + 1) (fun _ => ⟨M - a + 1, text (M - a) a a_text (by omega) (Nat.le_refl _) fun y => ⟨fun p1 p2 => absurd p1 (by omega), fun _ => cp_G_tx G⟩⟩) (fun z => absurd z (by omega)))
  · have hn' : ∀ a, ¬ cp_eA L v1 a := fun a h => hn ⟨a, h⟩
    refine br_c (fun _ => h0 hn') (fun z => br_c (fun y => ?_) (fun _ => h0 hn'))
    obtain ⟨a, ha, ea⟩ := nI_of z
    subst ea
    rw [nI_ltI ha (by omega)] at y
    exact absurd ⟨y, rfl⟩ (hn' a)
end
end
section
/-! Y: the small methods -/
def yk_L (g : gm_G) (a_left : Nat → Int32) : Prop := ∀ p, p < gm_P g → a_left p = nI (gm_l g p + 10)
/-- heights below round r, as a relation -/
def yk_H (L : Nat) (ah : Nat → Int32) (r : Nat) (D : Nat → Nat → Nat → Prop) : Prop := ∀ n a b, n < 5 → a ≤ b → b ≤ L → ∃ x, x < 2 ^ 31 ∧ ah (196 * n + 14 * a + b) = nI x ∧ ((0 < x ∧ x < r) ↔ D n a b)
section
variable {g : gm_G} {L : Nat} {f_goal f_extra f_measured f_known f_more : Int32} {a_left a_size a_right a_text a_ops a_constants a_heights a_chosen a_firstEnd a_secondEnd a_far a_productive a_useful a_covers : Nat → Int32} {a_many a_values a_nodes : Nat → Int64} {f_sum : Int64} {c i j p n k m a b r u v : Nat} {D : Nat → Nat → Nat → Prop}
theorem ys_terminal {post : Int32 → Prop} {w : Int32} {fp fl : Int32} (h1 : ∀ t, t < 6 → w = nI t → post 1) (h0 : (∀ t, t < 6 → w ≠ nI t) → post 0) : wpY_terminal post (fp, fl, f_goal, f_extra, f_measured, f_known, f_more, f_sum, a_left, a_size, a_right, a_text, a_ops, a_constants, a_heights, a_many, a_chosen, a_firstEnd, a_secondEnd, a_values, a_nodes, a_far, a_productive, a_useful, a_covers) w := by
  unfold wpY_terminal
  refine br_c (fun z => h0 fun n hn e => ?_) (fun z => br_c (fun y => h0 fun n hn e => ?_) (fun y => ?_))
  · rw [e] at z
    exact nI_pos (by omega) z
  · rw [e] at y
    exact nI_nlt (a := 5) (by omega) (by omega) y
  · obtain ⟨j, hj, e⟩ := nI_of z
    subst e
    have b : j < 6 := Nat.lt_of_not_le fun w => y (nI_lt (a := 5) (by omega) hj)
    exact h1 j b rfl
theorem ys_nonterminal {post : Int32 → Prop} {w : Int32} {fp fl : Int32} (h1 : ∀ n, n < 5 → w = nI (n + 10) → post 1) (h0 : (∀ n, n < 5 → w ≠ nI (n + 10)) → post 0) : wpY_nonterminal post (fp, fl, f_goal, f_extra, f_measured, f_known, f_more, f_sum, a_left, a_size, a_right, a_text, a_ops, a_constants, a_heights, a_many, a_chosen, a_firstEnd, a_secondEnd, a_values, a_nodes, a_far, a_productive, a_useful, a_covers) w := by
  unfold wpY_nonterminal
  refine br_c (fun z => h0 fun n hn e => ?_) (fun z => br_c (fun y => h0 fun n hn e => ?_) (fun y => ?_))
  · rw [e] at z
    exact nI_nlt (b := 10) (by omega) (by omega) z
  · rw [e] at y
    exact nI_nlt (a := 14) (by omega) (by omega) y
  · obtain ⟨j, hj, e⟩ := nI_of (x := w) (fun q => z (Int32.lt_trans q (by decide)))
    subst e
    have a : ¬ j < 10 := fun q => z (nI_lt (b := 10) q (by omega))
    have b : j < 15 := Nat.lt_of_not_le fun q => y (nI_lt (a := 14) (by omega) hj)
    exact h1 (j - 10) (by omega) (congrArg nI (by omega))
theorem ys_wrong {post : Int32 → Prop} {w : Int32} {fp fl : Int32} (h1 : cp_Vs w → post 0) (h0 : ¬ cp_Vs w → post 1) : wpY_wrong post (fp, fl, f_goal, f_extra, f_measured, f_known, f_more, f_sum, a_left, a_size, a_right, a_text, a_ops, a_constants, a_heights, a_many, a_chosen, a_firstEnd, a_secondEnd, a_values, a_nodes, a_far, a_productive, a_useful, a_covers) w := by
  unfold wpY_wrong
  refine br_c (fun z => h1 ⟨9, by omega, z⟩) (fun z => ys_terminal (fun t ht e => br_f (by decide) (h1 ⟨t, by omega, by rw [cp_Sy_n (by omega)]; exact e⟩)) (fun ht => br_t rfl (ys_nonterminal (fun n hn e => br_f (by decide) (h1 ⟨n + 10, by omega, by rw [cp_Sy_n (by omega)]; exact e⟩)) (fun hn => br_t rfl (h0 ?_)))))
  rintro ⟨c, hc, e⟩
  rcases hc with hc | hc | hc
  · rw [cp_Sy_n (by omega)] at e; exact ht c hc e
  · rw [cp_Sy_9 hc] at e; exact z e
  · rw [cp_Sy_n (by omega)] at e; exact hn (c - 10) (by omega) (by rw [e]; exact congrArg nI (by omega))
theorem ys_span {post : Int32 → Prop} {v1 v2 v3 : Int32} (hL : L ≤ 10) (h1 : ∀ n i j, cp_Span L v1 v2 v3 n i j → post 1) (h0 : (∀ n i j, ¬ cp_Span L v1 v2 v3 n i j) → post 0) : wpY_span post (nI (gm_P g), nI L, f_goal, f_extra, f_measured, f_known, f_more, f_sum, a_left, a_size, a_right, a_text, a_ops, a_constants, a_heights, a_many, a_chosen, a_firstEnd, a_secondEnd, a_values, a_nodes, a_far, a_productive, a_useful, a_covers) v1 v2 v3 := by
  unfold wpY_span
  refine ys_nonterminal (fun n hn e => br_f (by decide) (br_c (fun z => h0 ?_) (fun z => br_c (fun y => h0 ?_) (fun y => br_c (fun x => h0 ?_) (fun x => ?_))))) (fun hn => br_t rfl (h0 ?_))
  · rintro n i j ⟨_, a1, a2, _, a3, _⟩
    rw [a3] at z; exact nI_pos (by omega) z
  · rintro n i j ⟨_, a1, a2, _, a3, a4⟩
    rw [a3, a4] at y; exact nI_nlt (by omega) (by omega) y
  · rintro n i j ⟨_, a1, a2, _, a3, a4⟩
    rw [a4] at x; exact nI_nlt (by omega) (by omega) x
  · obtain ⟨i, hi, e2⟩ := nI_of z
    subst e2
    have h3 : ¬ v3 < 0 := fun w => y (Int32.lt_of_lt_of_le w (nI_pos' hi))
    obtain ⟨j, hj, e3⟩ := nI_of h3
    subst e3
    have a : ¬ j < i := fun w => y (nI_lt w hi)
    have b : ¬ L < j := fun w => x (nI_lt w hj)
    exact h1 n i j ⟨hn, by omega, by omega, e, rfl, rfl⟩
  · rintro n i j ⟨a, _, _, b, _⟩
    exact hn n a b
theorem ys_cell {post : Int32 → Prop} (hc : 10 ≤ c) (h : post (nI (196 * (c - 10) + 14 * i + j))) : wpY_cell post (nI (gm_P g), nI L, f_goal, f_extra, f_measured, f_known, f_more, f_sum, a_left, a_size, a_right, a_text, a_ops, a_constants, a_heights, a_many, a_chosen, a_firstEnd, a_secondEnd, a_values, a_nodes, a_far, a_productive, a_useful, a_covers) (cp_Sy c) (nI i) (nI j) := by
  unfold wpY_cell
  dsimp only
  rw [ix_196s hc]; exact h
theorem ys_cellN {post : Int32 → Prop} (h : post (nI (196 * n + 14 * i + j))) : wpY_cell post (nI (gm_P g), nI L, f_goal, f_extra, f_measured, f_known, f_more, f_sum, a_left, a_size, a_right, a_text, a_ops, a_constants, a_heights, a_many, a_chosen, a_firstEnd, a_secondEnd, a_values, a_nodes, a_far, a_productive, a_useful, a_covers) (nI (n + 10)) (nI i) (nI j) := by
  unfold wpY_cell
  dsimp only
  rw [ix_196n]; exact h
theorem ys_stands {post : Int32 → Prop} (G : cp_G g L a_right a_size a_text) (H : yk_H L a_heights r D) (hr : r < 2 ^ 31) (hc : c < 15) (h9 : c ≠ 9) (hab : a ≤ b) (hb : b ≤ L)
    (h1 : gm_Sp g D c a b → post 1) (h0 : ¬ gm_Sp g D c a b → post 0) : wpY_stands post (nI (gm_P g), nI L, f_goal, f_extra, f_measured, f_known, f_more, f_sum, a_left, a_size, a_right, a_text, a_ops, a_constants, a_heights, a_many, a_chosen, a_firstEnd, a_secondEnd, a_values, a_nodes, a_far, a_productive, a_useful, a_covers) (cp_Sy c) (nI a) (nI b) (nI r) := by
  have hL := cp_G_L G
  unfold wpY_stands
  refine br_i (cp_Sy_ge10 hc) (fun h10 => ys_cell h10 ?_) (fun h10 => ?_)
  · obtain ⟨x, hx, e, hd⟩ := H (c - 10) a b (by omega) hab hb
    have hs := gm_Sp_n (g := g) (D := D) (i := a) (j := b) h10
    rw [nI_clamp (show 196 * (c - 10) + 14 * a + b < 2 ^ 31 by omega), e]
    exact ⟨vp_in_nI (by omega) (by omega), nm_e (pk_le x 0 (fun z => h0 fun w => by have := hd.mpr (hs.mp w); omega) (fun z => pk_le r x (fun y => h0 fun w => by have := hd.mpr (hs.mp w); omega) (fun y => h1 (hs.mpr (hd.mp ⟨z, y⟩)))))⟩
  · have hs := gm_Sp_t (g := g) (D := D) (i := a) (j := b) (show c < 9 by omega)
    refine pk_eq b (a + 1) (fun e => ⟨vp_in_nI (by omega) (by omega), ?_⟩) (fun e => h0 fun z => e (hs.mp z).1) (hy := nI_1 a)
    rw [nI_clamp (by omega), cp_G_tx G]
    exact br_i (cp_tx (cp_G_t6 G) hc) (fun z => h1 (hs.mpr ⟨e, z⟩)) (fun z => h0 fun y => z (hs.mp y).2)
theorem ys_fits {post : Int32 → Prop} (G : cp_G g L a_right a_size a_text) (H : yk_H L a_heights r D) (hr : r < 2 ^ 31) (hp : p < gm_P g) (hiu : i ≤ u) (huv : u ≤ v) (hvj : v ≤ j) (hj : j ≤ L)
    (h1 : gm_Dv g D p i u v j → post 1) (h0 : ¬ gm_Dv g D p i u v j → post 0) : wpY_fits post (nI (gm_P g), nI L, f_goal, f_extra, f_measured, f_known, f_more, f_sum, a_left, a_size, a_right, a_text, a_ops, a_constants, a_heights, a_many, a_chosen, a_firstEnd, a_secondEnd, a_values, a_nodes, a_far, a_productive, a_useful, a_covers) (nI p) (nI i) (nI u) (nI v) (nI j) (nI r) := by
  have h12 := cp_G_P G
  have hL := cp_G_L G
  have ok := cp_G_ok G
  have c0 : gm_s g (3 * p) < 15 := gm_ok_15 ok hp (show 0 < 3 by omega)
  have c1 := gm_ok_15 ok hp (show 1 < 3 by omega)
  have c2 := gm_ok_15 ok hp (show 2 < 3 by omega)
  have z0 : 0 < gm_sz g p ↔ gm_s g (3 * p) ≠ 9 := gm_sz_lt ok hp (show 0 < 3 by omega)
  have z1 := gm_sz_lt ok hp (show 1 < 3 by omega)
  have z2 := gm_sz_lt ok hp (show 2 < 3 by omega)
  have hs3 := gm_sz_le g p
  have n0 : gm_sz g p < 1 → (gm_Sp g D (gm_s g (3 * p)) i u ↔ i = u) := fun z => gm_Sp_9 (Classical.byContradiction fun w => by have := z0.mpr w; omega)
  have n1 : gm_sz g p < 2 → (gm_Sp g D (gm_s g (3 * p + 1)) u v ↔ u = v) := fun z => gm_Sp_9 (Classical.byContradiction fun w => by have := z1.mpr w; omega)
  have n2 : gm_sz g p < 3 → (gm_Sp g D (gm_s g (3 * p + 2)) v j ↔ v = j) := fun z => gm_Sp_9 (Classical.byContradiction fun w => by have := z2.mpr w; omega)
  have w100 : gm_Sp g D (gm_s g (3 * p)) i u → gm_Sp g D (gm_s g (3 * p + 1)) u v → (gm_sz g p < 3 → v = j) → wY_fits_100 post (nI p) (nI v) (nI j) (nI r) (nI (gm_sz g p)) (nI (gm_P g)) (nI L) f_goal f_extra f_measured f_known f_more f_sum a_left a_size a_right a_text a_ops a_constants a_heights a_many a_chosen a_firstEnd a_secondEnd a_values a_nodes a_far a_productive a_useful a_covers := by
    intro sa sb hv
    unfold wY_fits_100
    refine pk_lt (gm_sz g p) 3 (fun q => h1 ⟨hiu, huv, hvj, sa, sb, (n2 q).mpr (hv q)⟩) (fun q => ?_)
    rw [ix_32, nI_clamp (show 3 * p + 2 < 2 ^ 31 by omega), cp_G_rt G hp (show 2 < 3 by omega)]
    exact ⟨vp_in_nI (by omega) (by omega), ys_stands G H hr c2 (z2.mp (by omega)) hvj hj (fun sc => br_f (by decide) (h1 ⟨hiu, huv, hvj, sa, sb, sc⟩)) (fun sc => br_t rfl (h0 fun w => sc w.2.2.2.2.2))⟩
  have w72 : gm_Sp g D (gm_s g (3 * p)) i u → (gm_sz g p < 3 → v = j) → (gm_sz g p < 2 → u = j) → wY_fits_72 post (nI p) (nI u) (nI v) (nI j) (nI r) (nI (gm_sz g p)) (nI (gm_P g)) (nI L) f_goal f_extra f_measured f_known f_more f_sum a_left a_size a_right a_text a_ops a_constants a_heights a_many a_chosen a_firstEnd a_secondEnd a_values a_nodes a_far a_productive a_useful a_covers := by
    intro sa hv hu
    unfold wY_fits_72
    refine pk_lt (gm_sz g p) 2 (fun q => w100 sa ((n1 q).mpr (by have := hu q; have := hv (by omega); omega)) hv) (fun q => ?_)
    rw [ix_31, nI_clamp (show 3 * p + 1 < 2 ^ 31 by omega), cp_G_rt G hp (show 1 < 3 by omega)]
    exact ⟨vp_in_nI (by omega) (by omega), ys_stands G H hr c1 (z1.mp (by omega)) huv (by omega) (fun sb => br_f (by decide) (w100 sa sb hv)) (fun sb => br_t rfl (h0 fun w => sb w.2.2.2.2.1))⟩
  have w47 : (gm_sz g p < 3 → v = j) → (gm_sz g p < 2 → u = j) → (gm_sz g p < 1 → i = j) → wY_fits_47 post (nI p) (nI i) (nI u) (nI v) (nI j) (nI r) (nI (gm_sz g p)) (nI (gm_P g)) (nI L) f_goal f_extra f_measured f_known f_more f_sum a_left a_size a_right a_text a_ops a_constants a_heights a_many a_chosen a_firstEnd a_secondEnd a_values a_nodes a_far a_productive a_useful a_covers := by
    intro hv hu hi
    unfold wY_fits_47
    refine pk_lt (gm_sz g p) 1 (fun q => w72 ((n0 q).mpr (by have := hi q; omega)) hv hu) (fun q => ?_)
    rw [ix_3, nI_clamp (show 3 * p < 2 ^ 31 by omega), cp_G_r0 G hp]
    exact ⟨vp_in_nI (by omega) (by omega), ys_stands G H hr c0 (z0.mp (by omega)) hiu (by omega) (fun sa => br_f (by decide) (w72 sa hv hu)) (fun sa => br_t rfl (h0 fun w => sa w.2.2.2.1))⟩
  have w33 : (gm_sz g p < 3 → v = j) → (gm_sz g p < 2 → u = j) → wY_fits_33 post (nI p) (nI i) (nI u) (nI v) (nI j) (nI r) (nI (gm_sz g p)) (nI (gm_P g)) (nI L) f_goal f_extra f_measured f_known f_more f_sum a_left a_size a_right a_text a_ops a_constants a_heights a_many a_chosen a_firstEnd a_secondEnd a_values a_nodes a_far a_productive a_useful a_covers := by
    intro hv hu
    unfold wY_fits_33
    refine pk_le 1 (gm_sz g p) (fun q => w47 hv hu fun w => absurd w (by omega)) (fun q => pk_eq i j (fun e => w47 hv hu fun _ => e) (fun e => h0 fun w => ?_))
    have := (n0 (by omega)).mp w.2.2.2.1
    have := hu (by omega)
    omega
  have w21 : (gm_sz g p < 3 → v = j) → wY_fits_21 post (nI p) (nI i) (nI u) (nI v) (nI j) (nI r) (nI (gm_sz g p)) (nI (gm_P g)) (nI L) f_goal f_extra f_measured f_known f_more f_sum a_left a_size a_right a_text a_ops a_constants a_heights a_many a_chosen a_firstEnd a_secondEnd a_values a_nodes a_far a_productive a_useful a_covers := by
    intro hv
    unfold wY_fits_21
    refine pk_le 2 (gm_sz g p) (fun q => w33 hv fun w => absurd w (by omega)) (fun q => pk_eq u j (fun e => w33 hv fun _ => e) (fun e => h0 fun w => ?_))
    have := (n1 (by omega)).mp w.2.2.2.2.1
    have := hv (by omega)
    omega
  unfold wpY_fits
  dsimp only
  rw [nI_clamp (show p < 2 ^ 31 by omega), cp_G_sz G hp]
  refine ⟨vp_in_nI (by omega) (by omega), nm_e (pk_le 3 (gm_sz g p) (fun q => w21 fun w => absurd w (by omega)) (fun q => pk_eq v j (fun e => w21 fun _ => e) (fun e => h0 fun w => ?_)))⟩
  exact e ((n2 (by omega)).mp w.2.2.2.2.2)
theorem ys_fitsSome {post : Int32 → Prop} (G : cp_G g L a_right a_size a_text) (H : yk_H L a_heights r D) (hr : r < 2 ^ 31) (hp : p < gm_P g) (hij : i ≤ j) (hj : j ≤ L)
    (h1 : ∀ u v, gm_Dv g D p i u v j → post 1) (h0 : (∀ u v, ¬ gm_Dv g D p i u v j) → post 0) : wpY_fitsSome post (nI (gm_P g), nI L, f_goal, f_extra, f_measured, f_known, f_more, f_sum, a_left, a_size, a_right, a_text, a_ops, a_constants, a_heights, a_many, a_chosen, a_firstEnd, a_secondEnd, a_values, a_nodes, a_far, a_productive, a_useful, a_covers) (nI p) (nI i) (nI j) (nI r) := by
  have hL := cp_G_L G
  have inner : ∀ (J : Int32 → Prop) u, i ≤ u → u ≤ j → ((∀ u' v, u' < u + 1 → ¬ gm_Dv g D p i u' v j) → J (nI (u + 1))) → ∀ d v, v + d = j + 1 → u ≤ v → (∀ u' v', u' < u ∨ (u' = u ∧ v' < v) → ¬ gm_Dv g D p i u' v' j) → wY_fitsSome_13 post J (nI p) (nI i) (nI j) (nI r) (nI u) (nI (gm_P g)) (nI L) f_goal f_extra f_measured f_known f_more f_sum a_left a_size a_right a_text a_ops a_constants a_heights a_many a_chosen a_firstEnd a_secondEnd a_values a_nodes a_far a_productive a_useful a_covers (d + 1) (nI v) := by
    intro J u hiu huj hJ d
    induction d with
    | zero =>
      intro v hv huv hno
      rw [wY_fitsSome_13]
      exact pk_lt j v (fun _ => nm_r (nI_1 _) (hJ fun u' v' hu' hd => hno u' v' (by have := hd.2.2.1; omega) hd)) (fun z => absurd z (by omega))
    | succ d ih =>
      intro v hv huv hno
      rw [wY_fitsSome_13]
      refine pk_lt j v (fun z => absurd z (by omega)) (fun _ => ys_fits G H hr hp hiu huv (by omega) hj (fun hd => br_f (by decide) (h1 u v hd)) (fun hd => br_t rfl (nm_r (nI_1 _) (ih (v + 1) (by omega) (by omega) fun u' v' hu' => ?_))))
      by_cases e : u' = u ∧ v' = v
      · obtain ⟨rfl, rfl⟩ := e; exact hd
      · exact hno u' v' (by omega)
  have outer : ∀ d u, u + d = j + 1 → i ≤ u → (∀ u' v', u' < u → ¬ gm_Dv g D p i u' v' j) → wY_fitsSome_3 post (nI p) (nI i) (nI j) (nI r) (nI (gm_P g)) (nI L) f_goal f_extra f_measured f_known f_more f_sum a_left a_size a_right a_text a_ops a_constants a_heights a_many a_chosen a_firstEnd a_secondEnd a_values a_nodes a_far a_productive a_useful a_covers (d + 1) (nI u) := by
    intro d
    induction d with
    | zero =>
      intro u hu hiu hno
      rw [wY_fitsSome_3]
      exact pk_lt j u (fun _ => h0 fun u' v' hd => hno u' v' (by have := hd.2.1; have := hd.2.2.1; omega) hd) (fun z => absurd z (by omega))
    | succ d ih =>
      intro u hu hiu hno
      rw [wY_fitsSome_3]
      exact pk_lt j u (fun z => absurd z (by omega)) (fun _ => ⟨j + 1 - u + 1, inner _ u hiu (by omega) (fun hno' => ih (u + 1) (by omega) (by omega) hno') (j + 1 - u) u (by omega) (Nat.le_refl _) fun u' v' hu' hd => hno u' v' (by have := hd.2.1; omega) hd⟩)
  unfold wpY_fitsSome
  exact ⟨j + 1 - i + 1, outer (j + 1 - i) i (by omega) (Nat.le_refl _) fun u' v' hu' hd => by have := hd.1; omega⟩
theorem ys_hasTree {post : Int32 → Prop} (G : cp_G g L a_right a_size a_text) (hl : yk_L g a_left) (H : yk_H L a_heights r D) (hr : r < 2 ^ 31) (hn : n < 5) (hij : i ≤ j) (hj : j ≤ L)
    (h1 : (∃ p, p < gm_P g ∧ gm_l g p = n ∧ ∃ u v, gm_Dv g D p i u v j) → post 1) (h0 : (¬ ∃ p, p < gm_P g ∧ gm_l g p = n ∧ ∃ u v, gm_Dv g D p i u v j) → post 0) : wpY_hasTree post (nI (gm_P g), nI L, f_goal, f_extra, f_measured, f_known, f_more, f_sum, a_left, a_size, a_right, a_text, a_ops, a_constants, a_heights, a_many, a_chosen, a_firstEnd, a_secondEnd, a_values, a_nodes, a_far, a_productive, a_useful, a_covers) (nI (n + 10)) (nI i) (nI j) (nI r) := by
  have h12 := cp_G_P G
  have lp : ∀ d p, p + d = gm_P g → (∀ q, q < p → gm_l g q = n → ∀ u v, ¬ gm_Dv g D q i u v j) → wY_hasTree_3 post (nI (n + 10)) (nI i) (nI j) (nI r) (nI (gm_P g)) (nI L) f_goal f_extra f_measured f_known f_more f_sum a_left a_size a_right a_text a_ops a_constants a_heights a_many a_chosen a_firstEnd a_secondEnd a_values a_nodes a_far a_productive a_useful a_covers (d + 1) (nI p) := by
    intro d
    induction d with
    | zero =>
      intro p hp hno
      rw [wY_hasTree_3]
      refine pk_le (gm_P g) p (fun _ => h0 ?_) (fun z => absurd z (by omega))
      rintro ⟨q, hq, hlq, u, v, hd⟩
      exact hno q (by omega) hlq u v hd
    | succ d ih =>
      intro p hp hno
      have hp' : p < gm_P g := by omega
      have hl5 := gm_ok_l (cp_G_ok G) hp'
      rw [wY_hasTree_3]
      refine pk_le (gm_P g) p (fun z => absurd z (by omega)) (fun _ => ?_)
      rw [nI_clamp (show p < 2 ^ 31 by omega), hl p hp']
      refine ⟨vp_in_nI (by omega) (by omega), pk_eq (gm_l g p + 10) (n + 10) (fun e => ys_fitsSome G H hr hp' hij hj (fun u v hd => br_f (by decide) (h1 ⟨p, hp', by omega, u, v, hd⟩)) (fun hd => br_t rfl (nm_r (nI_1 _) (ih (p + 1) (by omega) fun q hq hlq => ?_)))) (fun e => nm_r (nI_1 _) (ih (p + 1) (by omega) fun q hq hlq => ?_))⟩
      · by_cases w : q = p
        · subst w; exact hd
        · exact hno q (by omega) hlq
      · by_cases w : q = p
        · subst w; exact absurd (by omega) e
        · exact hno q (by omega) hlq
  unfold wpY_hasTree
  exact ⟨gm_P g + 1, lp (gm_P g) 0 (by omega) fun q hq => absurd hq (by omega)⟩
end
end
section
/-! Y: derive -/
def yk_hc (r x : Nat) : Nat := if x ≤ r then x else 0
def yk_Dn (i0 j0 n0 n a b : Nat) : Prop := a < i0 ∨ (a = i0 ∧ (b < j0 ∨ (b = j0 ∧ n < n0)))
def yk_ok (L n a b : Nat) : Prop := n < 5 ∧ a ≤ b ∧ b ≤ L
/-- cells outside -/
def yk_Z (L : Nat) (ah : Nat → Int32) : Prop := ∀ c, c < 980 → (∀ n a b, yk_ok L n a b → c ≠ 196 * n + 14 * a + b) → ah c = 0
def yk_Dr (g : gm_G) (L r i0 j0 n0 : Nat) (fm : Int32) (ah : Nat → Int32) : Prop :=
  (∀ n a b, yk_ok L n a b → (yk_Dn i0 j0 n0 n a b → ah (196 * n + 14 * a + b) = nI (yk_hc r (gm_Ht g n a b))) ∧ (¬ yk_Dn i0 j0 n0 n a b → ah (196 * n + 14 * a + b) = nI (yk_hc (r - 1) (gm_Ht g n a b)))) ∧
  (fm = 0 → ∀ n a b, yk_ok L n a b → yk_Dn i0 j0 n0 n a b → gm_Ht g n a b ≠ r) ∧ (fm ≠ 0 → ∃ n a b, yk_ok L n a b ∧ gm_Ht g n a b = r) ∧ yk_Z L ah
/-- heights as they are -/
def yk_Ht (g : gm_G) (L : Nat) (ah : Nat → Int32) : Prop := (∀ n a b, yk_ok L n a b → ah (196 * n + 14 * a + b) = nI (gm_Ht g n a b)) ∧ yk_Z L ah
theorem gm_Ht_top {g : gm_G} {L r : Nat} (ok : gm_ok g) (hr : 0 < r) (h : ∀ n a b, yk_ok L n a b → gm_Ht g n a b ≠ r) : ∀ n a b, yk_ok L n a b → gm_Ht g n a b < r := by
  have key : ∀ d n a b, yk_ok L n a b → gm_Ht g n a b ≠ r + d := by
    intro d
    induction d with
    | zero => exact fun n a b hc => h n a b hc
    | succ d ih =>
      intro n a b hc e
      obtain ⟨m, x, y, q1, q2, q3, q4, q5⟩ := gm_Ht_gap ok (r := r + d) e (by omega)
      exact ih m x y ⟨q1, q3, by have := hc.2.2; omega⟩ q5
  intro n a b hc
  rcases Nat.lt_or_ge (gm_Ht g n a b) r with z | z
  · exact z
  · exact absurd (show gm_Ht g n a b = r + (gm_Ht g n a b - r) by omega) (key _ n a b hc)
section
variable {g : gm_G} {L : Nat} {f_goal f_extra f_measured f_known f_more : Int32} {a_left a_size a_right a_text a_ops a_constants a_heights a_chosen a_firstEnd a_secondEnd a_far a_productive a_useful a_covers : Nat → Int32} {a_many a_values a_nodes : Nat → Int64} {f_sum : Int64} {c i j p n k m a b r u v : Nat} {D : Nat → Nat → Nat → Prop}
theorem yk_Dr_H {fm : Int32} {ah : Nat → Int32} {i0 j0 n0 : Nat} (ok : gm_ok g) (hL : L ≤ 10) (hr : 0 < r) (h : yk_Dr g L r i0 j0 n0 fm ah) : yk_H L ah r (gm_T g (r - 1)) := by
  intro n a b h1 h2 h3
  have hB := gm_Ht_B (g := g) (n := n) (i := a) (j := b) ok (by omega)
  have q := h.1 n a b ⟨h1, h2, h3⟩
  rcases Classical.em (yk_Dn i0 j0 n0 n a b) with z | z
  · refine ⟨_, ?_, q.1 z, ?_⟩
    · unfold yk_hc
      by_cases w : gm_Ht g n a b ≤ r
      · rw [if_pos w]; omega
      · rw [if_neg w]; omega
    · rw [gm_T_iff]
      unfold yk_hc
      by_cases w : gm_Ht g n a b ≤ r
      · rw [if_pos w]; omega
      · rw [if_neg w]; omega
  · refine ⟨_, ?_, q.2 z, ?_⟩
    · unfold yk_hc
      by_cases w : gm_Ht g n a b ≤ r - 1
      · rw [if_pos w]; omega
      · rw [if_neg w]; omega
    · rw [gm_T_iff]
      unfold yk_hc
      by_cases w : gm_Ht g n a b ≤ r - 1
      · rw [if_pos w]; omega
      · rw [if_neg w]; omega
theorem yk_idx {n a b n' a' b' L : Nat} (hL : L ≤ 10) (h : yk_ok L n a b) (h' : yk_ok L n' a' b') (e : 196 * n + 14 * a + b = 196 * n' + 14 * a' + b') : n = n' ∧ a = a' ∧ b = b' := by
  obtain ⟨h1, h2, h3⟩ := h
  obtain ⟨k1, k2, k3⟩ := h'
  omega
theorem ys_dSpan_4 {post : SY → Prop} (G : cp_G g L a_right a_size a_text) (hl : yk_L g a_left) (hr : 0 < r) (hr9 : r < 1000) (hij : i ≤ j) (hj : j ≤ L)
    (h : ∀ fm ah, yk_Dr g L r i (j + 1) 0 fm ah → post (nI (gm_P g), nI L, f_goal, f_extra, f_measured, f_known, fm, f_sum, a_left, a_size, a_right, a_text, a_ops, a_constants, ah, a_many, a_chosen, a_firstEnd, a_secondEnd, a_values, a_nodes, a_far, a_productive, a_useful, a_covers)) :
    ∀ d n fm ah, n + d = 5 → yk_Dr g L r i j n fm ah → wY_deriveSpan_4 post (nI i) (nI j) (nI r) (nI (gm_P g)) (nI L) f_goal f_extra f_measured f_known f_sum (d + 1) (nI (n + 10)) fm a_left a_size a_right a_text a_ops a_constants ah a_many a_chosen a_firstEnd a_secondEnd a_values a_nodes a_far a_productive a_useful a_covers := by
  have hL := cp_G_L G
  have ok := cp_G_ok G
  intro d
  induction d with
  | zero =>
    intro n fm ah hn hI
    rw [wY_deriveSpan_4]
    have e : n = 5 := by omega
    subst e
    refine pk_le 15 (5 + 10) (fun _ => h fm ah ⟨fun n a b hc => ⟨fun z => (hI.1 n a b hc).1 ?_, fun z => (hI.1 n a b hc).2 fun w => z ?_⟩, fun z n a b hc w => hI.2.1 z n a b hc ?_, hI.2.2⟩) (fun z => absurd z (by omega))
    · have := hc.1; unfold yk_Dn at z ⊢; omega
    · have := hc.1; unfold yk_Dn at w ⊢; omega
    · have := hc.1; unfold yk_Dn at w ⊢; omega
  | succ d ih =>
    intro n fm ah hn hI
    have hc0 : yk_ok L n i j := ⟨by omega, hij, hj⟩
    have hB := gm_Ht_B (g := g) (n := n) (i := i) (j := j) ok (by omega)
    have cell := (hI.1 n i j hc0).2 (by unfold yk_Dn; omega)
    have H := yk_Dr_H ok hL hr hI
    have hx : yk_hc (r - 1) (gm_Ht g n i j) < 2 ^ 31 := by
      unfold yk_hc
      by_cases w : gm_Ht g n i j ≤ r - 1
      · rw [if_pos w]; omega
      · rw [if_neg w]; omega
    have stay : yk_hc (r - 1) (gm_Ht g n i j) = yk_hc r (gm_Ht g n i j) → gm_Ht g n i j ≠ r → yk_Dr g L r i j (n + 1) fm ah := by
      intro e1 e2
      refine ⟨fun n' a b hc => ⟨fun z => ?_, fun z => (hI.1 n' a b hc).2 fun w => z (by unfold yk_Dn at w ⊢; omega)⟩, fun z n' a b hc w => ?_, hI.2.2⟩
      · by_cases e : n' = n ∧ a = i ∧ b = j
        · obtain ⟨rfl, rfl, rfl⟩ := e
          rw [cell, e1]
        · exact (hI.1 n' a b hc).1 (by unfold yk_Dn at z ⊢; omega)
      · by_cases e : n' = n ∧ a = i ∧ b = j
        · obtain ⟨rfl, rfl, rfl⟩ := e; exact e2
        · exact hI.2.1 z n' a b hc (by unfold yk_Dn at w ⊢; omega)
    rw [wY_deriveSpan_4]
    refine pk_le 15 (n + 10) (fun z => absurd z (by omega)) (fun _ => ys_cellN ?_)
    rw [nI_clamp (show 196 * n + 14 * i + j < 2 ^ 31 by omega), cell]
    refine ⟨vp_in_nI (by omega) (by omega), pk_eq (yk_hc (r - 1) (gm_Ht g n i j)) 0 (fun e0 => ys_hasTree G hl H (by omega) (by omega) hij hj (fun ht => br_f (by decide) ⟨vp_in_nI (by omega) (by omega), nm_e (nm_r (nI_1 _) (ih (n + 1) 1 _ (by omega) ?_))⟩) (fun ht => br_t rfl (nm_r (nI_1 _) (ih (n + 1) fm ah (by omega) (stay ?_ ?_))))) (fun e0 => nm_r (nI_1 _) (ih (n + 1) fm ah (by omega) (stay ?_ ?_)))⟩
    · have hT : gm_T g (r - 1 + 1) n i j := ht
      rw [show r - 1 + 1 = r by omega, gm_T_iff] at hT
      have hH : gm_Ht g n i j = r := by
        unfold yk_hc at e0
        by_cases w : gm_Ht g n i j ≤ r - 1
        · rw [if_pos w] at e0; omega
        · omega
      refine ⟨fun n' a b hc => ⟨fun z => ?_, fun z => ?_⟩, fun z => absurd z (by decide), fun _ => ⟨n, i, j, hc0, hH⟩, fun c hc hno => ?_⟩
      · by_cases e : n' = n ∧ a = i ∧ b = j
        · obtain ⟨rfl, rfl, rfl⟩ := e
          rw [pk_us]
          unfold yk_hc
          rw [if_pos (by omega), hH]
        · rw [pk_un (fun w => e (yk_idx hL hc hc0 w))]
          exact (hI.1 n' a b hc).1 (by unfold yk_Dn at z ⊢; omega)
      · rw [pk_un (fun w => z (by obtain ⟨rfl, rfl, rfl⟩ := yk_idx hL hc hc0 w; unfold yk_Dn; omega))]
        exact (hI.1 n' a b hc).2 fun w => z (by unfold yk_Dn at w ⊢; omega)
      · rw [pk_un (hno n i j hc0)]; exact hI.2.2.2 c hc hno
    · have hT : ¬ gm_T g (r - 1 + 1) n i j := ht
      rw [show r - 1 + 1 = r by omega, gm_T_iff] at hT
      unfold yk_hc at e0 ⊢
      by_cases w : gm_Ht g n i j ≤ r - 1
      · rw [if_pos w, if_pos (by omega)]
      · rw [if_neg w, if_neg (by omega)]
    · have hT : ¬ gm_T g (r - 1 + 1) n i j := ht
      rw [show r - 1 + 1 = r by omega, gm_T_iff] at hT
      omega
    · unfold yk_hc at e0 ⊢
      by_cases w : gm_Ht g n i j ≤ r - 1
      · rw [if_pos w, if_pos (by omega)]
      · rw [if_neg w] at e0; omega
    · unfold yk_hc at e0
      by_cases w : gm_Ht g n i j ≤ r - 1
      · omega
      · rw [if_neg w] at e0; omega
theorem ys_derive_60 {post : SY → Prop} {J29 J50 : Int32 → Int32 → Int32 → Int32 → Int32 → Int32 → Int32 → Int32 → Int64 → (Nat → Int32) → (Nat → Int32) → (Nat → Int32) → (Nat → Int32) → (Nat → Int32) → (Nat → Int32) → (Nat → Int32) → (Nat → Int64) → (Nat → Int32) → (Nat → Int32) → (Nat → Int32) → (Nat → Int64) → (Nat → Int64) → (Nat → Int32) → (Nat → Int32) → (Nat → Int32) → (Nat → Int32) → Prop} (G : cp_G g L a_right a_size a_text) (hl : yk_L g a_left) (hr : 0 < r) (hr9 : r < 1000) (hiL : i ≤ L)
    (hJ : ∀ fm ah, yk_Dr g L r (i + 1) (i + 1) 0 fm ah → J50 (nI (i + 1)) (nI (gm_P g)) (nI L) f_goal f_extra f_measured f_known fm f_sum a_left a_size a_right a_text a_ops a_constants ah a_many a_chosen a_firstEnd a_secondEnd a_values a_nodes a_far a_productive a_useful a_covers) :
    ∀ d j fm ah, j + d = L + 1 → i ≤ j → yk_Dr g L r i j 0 fm ah → wY_derive_60 post J29 J50 (nI r) (nI i) (d + 1) (nI j) (nI (gm_P g)) (nI L) f_goal f_extra f_measured f_known fm f_sum a_left a_size a_right a_text a_ops a_constants ah a_many a_chosen a_firstEnd a_secondEnd a_values a_nodes a_far a_productive a_useful a_covers := by
  have hL := cp_G_L G
  intro d
  induction d with
  | zero =>
    intro j fm ah hj hij hI
    rw [wY_derive_60]
    refine pk_lt L j (fun _ => nm_r (nI_1 _) (hJ fm ah ⟨fun n a b hc => ⟨fun z => (hI.1 n a b hc).1 ?_, fun z => (hI.1 n a b hc).2 fun w => z ?_⟩, fun z n a b hc w => hI.2.1 z n a b hc ?_, hI.2.2⟩)) (fun z => absurd z (by omega))
    · have := hc.2.1; have := hc.2.2; unfold yk_Dn at z ⊢; omega
    · have := hc.2.1; have := hc.2.2; unfold yk_Dn at w ⊢; omega
    · have := hc.2.1; have := hc.2.2; unfold yk_Dn at w ⊢; omega
  | succ d ih =>
    intro j fm ah hj hij hI
    rw [wY_derive_60]
    refine pk_lt L j (fun z => absurd z (by omega)) (fun _ => ?_)
    unfold wpY_deriveSpan
    exact ⟨6, ys_dSpan_4 G hl hr hr9 hij (by omega) (fun fm' ah' hI' => nm_r (nI_1 _) (ih (j + 1) fm' ah' (by omega) (by omega) hI')) 5 0 fm ah rfl hI⟩
theorem ys_derive_50 {post : SY → Prop} {J29 : Int32 → Int32 → Int32 → Int32 → Int32 → Int32 → Int32 → Int32 → Int64 → (Nat → Int32) → (Nat → Int32) → (Nat → Int32) → (Nat → Int32) → (Nat → Int32) → (Nat → Int32) → (Nat → Int32) → (Nat → Int64) → (Nat → Int32) → (Nat → Int32) → (Nat → Int32) → (Nat → Int64) → (Nat → Int64) → (Nat → Int32) → (Nat → Int32) → (Nat → Int32) → (Nat → Int32) → Prop} (G : cp_G g L a_right a_size a_text) (hl : yk_L g a_left) (hr : 0 < r) (hr9 : r < 1000)
    (hJ : ∀ fm ah, yk_Dr g L r (L + 1) (L + 1) 0 fm ah → J29 (nI (r + 1)) (nI (gm_P g)) (nI L) f_goal f_extra f_measured f_known fm f_sum a_left a_size a_right a_text a_ops a_constants ah a_many a_chosen a_firstEnd a_secondEnd a_values a_nodes a_far a_productive a_useful a_covers) :
    ∀ d i fm ah, i + d = L + 1 → yk_Dr g L r i i 0 fm ah → wY_derive_50 post J29 (nI r) (d + 1) (nI i) (nI (gm_P g)) (nI L) f_goal f_extra f_measured f_known fm f_sum a_left a_size a_right a_text a_ops a_constants ah a_many a_chosen a_firstEnd a_secondEnd a_values a_nodes a_far a_productive a_useful a_covers := by
  have hL := cp_G_L G
  intro d
  induction d with
  | zero =>
    intro i fm ah hi hI
    rw [wY_derive_50]
    have e : i = L + 1 := by omega
    subst e
    exact pk_lt L (L + 1) (fun _ => nm_r (nI_1 _) (hJ fm ah hI)) (fun z => absurd z (by omega))
  | succ d ih =>
    intro i fm ah hi hI
    rw [wY_derive_50]
    exact pk_lt L i (fun z => absurd z (by omega)) (fun _ => ⟨L + 1 - i + 1, ys_derive_60 G hl hr hr9 (by omega) (fun fm' ah' hI' => ih (i + 1) fm' ah' (by omega) hI') (L + 1 - i) i fm ah (by omega) (Nat.le_refl _) hI⟩)
/-- at the head of round r -/
def yk_D29 (g : gm_G) (L r : Nat) (fm : Int32) (ah : Nat → Int32) : Prop := (∀ n a b, yk_ok L n a b → ah (196 * n + 14 * a + b) = nI (yk_hc (r - 1) (gm_Ht g n a b))) ∧ (fm = 0 → ∀ n a b, yk_ok L n a b → gm_Ht g n a b ≤ r - 1) ∧ (fm ≠ 0 → r = 1 ∨ ∃ n a b, yk_ok L n a b ∧ gm_Ht g n a b = r - 1) ∧ yk_Z L ah
theorem ys_derive_29 {post : SY → Prop} (G : cp_G g L a_right a_size a_text) (hl : yk_L g a_left)
    (h : ∀ fm ah, yk_Ht g L ah → post (nI (gm_P g), nI L, f_goal, f_extra, f_measured, f_known, fm, f_sum, a_left, a_size, a_right, a_text, a_ops, a_constants, ah, a_many, a_chosen, a_firstEnd, a_secondEnd, a_values, a_nodes, a_far, a_productive, a_useful, a_covers)) :
    ∀ d r fm ah, r + d = 57 → 0 < r → yk_D29 g L r fm ah → wY_derive_29 post (d + 1) (nI r) (nI (gm_P g)) (nI L) f_goal f_extra f_measured f_known fm f_sum a_left a_size a_right a_text a_ops a_constants ah a_many a_chosen a_firstEnd a_secondEnd a_values a_nodes a_far a_productive a_useful a_covers := by
  have hL := cp_G_L G
  have ok := cp_G_ok G
  have fin : ∀ r fm ah, yk_D29 g L r fm ah → (∀ n a b, yk_ok L n a b → gm_Ht g n a b ≤ r - 1) → yk_Ht g L ah := fun r fm ah hI hz => ⟨fun n a b hc => by
    have := hI.1 n a b hc
    unfold yk_hc at this
    rw [if_pos (hz n a b hc)] at this; exact this, hI.2.2.2⟩
  intro d
  induction d with
  | zero =>
    intro r fm ah hrd hr hI
    rw [wY_derive_29]
    have hz : ∀ n a b, yk_ok L n a b → gm_Ht g n a b ≤ r - 1 := fun n a b hc => by
      have := gm_Ht_B (g := g) (n := n) (i := a) (j := b) ok (by have := hc.2.2; omega)
      omega
    refine pk_le 981 r (fun z => absurd z (by omega)) (fun _ => br_c (fun _ => h fm ah (fin r fm ah hI hz)) (fun e => ?_))
    rcases hI.2.2.1 e with w | ⟨n, a, b, hc, w⟩
    · omega
    · have := gm_Ht_B (g := g) (n := n) (i := a) (j := b) ok (by have := hc.2.2; omega)
      omega
  | succ d ih =>
    intro r fm ah hrd hr hI
    rw [wY_derive_29]
    refine pk_le 981 r (fun z => absurd z (by omega)) (fun _ => br_c (fun e => h fm ah (fin r fm ah hI (hI.2.1 e))) (fun e => ⟨L + 1 + 1, ?_⟩))
    refine ys_derive_50 G hl hr (by omega) (fun fm' ah' hI' => ih (r + 1) fm' ah' (by omega) (by omega) ⟨fun n a b hc => ?_, fun z n a b hc => ?_, fun z => Or.inr (by rw [Nat.add_sub_cancel]; exact hI'.2.2.1 z), hI'.2.2.2⟩) (L + 1) 0 0 ah (by omega) ⟨fun n a b hc => ⟨fun z => absurd z (by unfold yk_Dn; omega), fun _ => hI.1 n a b hc⟩, fun _ n a b hc z => absurd z (by unfold yk_Dn; omega), fun z => absurd rfl z, hI.2.2.2⟩
    · rw [Nat.add_sub_cancel]
      exact (hI'.1 n a b hc).1 (by have := hc.2.1; have := hc.2.2; unfold yk_Dn; omega)
    · rw [Nat.add_sub_cancel]
      have := gm_Ht_top ok hr (fun n a b hc => hI'.2.1 z n a b hc (by have := hc.2.1; have := hc.2.2; unfold yk_Dn; omega)) n a b hc
      omega
theorem ys_derive {post : SY → Prop} (G : cp_G g L a_right a_size a_text) (hl : yk_L g a_left)
    (h : ∀ fm ah, yk_Ht g L ah → post (nI (gm_P g), nI L, f_goal, f_extra, f_measured, f_known, fm, f_sum, a_left, a_size, a_right, a_text, a_ops, a_constants, ah, a_many, a_chosen, a_firstEnd, a_secondEnd, a_values, a_nodes, a_far, a_productive, a_useful, a_covers)) : wpY_derive post (nI (gm_P g), nI L, f_goal, f_extra, f_measured, f_known, f_more, f_sum, a_left, a_size, a_right, a_text, a_ops, a_constants, a_heights, a_many, a_chosen, a_firstEnd, a_secondEnd, a_values, a_nodes, a_far, a_productive, a_useful, a_covers) := by
  have hL := cp_G_L G
  have ok := cp_G_ok G
  have lp : ∀ d c ah, c + d = 980 → (∀ y, y < c → ah y = 0) → wY_derive_2 post (nI (gm_P g)) (nI L) f_goal f_extra f_measured f_known f_more f_sum (d + 1) (nI c) a_left a_size a_right a_text a_ops a_constants ah a_many a_chosen a_firstEnd a_secondEnd a_values a_nodes a_far a_productive a_useful a_covers := by
    intro d
    induction d with
    | zero =>
      intro c ah hc hz
      rw [wY_derive_2]
      have e : c = 980 := by omega
      subst e
      refine pk_le 980 980 (fun _ => ⟨57, ys_derive_29 G hl h 56 1 1 ah rfl (by omega) ⟨fun n a b hc => ?_, fun z => absurd z (by decide), fun _ => Or.inl rfl, fun c hc _ => hz c hc⟩⟩) (fun z => absurd z (by omega))
      obtain ⟨q1, q2, q3⟩ := hc
      rw [hz _ (by omega)]
      unfold yk_hc
      by_cases w : gm_Ht g n a b ≤ 1 - 1
      · rw [if_pos w, show gm_Ht g n a b = 0 by omega]; rfl
      · rw [if_neg w]; rfl
    | succ d ih =>
      intro c ah hc hz
      rw [wY_derive_2]
      refine pk_le 980 c (fun z => absurd z (by omega)) (fun _ => ?_)
      rw [nI_clamp (show c < 2 ^ 31 by omega)]
      refine ⟨vp_in_nI (by omega) (by omega), nm_e (nm_r (nI_1 _) (ih (c + 1) _ (by omega) fun y hy => ?_))⟩
      by_cases e : y = c
      · subst e; exact pk_us
      · rw [pk_un e]; exact hz y (by omega)
  unfold wpY_derive
  exact ⟨981, lp 980 0 a_heights rfl fun y hy => absurd hy (by omega)⟩
end
end
section
/-! Y: added -/
def yk_kn (am : Nat → Int64) (n a b : Nat) : Prop := am (196 * n + 14 * a + b) ≠ 0
def yk_Mn (g : gm_G) (L : Nat) (am : Nat → Int64) : Prop := ∀ n a b, yk_ok L n a b → am (196 * n + 14 * a + b) = 0 ∨ (gm_F g n a b ∧ 0 < gm_M g n a b ∧ am (196 * n + 14 * a + b) = lN (gm_M g n a b))
theorem cp_cap2 {s x y z : Nat} : min (min 1000000000 s + min (min (x * y) 1000000000 * z) 1000000000) 1000000000 = min 1000000000 (s + x * y * z) := by
  rw [← cp_cap]
  generalize min (x * y) 1000000000 * z = w
  omega
noncomputable def yk_S2 (g : gm_G) (p i j : Nat) (S : Nat → Nat → Prop) : Nat := sm_S (fun u => sm_S (fun v => cp_b (S u v) * gm_tm g (gm_M g) p i u v j) (j + 1)) (j + 1)
def yk_D2 (u0 v0 u v : Nat) : Prop := u < u0 ∨ (u = u0 ∧ v < v0)
section
variable {g : gm_G} {p i j u v k m : Nat} {S S' : Nat → Nat → Prop}
theorem yk_S2_cong (h : ∀ u v, gm_Dv g (gm_D g) p i u v j → (S u v ↔ S' u v)) : yk_S2 g p i j S = yk_S2 g p i j S' := by
  refine sm_eq fun u _ => sm_eq fun v _ => ?_
  rcases Classical.em (gm_Dv g (gm_D g) p i u v j) with w | w
  · rw [cp_b_iff (h u v w)]
  · rw [gm_tm_0 w, Nat.mul_zero, Nat.mul_zero]
theorem yk_S2_0 (h : ∀ u v, gm_Dv g (gm_D g) p i u v j → ¬ S u v) : yk_S2 g p i j S = 0 := by
  refine sm_zero fun u _ => sm_zero fun v _ => ?_
  rcases Classical.em (gm_Dv g (gm_D g) p i u v j) with w | w
  · rw [cp_b_f (h u v w), Nat.zero_mul]
  · rw [gm_tm_0 w, Nat.mul_zero]
theorem yk_S2_all (h : ∀ u v, gm_Dv g (gm_D g) p i u v j → S u v) : yk_S2 g p i j S = sm_S (fun u => sm_S (fun v => gm_tm g (gm_M g) p i u v j) (j + 1)) (j + 1) := by
  refine sm_eq fun u _ => sm_eq fun v _ => ?_
  rcases Classical.em (gm_Dv g (gm_D g) p i u v j) with w | w
  · rw [cp_b_t (h u v w), Nat.one_mul]
  · rw [gm_tm_0 w, Nat.mul_zero]
theorem yk_S2_add (hk : k ≤ j) (hm : m ≤ j) : yk_S2 g p i j (yk_D2 k (m + 1)) = yk_S2 g p i j (yk_D2 k m) + gm_tm g (gm_M g) p i k m j := by
  refine sm_add1 (k0 := k) (fun u hu => ?_) ?_ (by omega)
  · refine sm_eq fun v _ => ?_
    rw [cp_b_iff (show yk_D2 k (m + 1) u v ↔ yk_D2 k m u v by unfold yk_D2; omega)]
  · refine sm_add1 (k0 := m) (fun v hv => ?_) ?_ (by omega)
    · rw [cp_b_iff (show yk_D2 k (m + 1) k v ↔ yk_D2 k m k v by unfold yk_D2; omega)]
    · rw [cp_b_t (show yk_D2 k (m + 1) k m by unfold yk_D2; omega), cp_b_f (show ¬ yk_D2 k m k m by unfold yk_D2; omega)]
      omega
end
section
variable {g : gm_G} {L : Nat} {f_goal f_extra f_measured f_known f_more : Int32} {a_left a_size a_right a_text a_ops a_constants a_heights a_chosen a_firstEnd a_secondEnd a_far a_productive a_useful a_covers : Nat → Int32} {a_many a_values a_nodes : Nat → Int64} {f_sum : Int64} {c i j p n k m a b r u v : Nat}
theorem ys_capped {post : Int64 → Prop} {x : Nat} (hx : x < 2 ^ 63) (h : post (lN (min x 1000000000))) : wpY_capped post (nI (gm_P g), nI L, f_goal, f_extra, f_measured, f_known, f_more, f_sum, a_left, a_size, a_right, a_text, a_ops, a_constants, a_heights, a_many, a_chosen, a_firstEnd, a_secondEnd, a_values, a_nodes, a_far, a_productive, a_useful, a_covers) (lN x) := by
  unfold wpY_capped
  dsimp only
  rw [cp_1e9]
  refine br_i (pk_lLE (by omega) hx) (fun z => ?_) (fun z => ?_)
  · rw [Nat.min_eq_right z] at h; exact h
  · rw [Nat.min_eq_left (by omega)] at h; exact h
theorem ys_number {post : Int64 → Prop} (hc : c < 15) (ha : a ≤ 10) (hb : b ≤ 10) (h : post (if 10 ≤ c then a_many (196 * (c - 10) + 14 * a + b) else 1)) : wpY_number post (nI (gm_P g), nI L, f_goal, f_extra, f_measured, f_known, f_more, f_sum, a_left, a_size, a_right, a_text, a_ops, a_constants, a_heights, a_many, a_chosen, a_firstEnd, a_secondEnd, a_values, a_nodes, a_far, a_productive, a_useful, a_covers) (cp_Sy c) (nI a) (nI b) := by
  unfold wpY_number
  refine br_i (cp_Sy_ge10 hc) (fun z => ys_cell z ?_) (fun z => ?_)
  · rw [if_pos z] at h
    rw [nI_clamp (show 196 * (c - 10) + 14 * a + b < 2 ^ 31 by omega)]
    exact ⟨vp_in_nI (by omega) (by omega), h⟩
  · rw [if_neg z] at h; exact h
theorem yk_nv (hM : yk_Mn g L a_many) (hc : c < 15) (hab : a ≤ b) (hb : b ≤ L) (hk : gm_Sf (yk_kn a_many) c a b) : (if 10 ≤ c then a_many (196 * (c - 10) + 14 * a + b) else 1) = lN (gm_Mp (gm_M g) c a b) ∧ gm_Mp (gm_M g) c a b ≤ 1000000000 ∧ 0 < gm_Mp (gm_M g) c a b := by
  unfold gm_Mp
  by_cases h10 : 10 ≤ c
  · rw [if_pos h10, if_pos h10]
    rcases hM (c - 10) a b ⟨by omega, hab, hb⟩ with z | z
    · exact absurd z (hk h10)
    · exact ⟨z.2.2, gm_M_le, z.2.1⟩
  · rw [if_neg h10, if_neg h10]
    exact ⟨rfl, by omega, by omega⟩
theorem ys_added {post : Int32 → SY → Prop} {s0 : Nat} (G : cp_G g L a_right a_size a_text) (H : yk_H L a_heights 1000 (gm_D g)) (hM : yk_Mn g L a_many) (hp : p < gm_P g) (hij : i ≤ j) (hj : j ≤ L)
    (h1 : (∀ u v, gm_Dv g (gm_D g) p i u v j → xk_Pt g (yk_kn a_many) p i u v j) → post 1 (nI (gm_P g), nI L, f_goal, f_extra, f_measured, f_known, f_more, lN (min 1000000000 (s0 + sm_S (fun u => sm_S (fun v => gm_tm g (gm_M g) p i u v j) (j + 1)) (j + 1))), a_left, a_size, a_right, a_text, a_ops, a_constants, a_heights, a_many, a_chosen, a_firstEnd, a_secondEnd, a_values, a_nodes, a_far, a_productive, a_useful, a_covers))
    (h0 : ∀ fs, (¬ ∀ u v, gm_Dv g (gm_D g) p i u v j → xk_Pt g (yk_kn a_many) p i u v j) → post 0 (nI (gm_P g), nI L, f_goal, f_extra, f_measured, f_known, f_more, fs, a_left, a_size, a_right, a_text, a_ops, a_constants, a_heights, a_many, a_chosen, a_firstEnd, a_secondEnd, a_values, a_nodes, a_far, a_productive, a_useful, a_covers)) : wpY_added post (nI (gm_P g), nI L, f_goal, f_extra, f_measured, f_known, f_more, lN (min 1000000000 s0), a_left, a_size, a_right, a_text, a_ops, a_constants, a_heights, a_many, a_chosen, a_firstEnd, a_secondEnd, a_values, a_nodes, a_far, a_productive, a_useful, a_covers) (nI p) (nI i) (nI j) := by
  have h12 := cp_G_P G
  have hL := cp_G_L G
  have ok := cp_G_ok G
  have c0 : gm_s g (3 * p) < 15 := gm_ok_15 ok hp (show 0 < 3 by omega)
  have c1 := gm_ok_15 ok hp (show 1 < 3 by omega)
  have c2 := gm_ok_15 ok hp (show 2 < 3 by omega)
  have z0 : 0 < gm_sz g p ↔ gm_s g (3 * p) ≠ 9 := gm_sz_lt ok hp (show 0 < 3 by omega)
  have z1 := gm_sz_lt ok hp (show 1 < 3 by omega)
  have z2 := gm_sz_lt ok hp (show 2 < 3 by omega)
  have hs3 := gm_sz_le g p
  have inner : ∀ (J : Int32 → Int64 → Prop) u, i ≤ u → u ≤ j → ((∀ u' v', yk_D2 (u + 1) (u + 1) u' v' → gm_Dv g (gm_D g) p i u' v' j → xk_Pt g (yk_kn a_many) p i u' v' j) → J (nI (u + 1)) (lN (min 1000000000 (s0 + yk_S2 g p i j (yk_D2 (u + 1) (u + 1)))))) →
      ∀ d v, v + d = j + 1 → u ≤ v → (∀ u' v', yk_D2 u v u' v' → gm_Dv g (gm_D g) p i u' v' j → xk_Pt g (yk_kn a_many) p i u' v' j) → wY_added_13 post J (nI p) (nI i) (nI j) (nI u) (nI (gm_P g)) (nI L) f_goal f_extra f_measured f_known f_more a_left a_size a_right a_text a_ops a_constants a_heights a_many a_chosen a_firstEnd a_secondEnd a_values a_nodes a_far a_productive a_useful a_covers (d + 1) (nI v) (lN (min 1000000000 (s0 + yk_S2 g p i j (yk_D2 u v)))) := by
    intro J u hiu huj hJ d
    induction d with
    | zero =>
      intro v hv huv hk
      rw [wY_added_13]
      refine pk_lt j v (fun _ => nm_r (nI_1 _) ?_) (fun z => absurd z (by omega))
      rw [yk_S2_cong (S' := yk_D2 (u + 1) (u + 1)) fun u' v' hd => by
        have := hd.2.1; have := hd.2.2.1; unfold yk_D2; omega]
      exact hJ fun u' v' hS hd => hk u' v' (by have := hd.2.1; have := hd.2.2.1; unfold yk_D2 at hS ⊢; omega) hd
    | succ d ih =>
      intro v hv huv hk
      have w132 : gm_Dv g (gm_D g) p i u v j → ∀ x6 x8 x0 : Int64, x6 = (if 10 ≤ gm_s g (3 * p) then a_many (196 * (gm_s g (3 * p) - 10) + 14 * i + u) else 1) → x8 = (if 10 ≤ gm_s g (3 * p + 1) then a_many (196 * (gm_s g (3 * p + 1) - 10) + 14 * u + v) else 1) → x0 = (if 10 ≤ gm_s g (3 * p + 2) then a_many (196 * (gm_s g (3 * p + 2) - 10) + 14 * v + j) else 1) →
          wY_added_132 post J (wY_added_13 post J (nI p) (nI i) (nI j) (nI u) (nI (gm_P g)) (nI L) f_goal f_extra f_measured f_known f_more a_left a_size a_right a_text a_ops a_constants a_heights a_many a_chosen a_firstEnd a_secondEnd a_values a_nodes a_far a_productive a_useful a_covers (d + 1)) (nI p) (nI i) (nI j) (nI u) (nI v) x6 x8 x0 (nI (gm_P g)) (nI L) f_goal f_extra f_measured f_known f_more (lN (min 1000000000 (s0 + yk_S2 g p i j (yk_D2 u v)))) a_left a_size a_right a_text a_ops a_constants a_heights a_many a_chosen a_firstEnd a_secondEnd a_values a_nodes a_far a_productive a_useful a_covers := by
        intro hd x6 x8 x0 e6 e8 e0
        have bad : ∀ {c a b} {x : Int64}, x = (if 10 ≤ c then a_many (196 * (c - 10) + 14 * a + b) else 1) → x = 0 → ¬ gm_Sf (yk_kn a_many) c a b := by
          intro c a b x e ez hs
          by_cases h10 : 10 ≤ c
          · rw [if_pos h10] at e; exact hs h10 (e.symm.trans ez)
          · rw [if_neg h10] at e; exact absurd (e.symm.trans ez) (by decide)
        have good : ∀ {c a b} {x : Int64}, x = (if 10 ≤ c then a_many (196 * (c - 10) + 14 * a + b) else 1) → ¬ x = 0 → gm_Sf (yk_kn a_many) c a b := by
          intro c a b x e ez h10
          rw [if_pos h10] at e
          exact fun w => ez (e.trans w)
        unfold wY_added_132
        refine br_c (fun q => h0 _ fun w => bad e6 q (w u v hd).1) (fun q6 => br_c (fun q => h0 _ fun w => bad e8 q (w u v hd).2.1) (fun q8 => br_c (fun q => h0 _ fun w => bad e0 q (w u v hd).2.2) (fun q0 => ?_)))
        have hPt : xk_Pt g (yk_kn a_many) p i u v j := ⟨good e6 q6, good e8 q8, good e0 q0⟩
        obtain ⟨n0, l0, -⟩ := yk_nv hM c0 hiu (show u ≤ L by omega) hPt.1
        obtain ⟨n1, l1, -⟩ := yk_nv hM c1 huv (show v ≤ L by omega) hPt.2.1
        obtain ⟨n2, l2, -⟩ := yk_nv hM c2 (show v ≤ j by omega) hj hPt.2.2
        rw [e6, e8, e0, n0, n1, n2, lN_mul]
        have m1 := cp_mulle l0 l1
        refine ys_capped (by omega) ?_
        rw [lN_mul]
        have m2 := cp_mulle (Nat.min_le_right (gm_Mp (gm_M g) (gm_s g (3 * p)) i u * gm_Mp (gm_M g) (gm_s g (3 * p + 1)) u v) 1000000000) l2
        refine ys_capped (by omega) ?_
        rw [lN_add]
        refine ys_capped (by omega) (nm_r (nI_1 _) ?_)
        rw [cp_cap2, ← gm_tm_1 hd, Nat.add_assoc, ← yk_S2_add huj (show v ≤ j by omega)]
        refine ih (v + 1) (by omega) (by omega) fun u' v' hS hd' => ?_
        by_cases e : u' = u ∧ v' = v
        · obtain ⟨rfl, rfl⟩ := e; exact hPt
        · exact hk u' v' (by unfold yk_D2 at hS ⊢; omega) hd'
      have w99 : gm_Dv g (gm_D g) p i u v j → ∀ x6 x8 : Int64, x6 = (if 10 ≤ gm_s g (3 * p) then a_many (196 * (gm_s g (3 * p) - 10) + 14 * i + u) else 1) → x8 = (if 10 ≤ gm_s g (3 * p + 1) then a_many (196 * (gm_s g (3 * p + 1) - 10) + 14 * u + v) else 1) →
          wY_added_99 post J (wY_added_13 post J (nI p) (nI i) (nI j) (nI u) (nI (gm_P g)) (nI L) f_goal f_extra f_measured f_known f_more a_left a_size a_right a_text a_ops a_constants a_heights a_many a_chosen a_firstEnd a_secondEnd a_values a_nodes a_far a_productive a_useful a_covers (d + 1)) (nI p) (nI i) (nI j) (nI u) (nI v) x6 x8 (nI (gm_P g)) (nI L) f_goal f_extra f_measured f_known f_more (lN (min 1000000000 (s0 + yk_S2 g p i j (yk_D2 u v)))) a_left a_size a_right a_text a_ops a_constants a_heights a_many a_chosen a_firstEnd a_secondEnd a_values a_nodes a_far a_productive a_useful a_covers := by
        intro hd x6 x8 e6 e8
        unfold wY_added_99
        rw [nI_clamp (show p < 2 ^ 31 by omega), cp_G_sz G hp, ix_32, nI_clamp (show 3 * p + 2 < 2 ^ 31 by omega), cp_G_rt G hp (show 2 < 3 by omega)]
        refine ⟨vp_in_nI (by omega) (by omega), pk_le 3 (gm_sz g p) (fun q => ⟨vp_in_nI (by omega) (by omega), ys_number c2 (by omega) (by omega) (w132 hd _ _ _ e6 e8 rfl)⟩) (fun q => w132 hd _ _ _ e6 e8 ?_)⟩
        have : gm_s g (3 * p + 2) = 9 := Classical.byContradiction fun w => by have := z2.mpr w; omega
        rw [if_neg (by omega)]
      have w65 : gm_Dv g (gm_D g) p i u v j → ∀ x6 : Int64, x6 = (if 10 ≤ gm_s g (3 * p) then a_many (196 * (gm_s g (3 * p) - 10) + 14 * i + u) else 1) →
          wY_added_65 post J (wY_added_13 post J (nI p) (nI i) (nI j) (nI u) (nI (gm_P g)) (nI L) f_goal f_extra f_measured f_known f_more a_left a_size a_right a_text a_ops a_constants a_heights a_many a_chosen a_firstEnd a_secondEnd a_values a_nodes a_far a_productive a_useful a_covers (d + 1)) (nI p) (nI i) (nI j) (nI u) (nI v) x6 (nI (gm_P g)) (nI L) f_goal f_extra f_measured f_known f_more (lN (min 1000000000 (s0 + yk_S2 g p i j (yk_D2 u v)))) a_left a_size a_right a_text a_ops a_constants a_heights a_many a_chosen a_firstEnd a_secondEnd a_values a_nodes a_far a_productive a_useful a_covers := by
        intro hd x6 e6
        unfold wY_added_65
        rw [nI_clamp (show p < 2 ^ 31 by omega), cp_G_sz G hp, ix_31, nI_clamp (show 3 * p + 1 < 2 ^ 31 by omega), cp_G_rt G hp (show 1 < 3 by omega)]
        refine ⟨vp_in_nI (by omega) (by omega), pk_le 2 (gm_sz g p) (fun q => ⟨vp_in_nI (by omega) (by omega), ys_number c1 (by omega) (by omega) (w99 hd _ _ e6 rfl)⟩) (fun q => w99 hd _ _ e6 ?_)⟩
        have : gm_s g (3 * p + 1) = 9 := Classical.byContradiction fun w => by have := z1.mpr w; omega
        rw [if_neg (by omega)]
      rw [wY_added_13]; dsimp only
      refine pk_lt j v (fun z => absurd z (by omega)) (fun _ => ys_fits (r := 1000) G H (by omega) hp hiu huv (by omega) hj (fun hd => br_f (by decide) ?_) (fun hd => br_t rfl (nm_r (nI_1 _) ?_)))
      · rw [nI_clamp (show p < 2 ^ 31 by omega), cp_G_sz G hp, ix_3, nI_clamp (show 3 * p < 2 ^ 31 by omega), cp_G_r0 G hp]
        refine ⟨vp_in_nI (by omega) (by omega), pk_le 1 (gm_sz g p) (fun q => ⟨vp_in_nI (by omega) (by omega), ys_number c0 (by omega) (by omega) (w65 hd _ rfl)⟩) (fun q => w65 hd _ ?_)⟩
        have : gm_s g (3 * p) = 9 := Classical.byContradiction fun w => by have := z0.mpr w; omega
        rw [if_neg (by omega)]
      · have e := yk_S2_cong (g := g) (p := p) (i := i) (j := j) (S := yk_D2 u v) (S' := yk_D2 u (v + 1)) fun u' v' hd' => by
          have hne : u' = u → v' ≠ v := fun e1 e2 => hd (by subst e1; subst e2; exact hd')
          unfold yk_D2; omega
        rw [e]
        refine ih (v + 1) (by omega) (by omega) fun u' v' hS hd' => ?_
        by_cases e : u' = u ∧ v' = v
        · obtain ⟨rfl, rfl⟩ := e; exact absurd hd' hd
        · exact hk u' v' (by unfold yk_D2 at hS ⊢; omega) hd'
  have outer : ∀ d u, u + d = j + 1 → i ≤ u → (∀ u' v', yk_D2 u u u' v' → gm_Dv g (gm_D g) p i u' v' j → xk_Pt g (yk_kn a_many) p i u' v' j) → wY_added_3 post (nI p) (nI i) (nI j) (nI (gm_P g)) (nI L) f_goal f_extra f_measured f_known f_more a_left a_size a_right a_text a_ops a_constants a_heights a_many a_chosen a_firstEnd a_secondEnd a_values a_nodes a_far a_productive a_useful a_covers (d + 1) (nI u) (lN (min 1000000000 (s0 + yk_S2 g p i j (yk_D2 u u)))) := by
    intro d
    induction d with
    | zero =>
      intro u hu hiu hk
      rw [wY_added_3]
      refine pk_lt j u (fun _ => ?_) (fun z => absurd z (by omega))
      have all : ∀ u' v', gm_Dv g (gm_D g) p i u' v' j → yk_D2 u u u' v' := fun u' v' hd => by have := hd.2.1; have := hd.2.2.1; unfold yk_D2; omega
      rw [yk_S2_all all]
      exact h1 fun u' v' hd => hk u' v' (all u' v' hd) hd
    | succ d ih =>
      intro u hu hiu hk
      rw [wY_added_3]
      exact pk_lt j u (fun z => absurd z (by omega)) (fun _ => ⟨j + 1 - u + 1, inner _ u hiu (by omega) (fun hk' => ih (u + 1) (by omega) (by omega) hk') (j + 1 - u) u (by omega) (Nat.le_refl _) hk⟩)
  unfold wpY_added
  have o := outer (j + 1 - i) i (by omega) (Nat.le_refl _) fun u' v' hS hd => by have := hd.1; have := hd.2.1; unfold yk_D2 at hS; omega
  rw [yk_S2_0 fun u' v' hd => by have := hd.1; have := hd.2.1; unfold yk_D2; omega, Nat.add_zero] at o
  exact ⟨_, o⟩
end
end
section
/-! Y: count -/
def yk_AK (g : gm_G) (am : Nat → Int64) (n i j : Nat) : Prop := ∀ p u v, p < gm_P g → gm_l g p = n → gm_Dv g (gm_D g) p i u v j → xk_Pt g (yk_kn am) p i u v j
def yk_ms (am : Nat → Int64) : Nat := sm_S (fun c => if am c = 0 then 1 else 0) 980
theorem yk_ms_u {am : Nat → Int64} {c : Nat} {w : Int64} (hc : c < 980) (h : am c = 0) (hw : w ≠ 0) : yk_ms (vp_updL am c w) < yk_ms am := by
  refine sm_lt (a := c) ?_ (fun k _ => ?_) hc
  · show (if vp_updL am c w c = 0 then 1 else 0) < (if am c = 0 then 1 else 0)
    rw [pk_uLs, if_neg hw, if_pos h]; omega
  · show (if vp_updL am c w k = 0 then 1 else 0) ≤ (if am k = 0 then 1 else 0)
    by_cases e : k = c
    · subst e; rw [pk_uLs, if_neg hw]; omega
    · rw [pk_uLn e]; exact Nat.le_refl _
def yk_Cn (g : gm_G) (L : Nat) (am0 : Nat → Int64) (i0 j0 n0 : Nat) (fm : Int32) (am : Nat → Int64) : Prop :=
  yk_Mn g L am ∧ (fm = 0 → am = am0 ∧ ∀ n a b, yk_ok L n a b → yk_Dn i0 j0 n0 n a b → gm_D g n a b → am0 (196 * n + 14 * a + b) = 0 → ¬ yk_AK g am0 n a b) ∧ (fm ≠ 0 → yk_ms am < yk_ms am0) ∧ yk_ms am ≤ yk_ms am0
theorem yk_Cn_m {g : gm_G} {L : Nat} {am0 am : Nat → Int64} {i0 j0 n0 i1 j1 n1 : Nat} {fm : Int32} (h : yk_Cn g L am0 i0 j0 n0 fm am) (hd : ∀ n a b, yk_ok L n a b → yk_Dn i1 j1 n1 n a b → yk_Dn i0 j0 n0 n a b) : yk_Cn g L am0 i1 j1 n1 fm am :=
  ⟨h.1, fun z => ⟨(h.2.1 z).1, fun n a b hc hD => (h.2.1 z).2 n a b hc (hd n a b hc hD)⟩, h.2.2⟩
/-- numbers as they are -/
def yk_Mf (g : gm_G) (L : Nat) (am : Nat → Int64) : Prop := ∀ n a b, yk_ok L n a b → (gm_F g n a b → am (196 * n + 14 * a + b) = lN (gm_M g n a b)) ∧ (¬ gm_F g n a b → am (196 * n + 14 * a + b) = 0)
theorem yk_Mf_of {g : gm_G} {L : Nat} {am : Nat → Int64} (ok : gm_ok g) (hM : yk_Mn g L am) (hc : ∀ n a b, yk_ok L n a b → gm_D g n a b → am (196 * n + 14 * a + b) = 0 → ¬ yk_AK g am n a b) : yk_Mf g L am := by
  intro n a b hk
  refine ⟨fun hf => ?_, fun hf => ?_⟩
  · have key : ∀ n a b, gm_F g n a b → yk_ok L n a b → gm_D g n a b → am (196 * n + 14 * a + b) ≠ 0 := by
      intro n a b hf
      refine gm_F_ind (Q := fun n a b => yk_ok L n a b → gm_D g n a b → am (196 * n + 14 * a + b) ≠ 0) (fun n a b hf ih hk hD hz => hc n a b hk hD hz fun p u v hp hl hd => ?_) hf
      obtain ⟨x, y, z⟩ := gm_F_inv hf hp hl hd
      have c0 : gm_s g (3 * p) < 15 := gm_ok_15 ok hp (show 0 < 3 by omega)
      have c1 := gm_ok_15 ok hp (show 1 < 3 by omega)
      have c2 := gm_ok_15 ok hp (show 2 < 3 by omega)
      obtain ⟨d1, d2, d3, sa, sb, sc⟩ := hd
      have hb := hk.2.2
      exact ⟨fun h10 => ih _ _ _ (x h10).1 (x h10).2 ⟨by omega, by omega, by omega⟩ ((gm_Sp_n h10).mp sa), fun h10 => ih _ _ _ (y h10).1 (y h10).2 ⟨by omega, by omega, by omega⟩ ((gm_Sp_n h10).mp sb), fun h10 => ih _ _ _ (z h10).1 (z h10).2 ⟨by omega, by omega, by omega⟩ ((gm_Sp_n h10).mp sc)⟩
    rcases Classical.em (gm_D g n a b) with hD | hD
    · rcases hM n a b hk with z | z
      · exact absurd z (key n a b hf hk hD)
      · exact z.2.2
    · have h0 := (gm_M_0 hD).2
      rcases hM n a b hk with z | z
      · rw [z, h0]; rfl
      · exact z.2.2
  · rcases hM n a b hk with z | z
    · exact z
    · exact absurd z.1 hf
section
variable {g : gm_G} {L : Nat} {f_goal f_extra f_measured f_known f_more : Int32} {a_left a_size a_right a_text a_ops a_constants a_heights a_chosen a_firstEnd a_secondEnd a_far a_productive a_useful a_covers : Nat → Int32} {a_many a_values a_nodes : Nat → Int64} {f_sum : Int64} {c i j p n k m a b r u v : Nat} {am0 : Nat → Int64}
theorem ys_cS_51 {post : SY → Prop} {J : Int32 → Int32 → Int32 → Int32 → Int32 → Int32 → Int32 → Int32 → Int64 → (Nat → Int32) → (Nat → Int32) → (Nat → Int32) → (Nat → Int32) → (Nat → Int32) → (Nat → Int32) → (Nat → Int32) → (Nat → Int64) → (Nat → Int32) → (Nat → Int32) → (Nat → Int32) → (Nat → Int64) → (Nat → Int64) → (Nat → Int32) → (Nat → Int32) → (Nat → Int32) → (Nat → Int32) → Prop} (G : cp_G g L a_right a_size a_text) (hl : yk_L g a_left) (H : yk_H L a_heights 1000 (gm_D g)) (hM : yk_Mn g L a_many) (hn : n < 5) (hij : i ≤ j) (hj : j ≤ L)
    (hY : yk_AK g a_many n i j → ∀ fs, J (nI (n + 1 + 10)) (nI (gm_P g)) (nI L) f_goal f_extra f_measured f_known 1 fs a_left a_size a_right a_text a_ops a_constants a_heights (vp_updL a_many (196 * n + 14 * i + j) (lN (gm_Ms g (gm_M g) n i j))) a_chosen a_firstEnd a_secondEnd a_values a_nodes a_far a_productive a_useful a_covers)
    (hN : ¬ yk_AK g a_many n i j → ∀ fs, J (nI (n + 1 + 10)) (nI (gm_P g)) (nI L) f_goal f_extra f_measured f_known f_more fs a_left a_size a_right a_text a_ops a_constants a_heights a_many a_chosen a_firstEnd a_secondEnd a_values a_nodes a_far a_productive a_useful a_covers) :
    ∀ d p, p + d = gm_P g → ((∀ q u v, q < p → gm_l g q = n → gm_Dv g (gm_D g) q i u v j → xk_Pt g (yk_kn a_many) q i u v j) → wY_countSpan_51 post J (nI i) (nI j) (nI (n + 10)) (nI (196 * n + 14 * i + j)) (d + 1) 1 (nI p) (nI (gm_P g)) (nI L) f_goal f_extra f_measured f_known f_more (lN (min 1000000000 (sm_S (fun q => gm_tp g (gm_M g) n q i j) p))) a_left a_size a_right a_text a_ops a_constants a_heights a_many a_chosen a_firstEnd a_secondEnd a_values a_nodes a_far a_productive a_useful a_covers) ∧
      (¬ yk_AK g a_many n i j → ∀ fs, wY_countSpan_51 post J (nI i) (nI j) (nI (n + 10)) (nI (196 * n + 14 * i + j)) (d + 1) 0 (nI p) (nI (gm_P g)) (nI L) f_goal f_extra f_measured f_known f_more fs a_left a_size a_right a_text a_ops a_constants a_heights a_many a_chosen a_firstEnd a_secondEnd a_values a_nodes a_far a_productive a_useful a_covers) := by
  have h12 := cp_G_P G
  have hL := cp_G_L G
  have ok := cp_G_ok G
  have bad : ¬ yk_AK g a_many n i j → ∀ fs, wY_countSpan_100 post J (nI i) (nI j) (nI (n + 10)) (nI (196 * n + 14 * i + j)) 0 (nI (gm_P g)) (nI L) f_goal f_extra f_measured f_known f_more fs a_left a_size a_right a_text a_ops a_constants a_heights a_many a_chosen a_firstEnd a_secondEnd a_values a_nodes a_far a_productive a_useful a_covers := by
    intro hk fs
    unfold wY_countSpan_100
    exact br_t rfl (nm_r (by rw [nI_1]) (hN hk fs))
  intro d
  induction d with
  | zero =>
    intro p hp
    refine ⟨fun hk => ?_, fun hk fs => ?_⟩
    · rw [wY_countSpan_51]
      refine pk_le (gm_P g) p (fun _ => ?_) (fun z => absurd z (by omega))
      unfold wY_countSpan_100
      rw [nI_clamp (show 196 * n + 14 * i + j < 2 ^ 31 by omega)]
      have e : p = gm_P g := by omega
      subst e
      exact br_f (by decide) ⟨vp_in_nI (by omega) (by omega), nm_e (nm_r (by rw [nI_1]) (hY (fun q u v hq => hk q u v hq) _))⟩
    · rw [wY_countSpan_51]
      exact pk_le (gm_P g) p (fun _ => bad hk fs) (fun z => absurd z (by omega))
  | succ d ih =>
    intro p hp
    have hp' : p < gm_P g := by omega
    have hl5 := gm_ok_l ok hp'
    obtain ⟨ih1, ih0⟩ := ih (p + 1) (by omega)
    refine ⟨fun hk => ?_, fun hk fs => ?_⟩
    · rw [wY_countSpan_51]
      refine pk_le (gm_P g) p (fun z => absurd z (by omega)) (fun _ => br_f (by decide) ?_)
      rw [nI_clamp (show p < 2 ^ 31 by omega), hl p hp']
      have es : sm_S (fun q => gm_tp g (gm_M g) n q i j) (p + 1) = sm_S (fun q => gm_tp g (gm_M g) n q i j) p + gm_tp g (gm_M g) n p i j := rfl
      rw [es] at ih1
      refine ⟨vp_in_nI (by omega) (by omega), pk_eq (gm_l g p + 10) (n + 10) (fun e => ys_added G H hM hp' hij hj (fun hk1 => br_f (by decide) (nm_r (nI_1 _) ?_)) (fun fs hk1 => br_t rfl (nm_r (nI_1 _) (ih0 (fun w => hk1 fun u v hd => w p u v hp' (by omega) hd) fs)))) (fun e => nm_r (nI_1 _) ?_)⟩
      · have et : gm_tp g (gm_M g) n p i j = sm_S (fun u => sm_S (fun v => gm_tm g (gm_M g) p i u v j) (j + 1)) (j + 1) := by unfold gm_tp; rw [if_pos (by omega)]
        rw [et] at ih1
        refine ih1 fun q u v hq hlq hd => ?_
        by_cases w : q = p
        · subst w; exact hk1 u v hd
        · exact hk q u v (by omega) hlq hd
      · have et : gm_tp g (gm_M g) n p i j = 0 := by unfold gm_tp; rw [if_neg (by omega)]
        rw [et, Nat.add_zero] at ih1
        refine ih1 fun q u v hq hlq hd => ?_
        by_cases w : q = p
        · subst w; exact absurd (by omega) e
        · exact hk q u v (by omega) hlq hd
    · rw [wY_countSpan_51]
      exact pk_le (gm_P g) p (fun z => absurd z (by omega)) (fun _ => br_t rfl (bad hk fs))
theorem ys_cS_3 {post : SY → Prop} (G : cp_G g L a_right a_size a_text) (hl : yk_L g a_left) (hH : yk_Ht g L a_heights) (H : yk_H L a_heights 1000 (gm_D g)) (hij : i ≤ j) (hj : j ≤ L)
    (h : ∀ fm fs am, yk_Cn g L am0 i (j + 1) 0 fm am → post (nI (gm_P g), nI L, f_goal, f_extra, f_measured, f_known, fm, fs, a_left, a_size, a_right, a_text, a_ops, a_constants, a_heights, am, a_chosen, a_firstEnd, a_secondEnd, a_values, a_nodes, a_far, a_productive, a_useful, a_covers)) :
    ∀ d n fm fs am, n + d = 5 → yk_Cn g L am0 i j n fm am → wY_countSpan_3 post (nI i) (nI j) (d + 1) (nI (n + 10)) (nI (gm_P g)) (nI L) f_goal f_extra f_measured f_known fm fs a_left a_size a_right a_text a_ops a_constants a_heights am a_chosen a_firstEnd a_secondEnd a_values a_nodes a_far a_productive a_useful a_covers := by
  have hL := cp_G_L G
  have ok := cp_G_ok G
  intro d
  induction d with
  | zero =>
    intro n fm fs am hn hI
    rw [wY_countSpan_3]
    have e : n = 5 := by omega
    subst e
    exact pk_le 15 (5 + 10) (fun _ => h fm fs am (yk_Cn_m hI fun n a b hc hD => by have := hc.1; unfold yk_Dn at hD ⊢; omega)) (fun z => absurd z (by omega))
  | succ d ih =>
    intro n fm fs am hn hI
    have hc0 : yk_ok L n i j := ⟨by omega, hij, hj⟩
    have hB := gm_Ht_B (g := g) (n := n) (i := i) (j := j) ok (by omega)
    have one : nI (n + 10) + 1 = nI (n + 1 + 10) := by rw [nI_1]
    have stay : (fm = 0 → gm_D g n i j → am0 (196 * n + 14 * i + j) = 0 → ¬ yk_AK g am0 n i j) → yk_Cn g L am0 i j (n + 1) fm am := fun hs =>
      ⟨hI.1, fun z => ⟨(hI.2.1 z).1, fun n' a b hc hD => by
        by_cases e : n' = n ∧ a = i ∧ b = j
        · obtain ⟨rfl, rfl, rfl⟩ := e; exact hs z
        · exact (hI.2.1 z).2 n' a b hc (by unfold yk_Dn at hD ⊢; omega)⟩, hI.2.2⟩
    rw [wY_countSpan_3]
    refine pk_le 15 (n + 10) (fun z => absurd z (by omega)) (fun _ => ys_cellN ?_)
    rw [nI_clamp (show 196 * n + 14 * i + j < 2 ^ 31 by omega), hH.1 n i j hc0]
    refine ⟨vp_in_nI (by omega) (by omega), pk_le (gm_Ht g n i j) 0 (fun z => nm_r one (ih (n + 1) fm fs am (by omega) (stay fun _ hD => absurd (gm_D_iff.mp hD) (by omega)))) (fun z => ⟨vp_in_nI (by omega) (by omega), br_c (fun e => ⟨gm_P g + 1, ?_⟩) (fun e => nm_r one (ih (n + 1) fm fs am (by omega) (stay fun w _ hz => absurd (by rw [(hI.2.1 w).1]; exact hz) e)))⟩)⟩
    have hD : gm_D g n i j := gm_D_iff.mpr (by omega)
    show wY_countSpan_51 post (wY_countSpan_3 post (nI i) (nI j) (d + 1)) (nI i) (nI j) (nI (n + 10)) (nI (196 * n + 14 * i + j)) (gm_P g + 1) 1 (nI 0) (nI (gm_P g)) (nI L) f_goal f_extra f_measured f_known fm (lN (min 1000000000 (sm_S (fun q => gm_tp g (gm_M g) n q i j) 0))) a_left a_size a_right a_text a_ops a_constants a_heights am a_chosen a_firstEnd a_secondEnd a_values a_nodes a_far a_productive a_useful a_covers
    refine (ys_cS_51 (n := n) (post := post) (f_more := fm) (a_many := am) (J := wY_countSpan_3 post (nI i) (nI j) (d + 1)) G hl H hI.1 (by omega) hij hj (fun hk fs' => ?_) (fun hk fs' => ?_) (gm_P g) 0 (by omega)).1 (fun q u v hq => absurd hq (by omega))
    · have hf : gm_F g n i j := gm_F_mk fun p u v hp hl hd => by
        obtain ⟨x, y, w⟩ := hk p u v hp hl hd
        have c0 : gm_s g (3 * p) < 15 := gm_ok_15 ok hp (show 0 < 3 by omega)
        have c1 := gm_ok_15 ok hp (show 1 < 3 by omega)
        have c2 := gm_ok_15 ok hp (show 2 < 3 by omega)
        obtain ⟨d1, d2, d3, -⟩ := hd
        have K : ∀ c a b, c < 15 → a ≤ b → b ≤ L → gm_Sf (yk_kn am) c a b → gm_Sf (gm_F g) c a b := fun c a b hc hab hb hq h10 => by
          rcases hI.1 (c - 10) a b ⟨by omega, hab, hb⟩ with q | q
          · exact absurd q (hq h10)
          · exact q.1
        exact ⟨K _ _ _ c0 (by omega) (by omega) x, K _ _ _ c1 (by omega) (by omega) y, K _ _ _ c2 (by omega) (by omega) w⟩
      rw [← gm_M_eq hf]
      have hpos := gm_M_pos hf hD
      have hle := gm_M_le (g := g) (n := n) (i := i) (j := j)
      have hne : lN (gm_M g n i j) ≠ 0 := fun w => by
        have := (lN_eq (a := gm_M g n i j) (b := 0) (by omega) (by omega)).mp w
        omega
      refine ih (n + 1) 1 fs' _ (by omega) ⟨fun n' a b hc => ?_, fun w => absurd w (by decide), fun _ => ?_, ?_⟩
      · by_cases w : 196 * n' + 14 * a + b = 196 * n + 14 * i + j
        · obtain ⟨rfl, rfl, rfl⟩ := yk_idx hL hc hc0 w
          rw [pk_uLs]; exact Or.inr ⟨hf, hpos, rfl⟩
        · rw [pk_uLn w]; exact hI.1 n' a b hc
      · have := yk_ms_u (am := am) (w := lN (gm_M g n i j)) (show 196 * n + 14 * i + j < 980 by omega) e hne
        have := hI.2.2.2
        omega
      · have := yk_ms_u (am := am) (w := lN (gm_M g n i j)) (show 196 * n + 14 * i + j < 980 by omega) e hne
        have := hI.2.2.2
        omega
    · refine ih (n + 1) fm fs' am (by omega) (stay fun w _ _ => ?_)
      rw [← (hI.2.1 w).1]; exact hk
theorem ys_count_51 {post : SY → Prop} {J27 : Int32 → Int32 → Int32 → Int32 → Int32 → Int32 → Int32 → Int64 → (Nat → Int32) → (Nat → Int32) → (Nat → Int32) → (Nat → Int32) → (Nat → Int32) → (Nat → Int32) → (Nat → Int32) → (Nat → Int64) → (Nat → Int32) → (Nat → Int32) → (Nat → Int32) → (Nat → Int64) → (Nat → Int64) → (Nat → Int32) → (Nat → Int32) → (Nat → Int32) → (Nat → Int32) → Prop} {J41 : Int32 → Int32 → Int32 → Int32 → Int32 → Int32 → Int32 → Int32 → Int64 → (Nat → Int32) → (Nat → Int32) → (Nat → Int32) → (Nat → Int32) → (Nat → Int32) → (Nat → Int32) → (Nat → Int32) → (Nat → Int64) → (Nat → Int32) → (Nat → Int32) → (Nat → Int32) → (Nat → Int64) → (Nat → Int64) → (Nat → Int32) → (Nat → Int32) → (Nat → Int32) → (Nat → Int32) → Prop} (G : cp_G g L a_right a_size a_text) (hl : yk_L g a_left) (hH : yk_Ht g L a_heights) (H : yk_H L a_heights 1000 (gm_D g)) (hiL : i ≤ L)
    (hJ : ∀ fm fs am, yk_Cn g L am0 (i + 1) (i + 1) 0 fm am → J41 (nI (i + 1)) (nI (gm_P g)) (nI L) f_goal f_extra f_measured f_known fm fs a_left a_size a_right a_text a_ops a_constants a_heights am a_chosen a_firstEnd a_secondEnd a_values a_nodes a_far a_productive a_useful a_covers) :
    ∀ d j fm fs am, j + d = L + 1 → i ≤ j → yk_Cn g L am0 i j 0 fm am → wY_count_51 post J27 J41 (nI i) (d + 1) (nI j) (nI (gm_P g)) (nI L) f_goal f_extra f_measured f_known fm fs a_left a_size a_right a_text a_ops a_constants a_heights am a_chosen a_firstEnd a_secondEnd a_values a_nodes a_far a_productive a_useful a_covers := by
  have hL := cp_G_L G
  intro d
  induction d with
  | zero =>
    intro j fm fs am hj hij hI
    rw [wY_count_51]
    exact pk_lt L j (fun _ => nm_r (nI_1 _) (hJ fm fs am (yk_Cn_m hI fun n a b hc hD => by have := hc.2.1; have := hc.2.2; unfold yk_Dn at hD ⊢; omega))) (fun z => absurd z (by omega))
  | succ d ih =>
    intro j fm fs am hj hij hI
    rw [wY_count_51]
    refine pk_lt L j (fun z => absurd z (by omega)) (fun _ => ?_)
    unfold wpY_countSpan
    exact ⟨6, ys_cS_3 G hl hH H hij (by omega) (fun fm' fs' am' hI' => nm_r (nI_1 _) (ih (j + 1) fm' fs' am' (by omega) (by omega) hI')) 5 0 fm fs am rfl hI⟩
theorem ys_count_41 {post : SY → Prop} {J27 : Int32 → Int32 → Int32 → Int32 → Int32 → Int32 → Int32 → Int64 → (Nat → Int32) → (Nat → Int32) → (Nat → Int32) → (Nat → Int32) → (Nat → Int32) → (Nat → Int32) → (Nat → Int32) → (Nat → Int64) → (Nat → Int32) → (Nat → Int32) → (Nat → Int32) → (Nat → Int64) → (Nat → Int64) → (Nat → Int32) → (Nat → Int32) → (Nat → Int32) → (Nat → Int32) → Prop} (G : cp_G g L a_right a_size a_text) (hl : yk_L g a_left) (hH : yk_Ht g L a_heights) (H : yk_H L a_heights 1000 (gm_D g))
    (hJ : ∀ fm fs am, yk_Cn g L am0 (L + 1) (L + 1) 0 fm am → J27 (nI (gm_P g)) (nI L) f_goal f_extra f_measured f_known fm fs a_left a_size a_right a_text a_ops a_constants a_heights am a_chosen a_firstEnd a_secondEnd a_values a_nodes a_far a_productive a_useful a_covers) :
    ∀ d i fm fs am, i + d = L + 1 → yk_Cn g L am0 i i 0 fm am → wY_count_41 post J27 (d + 1) (nI i) (nI (gm_P g)) (nI L) f_goal f_extra f_measured f_known fm fs a_left a_size a_right a_text a_ops a_constants a_heights am a_chosen a_firstEnd a_secondEnd a_values a_nodes a_far a_productive a_useful a_covers := by
  have hL := cp_G_L G
  intro d
  induction d with
  | zero =>
    intro i fm fs am hi hI
    rw [wY_count_41]
    have e : i = L + 1 := by omega
    subst e
    exact pk_lt L (L + 1) (fun _ => hJ fm fs am hI) (fun z => absurd z (by omega))
  | succ d ih =>
    intro i fm fs am hi hI
    rw [wY_count_41]
    exact pk_lt L i (fun z => absurd z (by omega)) (fun _ => ⟨L + 1 - i + 1, ys_count_51 G hl hH H (by omega) (fun fm' fs' am' hI' => ih (i + 1) fm' fs' am' (by omega) hI') (L + 1 - i) i fm fs am (by omega) (Nat.le_refl _) hI⟩)
theorem ys_count_27 {post : SY → Prop} (G : cp_G g L a_right a_size a_text) (hl : yk_L g a_left) (hH : yk_Ht g L a_heights) (H : yk_H L a_heights 1000 (gm_D g))
    (h : ∀ fm fs am, yk_Mf g L am → post (nI (gm_P g), nI L, f_goal, f_extra, f_measured, f_known, fm, fs, a_left, a_size, a_right, a_text, a_ops, a_constants, a_heights, am, a_chosen, a_firstEnd, a_secondEnd, a_values, a_nodes, a_far, a_productive, a_useful, a_covers)) :
    ∀ N fm fs am, yk_ms am < N → yk_Mn g L am → (fm = 0 → yk_Mf g L am) → wY_count_27 post (N + 1) (nI (gm_P g)) (nI L) f_goal f_extra f_measured f_known fm fs a_left a_size a_right a_text a_ops a_constants a_heights am a_chosen a_firstEnd a_secondEnd a_values a_nodes a_far a_productive a_useful a_covers := by
  have ok := cp_G_ok G
  have hL := cp_G_L G
  intro N
  induction N with
  | zero => intro fm fs am h; omega
  | succ N ih =>
    intro fm fs am hN hM hf
    rw [wY_count_27]
    refine br_c (fun e => h fm fs am (hf e)) (fun e => ⟨L + 1 + 1, ys_count_41 (am0 := am) G hl hH H (fun fm' fs' am' hI => ?_) (L + 1) 0 0 fs am (by omega) ⟨hM, fun _ => ⟨rfl, fun n a b hc hD => absurd hD (by unfold yk_Dn; omega)⟩, fun z => absurd rfl z, Nat.le_refl _⟩⟩)
    have fin : fm' = 0 → yk_Mf g L am' := fun z => by
      obtain ⟨e1, e2⟩ := hI.2.1 z
      refine yk_Mf_of ok hI.1 fun n a b hc hD hz => ?_
      rw [e1] at hz ⊢
      exact e2 n a b hc (by have := hc.2.1; have := hc.2.2; unfold yk_Dn; omega) hD hz
    by_cases z : fm' = 0
    · cases N with
      | zero =>
        rw [wY_count_27]
        exact br_t z (h fm' fs' am' (fin z))
      | succ N =>
        rw [wY_count_27]
        exact br_t z (h fm' fs' am' (fin z))
    · exact ih fm' fs' am' (by have := hI.2.2.1 z; omega) hI.1 fin
theorem ys_count {post : SY → Prop} (G : cp_G g L a_right a_size a_text) (hl : yk_L g a_left) (hH : yk_Ht g L a_heights) (H : yk_H L a_heights 1000 (gm_D g))
    (h : ∀ fm fs am, yk_Mf g L am → post (nI (gm_P g), nI L, f_goal, f_extra, f_measured, f_known, fm, fs, a_left, a_size, a_right, a_text, a_ops, a_constants, a_heights, am, a_chosen, a_firstEnd, a_secondEnd, a_values, a_nodes, a_far, a_productive, a_useful, a_covers)) : wpY_count post (nI (gm_P g), nI L, f_goal, f_extra, f_measured, f_known, f_more, f_sum, a_left, a_size, a_right, a_text, a_ops, a_constants, a_heights, a_many, a_chosen, a_firstEnd, a_secondEnd, a_values, a_nodes, a_far, a_productive, a_useful, a_covers) := by
  have hL := cp_G_L G
  have lp : ∀ d c am, c + d = 980 → (∀ y, y < c → am y = 0) → wY_count_2 post (nI (gm_P g)) (nI L) f_goal f_extra f_measured f_known f_more f_sum (d + 1) (nI c) a_left a_size a_right a_text a_ops a_constants a_heights am a_chosen a_firstEnd a_secondEnd a_values a_nodes a_far a_productive a_useful a_covers := by
    intro d
    induction d with
    | zero =>
      intro c am hc hz
      rw [wY_count_2]
      have e : c = 980 := by omega
      subst e
      refine pk_le 980 980 (fun _ => ⟨yk_ms am + 1 + 1, ys_count_27 G hl hH H h (yk_ms am + 1) 1 f_sum am (by omega) (fun n a b hc => Or.inl ?_) (fun z => absurd z (by decide))⟩) (fun z => absurd z (by omega))
      obtain ⟨q1, q2, q3⟩ := hc
      exact hz _ (by omega)
    | succ d ih =>
      intro c am hc hz
      rw [wY_count_2]
      refine pk_le 980 c (fun z => absurd z (by omega)) (fun _ => ?_)
      rw [nI_clamp (show c < 2 ^ 31 by omega)]
      refine ⟨vp_in_nI (by omega) (by omega), nm_e (nm_r (nI_1 _) (ih (c + 1) _ (by omega) fun y hy => ?_))⟩
      by_cases e : y = c
      · subst e; exact pk_uLs
      · rw [pk_uLn e]; exact hz y (by omega)
  unfold wpY_count
  exact ⟨981, lp 980 0 a_many rfl fun y hy => absurd hy (by omega)⟩
end
end
section
/-! Y: chooseBy -/
def yk_cu (ac a1 a2 : Nat → Int32) (c q u v : Nat) : Prop := ac c = nI q ∧ a1 c = nI u ∧ a2 c = nI v
def yk_PB (g : gm_G) (n i j h p0 : Nat) (ac a1 a2 : Nat → Int32) (c : Nat) : Prop :=
  (∃ q u v, p0 ≤ q ∧ q < gm_P g ∧ gm_l g q = n ∧ gm_Dv g (gm_T g h) q i u v j) → ∃ q u v, p0 ≤ q ∧ q < gm_P g ∧ gm_l g q = n ∧ gm_Dv g (gm_T g h) q i u v j ∧ (∀ q' u' v', p0 ≤ q' → q' < q → gm_l g q' = n → ¬ gm_Dv g (gm_T g h) q' i u' v' j) ∧ (∀ u' v', gm_Dv g (gm_T g h) q i u' v' j → u' < u ∨ (u' = u ∧ v' ≤ v)) ∧ yk_cu ac a1 a2 c q u v
/-- while production p is looked through -/
def yk_PC (g : gm_G) (n i j h p u0 v0 : Nat) (ac a1 a2 : Nat → Int32) (c : Nat) : Prop :=
  ((∃ u v, yk_D2 u0 v0 u v ∧ gm_Dv g (gm_T g h) p i u v j) → ∃ u v, gm_Dv g (gm_T g h) p i u v j ∧ (∀ u' v', yk_D2 u0 v0 u' v' → gm_Dv g (gm_T g h) p i u' v' j → u' < u ∨ (u' = u ∧ v' ≤ v)) ∧ yk_cu ac a1 a2 c p u v) ∧
  ((∀ u v, yk_D2 u0 v0 u v → ¬ gm_Dv g (gm_T g h) p i u v j) → yk_PB g n i j h (p + 1) ac a1 a2 c)
theorem yk_PC_c {g : gm_G} {n i j h p u0 v0 u1 v1 c : Nat} {ac a1 a2 : Nat → Int32} (hI : yk_PC g n i j h p u0 v0 ac a1 a2 c) (hS : ∀ u v, gm_Dv g (gm_T g h) p i u v j → (yk_D2 u0 v0 u v ↔ yk_D2 u1 v1 u v)) : yk_PC g n i j h p u1 v1 ac a1 a2 c :=
  ⟨fun ⟨u, v, h1, h2⟩ => by
    obtain ⟨u', v', q1, q2, q3⟩ := hI.1 ⟨u, v, (hS u v h2).mpr h1, h2⟩
    exact ⟨u', v', q1, fun x y w1 w2 => q2 x y ((hS x y w2).mpr w1) w2, q3⟩, fun hn => hI.2 fun u v w1 w2 => hn u v ((hS u v w2).mp w1) w2⟩
theorem yk_PC_e {g : gm_G} {n i j h p c : Nat} {ac a1 a2 : Nat → Int32} (hI : yk_PC g n i j h p (j + 1) (j + 1) ac a1 a2 c) (hp : p < gm_P g) (hl : gm_l g p = n) : yk_PB g n i j h p ac a1 a2 c := by
  have all : ∀ u v, gm_Dv g (gm_T g h) p i u v j → yk_D2 (j + 1) (j + 1) u v := fun u v hd => by have := hd.2.1; have := hd.2.2.1; unfold yk_D2; omega
  intro hex
  rcases Classical.em (∃ u v, gm_Dv g (gm_T g h) p i u v j) with ⟨u, v, hd⟩ | hn
  · obtain ⟨u', v', q1, q2, q3⟩ := hI.1 ⟨u, v, all u v hd, hd⟩
    exact ⟨p, u', v', Nat.le_refl _, hp, hl, q1, fun q' x y w1 w2 => absurd w1 (by omega), fun x y w => q2 x y (all x y w) w, q3⟩
  · obtain ⟨q, u, v, w1, w2, w3, w4⟩ := hex
    have hq : p + 1 ≤ q := by
      rcases Nat.lt_or_ge p q with z | z
      · exact z
      · have : q = p := by omega
        subst this; exact absurd ⟨u, v, w4⟩ hn
    obtain ⟨q, u, v, e1, e2, e3, e4, e5, e6, e7⟩ := hI.2 (fun u v _ hd => hn ⟨u, v, hd⟩) ⟨q, u, v, hq, w2, w3, w4⟩
    refine ⟨q, u, v, by omega, e2, e3, e4, fun q' x y s1 s2 s3 s4 => ?_, e6, e7⟩
    by_cases z : q' = p
    · subst z; exact hn ⟨x, y, s4⟩
    · exact e5 q' x y (by omega) s2 s3 s4
section
variable {g : gm_G} {L : Nat} {f_goal f_extra f_measured f_known f_more : Int32} {a_left a_size a_right a_text a_ops a_constants a_heights a_chosen a_firstEnd a_secondEnd a_far a_productive a_useful a_covers : Nat → Int32} {a_many a_values a_nodes : Nat → Int64} {f_sum : Int64} {i j p n k m a b r u v h c : Nat}
theorem ys_chooseBy {post : SY → Prop} (G : cp_G g L a_right a_size a_text) (H : yk_H L a_heights (h + 1) (gm_T g h)) (hh : h < 1000) (hp : p < gm_P g) (hl : gm_l g p = n) (hij : i ≤ j) (hj : j ≤ L) (hc : c < 980)
    (hI : yk_PB g n i j h (p + 1) a_chosen a_firstEnd a_secondEnd c)
    (hE : ∀ ac a1 a2, yk_PB g n i j h p ac a1 a2 c → (∀ y, y ≠ c → ac y = a_chosen y ∧ a1 y = a_firstEnd y ∧ a2 y = a_secondEnd y) → post (nI (gm_P g), nI L, f_goal, f_extra, f_measured, f_known, f_more, f_sum, a_left, a_size, a_right, a_text, a_ops, a_constants, a_heights, a_many, ac, a1, a2, a_values, a_nodes, a_far, a_productive, a_useful, a_covers)) : wpY_chooseBy post (nI (gm_P g), nI L, f_goal, f_extra, f_measured, f_known, f_more, f_sum, a_left, a_size, a_right, a_text, a_ops, a_constants, a_heights, a_many, a_chosen, a_firstEnd, a_secondEnd, a_values, a_nodes, a_far, a_productive, a_useful, a_covers) (nI p) (nI c) (nI i) (nI j) (nI (h + 1)) := by
  have h12 := cp_G_P G
  have hL := cp_G_L G
  have inner : ∀ (J : Int32 → (Nat → Int32) → (Nat → Int32) → (Nat → Int32) → (Nat → Int32) → (Nat → Int32) → (Nat → Int32) → (Nat → Int32) → (Nat → Int64) → (Nat → Int32) → (Nat → Int32) → (Nat → Int32) → (Nat → Int64) → (Nat → Int64) → (Nat → Int32) → (Nat → Int32) → (Nat → Int32) → (Nat → Int32) → Prop) u, i ≤ u → u ≤ j → (∀ ac a1 a2, yk_PC g n i j h p (u + 1) (u + 1) ac a1 a2 c → (∀ y, y ≠ c → ac y = a_chosen y ∧ a1 y = a_firstEnd y ∧ a2 y = a_secondEnd y) → J (nI (u + 1)) a_left a_size a_right a_text a_ops a_constants a_heights a_many ac a1 a2 a_values a_nodes a_far a_productive a_useful a_covers) →
      ∀ d v ac a1 a2, v + d = j + 1 → u ≤ v → yk_PC g n i j h p u v ac a1 a2 c → (∀ y, y ≠ c → ac y = a_chosen y ∧ a1 y = a_firstEnd y ∧ a2 y = a_secondEnd y) → wY_chooseBy_14 post J (nI p) (nI c) (nI i) (nI j) (nI (h + 1)) (nI u) (nI (gm_P g)) (nI L) f_goal f_extra f_measured f_known f_more f_sum (d + 1) (nI v) a_left a_size a_right a_text a_ops a_constants a_heights a_many ac a1 a2 a_values a_nodes a_far a_productive a_useful a_covers := by
    intro J u hiu huj hJ d
    induction d with
    | zero =>
      intro v ac a1 a2 hv huv hI hf
      rw [wY_chooseBy_14]
      exact pk_lt j v (fun _ => nm_r (nI_1 _) (hJ ac a1 a2 (yk_PC_c hI fun u' v' hd => by have := hd.2.1; have := hd.2.2.1; unfold yk_D2; omega) hf)) (fun z => absurd z (by omega))
    | succ d ih =>
      intro v ac a1 a2 hv huv hI hf
      rw [wY_chooseBy_14]
      refine pk_lt j v (fun z => absurd z (by omega)) (fun _ => ys_fits G H (by omega) hp hiu huv (by omega) hj (fun hd => br_f (by decide) ?_) (fun hd => br_t rfl (nm_r (nI_1 _) (ih (v + 1) ac a1 a2 (by omega) (by omega) (yk_PC_c hI fun u' v' hd' => ?_) hf))))
      · rw [nI_clamp (show c < 2 ^ 31 by omega), cp_n8 (cp_t8 p (by omega)), cp_n8 (cp_t8 u (by omega)), cp_n8 (cp_t8 v (by omega))]
        refine ⟨vp_in_nI (by omega) (by omega), nm_e ⟨vp_in_nI (by omega) (by omega), nm_e ⟨vp_in_nI (by omega) (by omega), nm_e (nm_r (nI_1 _) (ih (v + 1) _ _ _ (by omega) (by omega) ⟨fun _ => ⟨u, v, hd, fun u' v' hS _ => by unfold yk_D2 at hS; omega, ?_⟩, fun hn => absurd hd (hn u v (by unfold yk_D2; omega))⟩ fun y hy => ?_))⟩⟩⟩
        · unfold yk_cu
          rw [pk_us, pk_us, pk_us]; exact ⟨rfl, rfl, rfl⟩
        · rw [pk_un hy, pk_un hy, pk_un hy]; exact hf y hy
      · have hne : u' = u → v' ≠ v := fun e1 e2 => hd (by subst e1; subst e2; exact hd')
        unfold yk_D2; omega
  have outer : ∀ d u ac a1 a2, u + d = j + 1 → i ≤ u → yk_PC g n i j h p u u ac a1 a2 c → (∀ y, y ≠ c → ac y = a_chosen y ∧ a1 y = a_firstEnd y ∧ a2 y = a_secondEnd y) → wY_chooseBy_3 post (nI p) (nI c) (nI i) (nI j) (nI (h + 1)) (nI (gm_P g)) (nI L) f_goal f_extra f_measured f_known f_more f_sum (d + 1) (nI u) a_left a_size a_right a_text a_ops a_constants a_heights a_many ac a1 a2 a_values a_nodes a_far a_productive a_useful a_covers := by
    intro d
    induction d with
    | zero =>
      intro u ac a1 a2 hu hiu hI hf
      rw [wY_chooseBy_3]
      have e : u = j + 1 := by omega
      subst e
      exact pk_lt j (j + 1) (fun _ => hE ac a1 a2 (yk_PC_e hI hp hl) hf) (fun z => absurd z (by omega))
    | succ d ih =>
      intro u ac a1 a2 hu hiu hI hf
      rw [wY_chooseBy_3]
      exact pk_lt j u (fun z => absurd z (by omega)) (fun _ => ⟨j + 1 - u + 1, inner _ u hiu (by omega) (fun ac' a1' a2' hI' hf' => ih (u + 1) ac' a1' a2' (by omega) (by omega) hI' hf') (j + 1 - u) u ac a1 a2 (by omega) (Nat.le_refl _) hI hf⟩)
  unfold wpY_chooseBy
  exact ⟨j + 1 - i + 1, outer (j + 1 - i) i _ _ _ (by omega) (Nat.le_refl _) ⟨fun ⟨u, v, hS, hd⟩ => absurd hS (by have := hd.1; have := hd.2.1; unfold yk_D2; omega), fun _ => hI⟩ fun y _ => ⟨rfl, rfl, rfl⟩⟩
end
/-! Y: what evaluate reckons -/
def ev_t (W : Nat → Int64) : Nat → Int64
  | 0 => 0
  | k + 1 => ev_t W k + W k
def ev_m (W : Nat → Int64) : Nat → Int64
  | 0 => 1
  | k + 1 => ev_m W k * W k
def ev_r (c : Int64) (W : Nat → Int64) : Nat → Int64
  | 0 => c
  | k + 1 => ev_r c W k * 10 + W k
def ev_g (c : Int64) (W : Nat → Int64) : Nat → Int64
  | 0 => c
  | k + 1 => if W k ≤ ev_g c W k then ev_g c W k else W k
def ev_o (W : Nat → Int64) : Nat → Int64
  | 0 => 0
  | _ + 1 => W 0
def ev_l (W : Nat → Int64) : Nat → Int64
  | 0 => 0
  | k + 1 => W k
def ev_n (W : Nat → Int64) : Nat → Int32
  | 0 => 0
  | k + 1 => ev_n W k ||| (if W k = cp_NONE then 1 else 0)
def ev_v (o s : Nat) (c t m r gt on la : Int64) : Int64 :=
  if o = 1 then c + t else if o = 2 then c * m else if o = 3 then (if s = 0 then -c else (on - c) - (t - on)) else if o = 4 then r else if o = 5 then gt
  else if o = 6 then (if s = 0 then c else if c + (t - on) = 0 then cp_NONE else on / (c + (t - on))) else if o = 7 then (if s = 0 then c else if on ≤ c then on else la) else c
theorem ev_n_iff (W : Nat → Int64) : ∀ k, (ev_n W k = 0 ∧ ∀ x, x < k → W x ≠ cp_NONE) ∨ (ev_n W k = 1 ∧ ∃ x, x < k ∧ W x = cp_NONE)
  | 0 => Or.inl ⟨rfl, fun x hx => absurd hx (by omega)⟩
  | k + 1 => by
    have e : ev_n W (k + 1) = ev_n W k ||| (if W k = cp_NONE then 1 else 0) := rfl
    by_cases z : W k = cp_NONE
    · rw [if_pos z] at e
      refine Or.inr ⟨?_, k, by omega, z⟩
      rcases ev_n_iff W k with ⟨w, _⟩ | ⟨w, _⟩
      · rw [e, w]; decide
      · rw [e, w]; decide
    · rw [if_neg z] at e
      rcases ev_n_iff W k with ⟨w, h⟩ | ⟨w, x, h1, h2⟩
      · refine Or.inl ⟨by rw [e, w]; decide, fun x hx => ?_⟩
        by_cases q : x = k
        · subst q; exact z
        · exact h x (by omega)
      · exact Or.inr ⟨by rw [e, w]; decide, x, by omega, h2⟩
theorem cp_NONE_0 : (0 : Int64) ≠ cp_NONE := by decide
theorem ev_act0 {W : Nat → Int64} {o s : Nat} {c : Int64} (ho : o ≤ 7) (hs : s = 0) (hz : ∀ k, s ≤ k → k < 3 → W k = 0) : ev_v o s c (ev_t W s) (ev_m W s) (ev_r c W s) (ev_g c W s) (ev_o W s) (ev_l W s) = cp_act o s c (W 0) (W 1) (W 2) := by
  subst hs
  rw [hz 0 (by omega) (by omega), hz 1 (by omega) (by omega), hz 2 (by omega) (by omega)]
  rcases (by omega : o = 0 ∨ o = 1 ∨ o = 2 ∨ o = 3 ∨ o = 4 ∨ o = 5 ∨ o = 6 ∨ o = 7) with rfl | rfl | rfl | rfl | rfl | rfl | rfl | rfl <;> simp [ev_v, cp_act, ev_t, ev_m, ev_r, ev_g, ev_o, ev_l]
theorem ev_act1 {W : Nat → Int64} {o s : Nat} {c : Int64} (ho : o ≤ 7) (hs : s = 1) (hz : ∀ k, s ≤ k → k < 3 → W k = 0) : ev_v o s c (ev_t W s) (ev_m W s) (ev_r c W s) (ev_g c W s) (ev_o W s) (ev_l W s) = cp_act o s c (W 0) (W 1) (W 2) := by
  subst hs
  rw [hz 1 (by omega) (by omega), hz 2 (by omega) (by omega)]
  have et : ev_t W 1 = W 0 := by show 0 + W 0 = W 0; grind
  have em : ev_m W 1 = W 0 := by show 1 * W 0 = W 0; grind
  have er : ev_r c W 1 = c * 10 + W 0 := rfl
  have eg : ev_g c W 1 = if W 0 ≤ c then c else W 0 := rfl
  have eo : ev_o W 1 = W 0 := rfl
  have el : ev_l W 1 = W 0 := rfl
  rw [et, em, er, eg, eo, el]
  generalize W 0 = x
  rcases (by omega : o = 0 ∨ o = 1 ∨ o = 2 ∨ o = 3 ∨ o = 4 ∨ o = 5 ∨ o = 6 ∨ o = 7) with rfl | rfl | rfl | rfl | rfl | rfl | rfl | rfl
  · rfl
  · show c + x = c + x + 0 + 0; grind
  · show c * x = c * x * 1 * 1; grind
  · show (x - c) - (x - x) = x - c - 0 - 0; grind
  · show c * 10 + x = 10 * c + x; grind
  · simp only [ev_v, cp_act]; by_cases h : x ≤ c <;> simp [h]
  · show (if c + (x - x) = 0 then cp_NONE else x / (c + (x - x))) = (if c + (0 + 0) = 0 then cp_NONE else x / (c + (0 + 0)))
    rw [show c + (x - x) = c + (0 + 0) by grind]
  · show (if x ≤ c then x else x) = (if x ≤ c ∨ 1 = 1 then x else _)
    rw [if_pos (Or.inr rfl), ite_self]
theorem ev_act2 {W : Nat → Int64} {o s : Nat} {c : Int64} (ho : o ≤ 7) (hs : s = 2) (hz : ∀ k, s ≤ k → k < 3 → W k = 0) : ev_v o s c (ev_t W s) (ev_m W s) (ev_r c W s) (ev_g c W s) (ev_o W s) (ev_l W s) = cp_act o s c (W 0) (W 1) (W 2) := by
  subst hs
  rw [hz 2 (by omega) (by omega)]
  have et : ev_t W 2 = W 0 + W 1 := by show 0 + W 0 + W 1 = _; grind
  have em : ev_m W 2 = W 0 * W 1 := by show 1 * W 0 * W 1 = _; grind
  have er : ev_r c W 2 = (c * 10 + W 0) * 10 + W 1 := rfl
  have eg : ev_g c W 2 = if W 1 ≤ (if W 0 ≤ c then c else W 0) then (if W 0 ≤ c then c else W 0) else W 1 := rfl
  have eo : ev_o W 2 = W 0 := rfl
  have el : ev_l W 2 = W 1 := rfl
  rw [et, em, er, eg, eo, el]
  generalize W 0 = x
  generalize W 1 = y
  rcases (by omega : o = 0 ∨ o = 1 ∨ o = 2 ∨ o = 3 ∨ o = 4 ∨ o = 5 ∨ o = 6 ∨ o = 7) with rfl | rfl | rfl | rfl | rfl | rfl | rfl | rfl
  · rfl
  · show c + (x + y) = c + x + y + 0; grind
  · show c * (x * y) = c * x * y * 1; grind
  · show (x - c) - (x + y - x) = x - c - y - 0; grind
  · show (c * 10 + x) * 10 + y = 10 * (10 * c + x) + y; grind
  · simp only [ev_v, cp_act]; by_cases h : x ≤ c
    · by_cases h2 : y ≤ c <;> simp [h, h2]
    · by_cases h2 : y ≤ x <;> simp [h, h2]
  · show (if c + (x + y - x) = 0 then cp_NONE else x / (c + (x + y - x))) = (if c + (y + 0) = 0 then cp_NONE else x / (c + (y + 0)))
    rw [show c + (x + y - x) = c + (y + 0) by grind]
  · show (if x ≤ c then x else y) = (if x ≤ c ∨ 2 = 1 then x else y)
    by_cases h : x ≤ c <;> simp [h]
theorem ev_act3 {W : Nat → Int64} {o s : Nat} {c : Int64} (ho : o ≤ 7) (hs : s = 3) : ev_v o s c (ev_t W s) (ev_m W s) (ev_r c W s) (ev_g c W s) (ev_o W s) (ev_l W s) = cp_act o s c (W 0) (W 1) (W 2) := by
  subst hs
  have et : ev_t W 3 = W 0 + W 1 + W 2 := by show 0 + W 0 + W 1 + W 2 = _; grind
  have em : ev_m W 3 = W 0 * W 1 * W 2 := by show 1 * W 0 * W 1 * W 2 = _; grind
  have er : ev_r c W 3 = ((c * 10 + W 0) * 10 + W 1) * 10 + W 2 := rfl
  have eg : ev_g c W 3 = if W 2 ≤ (if W 1 ≤ (if W 0 ≤ c then c else W 0) then (if W 0 ≤ c then c else W 0) else W 1) then (if W 1 ≤ (if W 0 ≤ c then c else W 0) then (if W 0 ≤ c then c else W 0) else W 1) else W 2 := rfl
  have eo : ev_o W 3 = W 0 := rfl
  have el : ev_l W 3 = W 2 := rfl
  rw [et, em, er, eg, eo, el]
  generalize W 0 = x
  generalize W 1 = y
  generalize W 2 = z
  rcases (by omega : o = 0 ∨ o = 1 ∨ o = 2 ∨ o = 3 ∨ o = 4 ∨ o = 5 ∨ o = 6 ∨ o = 7) with rfl | rfl | rfl | rfl | rfl | rfl | rfl | rfl
  · rfl
  · show c + (x + y + z) = c + x + y + z; grind
  · show c * (x * y * z) = c * x * y * z; grind
  · show (x - c) - (x + y + z - x) = x - c - y - z; grind
  · show ((c * 10 + x) * 10 + y) * 10 + z = 10 * (10 * (10 * c + x) + y) + z; grind
  · simp only [ev_v, cp_act]; by_cases h : x ≤ c
    · by_cases h2 : y ≤ c
      · by_cases h3 : z ≤ c <;> simp [h, h2, h3]
      · by_cases h3 : z ≤ y <;> simp [h, h2, h3]
    · by_cases h2 : y ≤ x
      · by_cases h3 : z ≤ x <;> simp [h, h2, h3]
      · by_cases h3 : z ≤ y <;> simp [h, h2, h3]
  · show (if c + (x + y + z - x) = 0 then cp_NONE else x / (c + (x + y + z - x))) = (if c + (y + z) = 0 then cp_NONE else x / (c + (y + z)))
    rw [show c + (x + y + z - x) = c + (y + z) by grind]
  · show (if x ≤ c then x else z) = (if x ≤ c ∨ 3 = 1 then x else z)
    by_cases h : x ≤ c <;> simp [h]
theorem ev_act {W : Nat → Int64} {o s : Nat} {c : Int64} (ho : o ≤ 7) (hs : s ≤ 3) (hz : ∀ k, s ≤ k → k < 3 → W k = 0) : ev_v o s c (ev_t W s) (ev_m W s) (ev_r c W s) (ev_g c W s) (ev_o W s) (ev_l W s) = cp_act o s c (W 0) (W 1) (W 2) := by
  rcases (by omega : s = 0 ∨ s = 1 ∨ s = 2 ∨ s = 3) with e | e | e | e
  · exact ev_act0 ho e hz
  · exact ev_act1 ho e hz
  · exact ev_act2 ho e hz
  · exact ev_act3 ho e
end
section
/-! Y: evaluate -/
def yk_bg (i u v k : Nat) : Nat := if k = 0 then i else if k = 1 then u else v
def yk_en (u v j k : Nat) : Nat := if k = 0 then u else if k = 1 then v else j
noncomputable def yk_W (g : gm_G) (op : Nat → Nat) (cn : Nat → Int32) (p i u v j k : Nat) : Int64 := gm_Wp (gm_V g op cn) (gm_s g (3 * p + k)) (yk_bg i u v k) (yk_en u v j k)
noncomputable def yk_nn (g : gm_G) (p i u v j k : Nat) : Nat := 1 + sm_S (fun k => gm_Np (gm_N g) (gm_s g (3 * p + k)) (yk_bg i u v k) (yk_en u v j k)) k
section
variable {g : gm_G} {L : Nat} {f_goal f_extra f_measured f_known f_more : Int32} {a_left a_size a_right a_text a_ops a_constants a_heights a_chosen a_firstEnd a_secondEnd a_far a_productive a_useful a_covers : Nat → Int32} {a_many a_values a_nodes : Nat → Int64} {f_sum : Int64} {c i j p n k m a b r u v h : Nat} {op : Nat → Nat} {cn : Nat → Int32}
theorem ys_ev_tail {post : SY → Prop} {x5 x7 x9 x11 x13 x15 : Int64} {x17 : Int32} {o s : Nat} (hp : p < 12) (hc : c < 980) (ho : o ≤ 7) (hs : s ≤ 3) (hz : a_size p = nI s) (h17 : x17 = 0 ∨ x17 = 1)
    (h : post (nI (gm_P g), nI L, f_goal, f_extra, f_measured, f_known, f_more, f_sum, a_left, a_size, a_right, a_text, a_ops, a_constants, a_heights, a_many, a_chosen, a_firstEnd, a_secondEnd, vp_updL a_values c (if x17 = 0 then ev_v o s (a_constants p).toInt64 x5 x7 x9 x11 x13 x15 else cp_NONE), a_nodes, a_far, a_productive, a_useful, a_covers)) :
    ((nI o = 1 → (∀ x18_36 : Int64, x18_36 = (a_constants p).toInt64 + x5 → (wY_evaluate_298 post (nI c) (nI p) x5 x7 x9 x11 x13 x15 x17 x18_36 (nI o) (nI (gm_P g)) (nI L) f_goal f_extra f_measured f_known f_more f_sum a_left a_size a_right a_text a_ops a_constants a_heights a_many a_chosen a_firstEnd a_secondEnd a_values a_nodes a_far a_productive a_useful a_covers))) ∧ (¬ nI o = 1 → (wY_evaluate_298 post (nI c) (nI p) x5 x7 x9 x11 x13 x15 x17 (a_constants p).toInt64 (nI o) (nI (gm_P g)) (nI L) f_goal f_extra f_measured f_known f_more f_sum a_left a_size a_right a_text a_ops a_constants a_heights a_many a_chosen a_firstEnd a_secondEnd a_values a_nodes a_far a_productive a_useful a_covers))) := by
  generalize hcst : (a_constants p).toInt64 = cst at *
  have w447 : ∀ w, w = ev_v o s cst x5 x7 x9 x11 x13 x15 → wY_evaluate_447 post (nI c) x17 w (nI (gm_P g)) (nI L) f_goal f_extra f_measured f_known f_more f_sum a_left a_size a_right a_text a_ops a_constants a_heights a_many a_chosen a_firstEnd a_secondEnd a_values a_nodes a_far a_productive a_useful a_covers := by
    intro w hw
    unfold wY_evaluate_447
    rw [nI_clamp (show c < 2 ^ 31 by omega)]
    refine br_c (fun e => ⟨vp_in_nI (by omega) (by omega), nm_e ?_⟩) (fun e => ⟨vp_in_nI (by omega) (by omega), nm_e ?_⟩)
    · rw [if_pos e, ← hw] at h; exact h
    · rw [if_neg e] at h; exact h
  have w413 : o ≠ 7 → ∀ w, w = ev_v o s cst x5 x7 x9 x11 x13 x15 → wY_evaluate_413 post (nI c) (nI p) x13 x15 x17 w (nI o) (nI (gm_P g)) (nI L) f_goal f_extra f_measured f_known f_more f_sum a_left a_size a_right a_text a_ops a_constants a_heights a_many a_chosen a_firstEnd a_secondEnd a_values a_nodes a_far a_productive a_useful a_covers := by
    intro h7 w hw
    unfold wY_evaluate_413
    exact pk_eq o 7 (fun e => absurd e h7) (fun _ => w447 w hw)
  have w413' : o = 7 → wY_evaluate_413 post (nI c) (nI p) x13 x15 x17 cst (nI o) (nI (gm_P g)) (nI L) f_goal f_extra f_measured f_known f_more f_sum a_left a_size a_right a_text a_ops a_constants a_heights a_many a_chosen a_firstEnd a_secondEnd a_values a_nodes a_far a_productive a_useful a_covers := by
    intro h7
    unfold wY_evaluate_413
    subst h7
    rw [nI_clamp (show p < 2 ^ 31 by omega), hz]
    refine pk_eq 7 7 (fun _ => ⟨vp_in_nI (by omega) (by omega), pk_le s 0 (fun e => w447 _ ?_) (fun e => br_c (fun q => ?_) (fun q => ?_))⟩) (fun e => absurd rfl e)
    · show cst = if s = 0 then cst else _
      rw [if_pos (by omega)]
    · unfold wY_evaluate_445
      refine w447 _ ?_
      show x13 = if s = 0 then cst else if x13 ≤ cst then x13 else x15
      rw [if_neg (by omega), if_pos q]
    · unfold wY_evaluate_445
      refine w447 _ ?_
      show x15 = if s = 0 then cst else if x13 ≤ cst then x13 else x15
      rw [if_neg (by omega), if_neg q]
  have w366 : o ≠ 7 → o ≠ 6 → ∀ w, w = ev_v o s cst x5 x7 x9 x11 x13 x15 → wY_evaluate_366 post (nI c) (nI p) x5 x13 x15 x17 w (nI o) (nI (gm_P g)) (nI L) f_goal f_extra f_measured f_known f_more f_sum a_left a_size a_right a_text a_ops a_constants a_heights a_many a_chosen a_firstEnd a_secondEnd a_values a_nodes a_far a_productive a_useful a_covers := by
    intro h7 h6 w hw
    unfold wY_evaluate_366
    exact pk_eq o 6 (fun e => absurd e h6) (fun _ => w413 h7 w hw)
  have w366' : o = 6 ∨ o = 7 → wY_evaluate_366 post (nI c) (nI p) x5 x13 x15 x17 cst (nI o) (nI (gm_P g)) (nI L) f_goal f_extra f_measured f_known f_more f_sum a_left a_size a_right a_text a_ops a_constants a_heights a_many a_chosen a_firstEnd a_secondEnd a_values a_nodes a_far a_productive a_useful a_covers := by
    intro h67
    unfold wY_evaluate_366
    rw [nI_clamp (show p < 2 ^ 31 by omega), hz]
    refine pk_eq o 6 (fun e => ⟨vp_in_nI (by omega) (by omega), ?_⟩) (fun e => w413' (by omega))
    subst e
    refine pk_le s 0 (fun q => w413 (by omega) _ ?_) (fun q => nm_e (br_c (fun y => ?_) (fun y => ⟨y, ?_⟩)))
    · show cst = if s = 0 then cst else _
      rw [if_pos (by omega)]
    · unfold wY_evaluate_411
      refine w413 (by omega) _ ?_
      show cp_NONE = if s = 0 then cst else if cst + (x5 - x13) = 0 then cp_NONE else _
      rw [if_neg (by omega), if_pos y]
    · unfold wY_evaluate_411
      refine w413 (by omega) _ ?_
      show x13 / (cst + (x5 - x13)) = if s = 0 then cst else if cst + (x5 - x13) = 0 then cp_NONE else x13 / (cst + (x5 - x13))
      rw [if_neg (by omega), if_neg y]
  have w298 : o ≠ 1 → wY_evaluate_298 post (nI c) (nI p) x5 x7 x9 x11 x13 x15 x17 cst (nI o) (nI (gm_P g)) (nI L) f_goal f_extra f_measured f_known f_more f_sum a_left a_size a_right a_text a_ops a_constants a_heights a_many a_chosen a_firstEnd a_secondEnd a_values a_nodes a_far a_productive a_useful a_covers := by
    intro h1
    unfold wY_evaluate_298
    refine pk_eq o 2 (fun e => nm_e ?_) (fun h2 => ?_)
    · subst e
      unfold wY_evaluate_311
      refine pk_eq 2 3 (fun e => absurd e (by omega)) (fun _ => ?_)
      unfold wY_evaluate_346
      refine pk_eq 2 4 (fun e => absurd e (by omega)) (fun _ => ?_)
      unfold wY_evaluate_356
      exact pk_eq 2 5 (fun e => absurd e (by omega)) (fun _ => w366 (by omega) (by omega) _ rfl)
    · unfold wY_evaluate_311
      rw [nI_clamp (show p < 2 ^ 31 by omega), hz]
      refine pk_eq o 3 (fun e => ⟨vp_in_nI (by omega) (by omega), ?_⟩) (fun h3 => ?_)
      · subst e
        have w344 : ∀ w, w = ev_v 3 s cst x5 x7 x9 x11 x13 x15 → wY_evaluate_344 post (nI c) (nI p) x5 x9 x11 x13 x15 x17 (nI 3) w (nI (gm_P g)) (nI L) f_goal f_extra f_measured f_known f_more f_sum a_left a_size a_right a_text a_ops a_constants a_heights a_many a_chosen a_firstEnd a_secondEnd a_values a_nodes a_far a_productive a_useful a_covers := by
          intro w hw
          unfold wY_evaluate_344 wY_evaluate_346
          refine pk_eq 3 4 (fun e => absurd e (by omega)) (fun _ => ?_)
          unfold wY_evaluate_356
          exact pk_eq 3 5 (fun e => absurd e (by omega)) (fun _ => w366 (by omega) (by omega) _ hw)
        refine pk_eq s 0 (fun e => w344 _ ?_) (fun e => w344 _ ?_)
        · show -cst = if s = 0 then -cst else _
          rw [if_pos e]
        · show (x13 - cst) - (x5 - x13) = if s = 0 then -cst else (x13 - cst) - (x5 - x13)
          rw [if_neg e]
      · unfold wY_evaluate_346
        refine pk_eq o 4 (fun e => ?_) (fun h4 => ?_)
        · subst e
          unfold wY_evaluate_356
          exact pk_eq 4 5 (fun e => absurd e (by omega)) (fun _ => w366 (by omega) (by omega) _ rfl)
        · unfold wY_evaluate_356
          refine pk_eq o 5 (fun e => ?_) (fun h5 => ?_)
          · subst e
            exact w366 (by omega) (by omega) _ rfl
          · by_cases h67 : o = 6 ∨ o = 7
            · exact w366' h67
            · have : o = 0 := by omega
              subst this
              exact w366 (by omega) (by omega) _ rfl
  refine pk_eq o 1 (fun e => nm_e ?_) (fun e => w298 e)
  subst e
  unfold wY_evaluate_298
  refine pk_eq 1 2 (fun e => absurd e (by omega)) (fun _ => ?_)
  unfold wY_evaluate_311
  refine pk_eq 1 3 (fun e => absurd e (by omega)) (fun _ => ?_)
  unfold wY_evaluate_346
  refine pk_eq 1 4 (fun e => absurd e (by omega)) (fun _ => ?_)
  unfold wY_evaluate_356
  exact pk_eq 1 5 (fun e => absurd e (by omega)) (fun _ => w366 (by omega) (by omega) _ rfl)
/-- a part's cell -/
def yk_pt (g : gm_G) (op : Nat → Nat) (cn : Nat → Int32) (c : Nat) (av an : Nat → Int64) (m a b : Nat) : Prop := 196 * m + 14 * a + b ≠ c ∧ av (196 * m + 14 * a + b) = gm_V g op cn m a b ∧ an (196 * m + 14 * a + b) = lN (min (gm_N g m a b) 2000000000)
theorem ys_evaluate {post : SY → Prop} (G : cp_G g L a_right a_size a_text) (O : xk_O g op cn a_ops a_constants) (hp : p < gm_P g) (hiu : i ≤ u) (huv : u ≤ v) (hvj : v ≤ j) (hj : j ≤ L) (hc : c < 980) (e1 : a_firstEnd c = nI u) (e2 : a_secondEnd c = nI v)
    (hP : xk_Pt g (yk_pt g op cn c a_values a_nodes) p i u v j)
    (h : post (nI (gm_P g), nI L, f_goal, f_extra, f_measured, f_known, f_more, f_sum, a_left, a_size, a_right, a_text, a_ops, a_constants, a_heights, a_many, a_chosen, a_firstEnd, a_secondEnd, vp_updL a_values c (gm_Vs g op cn (gm_V g op cn) p i u v j), vp_updL a_nodes c (lN (min (gm_Ns g (gm_N g) p i u v j) 2000000000)), a_far, a_productive, a_useful, a_covers)) : wpY_evaluate post (nI (gm_P g), nI L, f_goal, f_extra, f_measured, f_known, f_more, f_sum, a_left, a_size, a_right, a_text, a_ops, a_constants, a_heights, a_many, a_chosen, a_firstEnd, a_secondEnd, a_values, a_nodes, a_far, a_productive, a_useful, a_covers) (nI c) (nI i) (nI j) (nI p) := by
  have h12 := cp_G_P G
  have hL := cp_G_L G
  have ok := cp_G_ok G
  have hs3 := gm_sz_le g p
  have upd2 : ∀ (a : Nat → Int64) x y, vp_updL (vp_updL a c x) c y = vp_updL a c y := fun a x y => by
    funext q
    by_cases e : q = c
    · subst e; rw [pk_uLs, pk_uLs]
    · rw [pk_uLn e, pk_uLn e, pk_uLn e]
  have part : ∀ k, k < 3 → gm_Sf (yk_pt g op cn c a_values a_nodes) (gm_s g (3 * p + k)) (yk_bg i u v k) (yk_en u v j k) := by
    intro k hk
    rcases (by omega : k = 0 ∨ k = 1 ∨ k = 2) with rfl | rfl | rfl
    · exact hP.1
    · exact hP.2.1
    · exact hP.2.2
  have bnd : ∀ k, k < 3 → yk_bg i u v k ≤ 10 ∧ yk_en u v j k ≤ 10 := by
    intro k hk
    rcases (by omega : k = 0 ∨ k = 1 ∨ k = 2) with rfl | rfl | rfl
    · exact ⟨by show i ≤ 10; omega, by show u ≤ 10; omega⟩
    · exact ⟨by show u ≤ 10; omega, by show v ≤ 10; omega⟩
    · exact ⟨by show v ≤ 10; omega, by show j ≤ 10; omega⟩
  have lp : ∀ d k, k + d = gm_sz g p → wY_evaluate_45 post (nI c) (nI i) (nI j) (nI p) (nI (gm_P g)) (nI L) f_goal f_extra f_measured f_known f_more f_sum (d + 1) (ev_t (yk_W g op cn p i u v j) k) (ev_m (yk_W g op cn p i u v j) k) (ev_r (a_constants p).toInt64 (yk_W g op cn p i u v j) k) (ev_g (a_constants p).toInt64 (yk_W g op cn p i u v j) k) (ev_o (yk_W g op cn p i u v j) k) (ev_l (yk_W g op cn p i u v j) k) (ev_n (yk_W g op cn p i u v j) k) (nI k) a_left a_size a_right a_text a_ops a_constants a_heights a_many a_chosen a_firstEnd a_secondEnd a_values (vp_updL a_nodes c (lN (min (yk_nn g p i u v j k) 2000000000))) a_far a_productive a_useful a_covers := by
    intro d
    induction d with
    | zero =>
      intro k hk
      rw [wY_evaluate_45]; dsimp only
      rw [nI_clamp (show p < 2 ^ 31 by omega), cp_G_sz G hp, (O p hp).2.1]
      have ek : k = gm_sz g p := by omega
      have hz9 : ∀ q, gm_sz g p ≤ q → q < 3 → gm_s g (3 * p + q) = 9 := fun q q1 q2 => Classical.byContradiction fun w => by
        have := (gm_sz_lt ok hp q2).mpr w; omega
      have hW0 : ∀ q, gm_sz g p ≤ q → q < 3 → yk_W g op cn p i u v j q = 0 := fun q q1 q2 => by
        unfold yk_W gm_Wp
        rw [hz9 q q1 q2, if_neg (by omega), if_pos rfl]
      have hN3 : yk_nn g p i u v j k = gm_Ns g (gm_N g) p i u v j := by
        have z : ∀ q, gm_sz g p ≤ q → q < 3 → gm_Np (gm_N g) (gm_s g (3 * p + q)) (yk_bg i u v q) (yk_en u v j q) = 0 := fun q q1 q2 => by
          unfold gm_Np; rw [hz9 q q1 q2, if_neg (by omega)]
        have t : yk_nn g p i u v j 3 = gm_Ns g (gm_N g) p i u v j := by
          show 1 + (0 + gm_Np (gm_N g) (gm_s g (3 * p)) i u + gm_Np (gm_N g) (gm_s g (3 * p + 1)) u v + gm_Np (gm_N g) (gm_s g (3 * p + 2)) v j) = 1 + gm_Np (gm_N g) (gm_s g (3 * p)) i u + gm_Np (gm_N g) (gm_s g (3 * p + 1)) u v + gm_Np (gm_N g) (gm_s g (3 * p + 2)) v j
          omega
        rw [← t, ek]
        rcases (by omega : gm_sz g p = 0 ∨ gm_sz g p = 1 ∨ gm_sz g p = 2 ∨ gm_sz g p = 3) with e | e | e | e
        · rw [e] at z ⊢
          have a0 := z 0 (by omega) (by omega); have a1 := z 1 (by omega) (by omega); have a2 := z 2 (by omega) (by omega)
          unfold yk_nn; simp only [sm_S]; omega
        · rw [e] at z ⊢
          have a1 := z 1 (by omega) (by omega); have a2 := z 2 (by omega) (by omega)
          unfold yk_nn; simp only [sm_S]; omega
        · rw [e] at z ⊢
          have a2 := z 2 (by omega) (by omega)
          unfold yk_nn; simp only [sm_S]; omega
        · rw [e]
      have hval : (if ev_n (yk_W g op cn p i u v j) k = 0 then ev_v (op p) (gm_sz g p) (a_constants p).toInt64 (ev_t (yk_W g op cn p i u v j) k) (ev_m (yk_W g op cn p i u v j) k) (ev_r (a_constants p).toInt64 (yk_W g op cn p i u v j) k) (ev_g (a_constants p).toInt64 (yk_W g op cn p i u v j) k) (ev_o (yk_W g op cn p i u v j) k) (ev_l (yk_W g op cn p i u v j) k) else cp_NONE) = gm_Vs g op cn (gm_V g op cn) p i u v j := by
        rw [ek, ev_act (O p hp).1 hs3 hW0, (O p hp).2.2]
        show _ = if yk_W g op cn p i u v j 0 = cp_NONE ∨ yk_W g op cn p i u v j 1 = cp_NONE ∨ yk_W g op cn p i u v j 2 = cp_NONE then cp_NONE else cp_act (op p) (gm_sz g p) (cn p).toInt64 (yk_W g op cn p i u v j 0) (yk_W g op cn p i u v j 1) (yk_W g op cn p i u v j 2)
        rcases ev_n_iff (yk_W g op cn p i u v j) (gm_sz g p) with ⟨w, hw⟩ | ⟨w, x, hx, hw⟩
        · have nn : ∀ q, q < 3 → yk_W g op cn p i u v j q ≠ cp_NONE := fun q hq => by
            rcases Nat.lt_or_ge q (gm_sz g p) with z | z
            · exact hw q z
            · rw [hW0 q z hq]; exact cp_NONE_0
          rw [if_pos w, if_neg]
          rintro (z | z | z)
          · exact nn 0 (by omega) z
          · exact nn 1 (by omega) z
          · exact nn 2 (by omega) z
        · rw [if_neg (by rw [w]; decide), if_pos]
          rcases (by omega : x = 0 ∨ x = 1 ∨ x = 2) with rfl | rfl | rfl
          · exact Or.inl hw
          · exact Or.inr (Or.inl hw)
          · exact Or.inr (Or.inr hw)
      refine ⟨vp_in_nI (by omega) (by omega), pk_le (gm_sz g p) k (fun _ => ⟨vp_in_nI (by omega) (by omega), nm_e ⟨vp_in_nI (by omega) (by omega), nm_e (ys_ev_tail (s := gm_sz g p) (by omega) hc (O p hp).1 hs3 (cp_G_sz G hp) ?_ ?_)⟩⟩) (fun z => absurd z (by omega))⟩
      · rcases ev_n_iff (yk_W g op cn p i u v j) k with ⟨w, _⟩ | ⟨w, _⟩
        · exact Or.inl w
        · exact Or.inr w
      · rw [hval, hN3]; exact h
    | succ d ih =>
      intro k hk
      have hk3 : k < 3 := by omega
      have hcc := gm_ok_15 ok hp hk3
      have h9 : gm_s g (3 * p + k) ≠ 9 := (gm_sz_lt ok hp hk3).mp (by omega)
      obtain ⟨b1, b2⟩ := bnd k hk3
      have hpart := part k hk3
      have nxt := ih (k + 1) (by omega)
      have w190 : wY_evaluate_190 post (wY_evaluate_45 post (nI c) (nI i) (nI j) (nI p) (nI (gm_P g)) (nI L) f_goal f_extra f_measured f_known f_more f_sum (d + 1)) (nI c) (nI i) (nI j) (nI p) (ev_t (yk_W g op cn p i u v j) k) (ev_m (yk_W g op cn p i u v j) k) (ev_r (a_constants p).toInt64 (yk_W g op cn p i u v j) k) (ev_g (a_constants p).toInt64 (yk_W g op cn p i u v j) k) (ev_o (yk_W g op cn p i u v j) k) (yk_W g op cn p i u v j k) (ev_n (yk_W g op cn p i u v j) k) (nI k) (nI (gm_P g)) (nI L) f_goal f_extra f_measured f_known f_more f_sum a_left a_size a_right a_text a_ops a_constants a_heights a_many a_chosen a_firstEnd a_secondEnd a_values (vp_updL a_nodes c (lN (min (yk_nn g p i u v j (k + 1)) 2000000000))) a_far a_productive a_useful a_covers := by
        have w218 : ∀ x17, x17 = ev_n (yk_W g op cn p i u v j) (k + 1) → ∀ x13, x13 = yk_W g op cn p i u v j 0 → wY_evaluate_218 post (wY_evaluate_45 post (nI c) (nI i) (nI j) (nI p) (nI (gm_P g)) (nI L) f_goal f_extra f_measured f_known f_more f_sum (d + 1)) (nI c) (nI i) (nI j) (nI p) (ev_t (yk_W g op cn p i u v j) k) (ev_m (yk_W g op cn p i u v j) k) (ev_r (a_constants p).toInt64 (yk_W g op cn p i u v j) k) (ev_g (a_constants p).toInt64 (yk_W g op cn p i u v j) k) x13 (yk_W g op cn p i u v j k) x17 (nI k) (nI (gm_P g)) (nI L) f_goal f_extra f_measured f_known f_more f_sum a_left a_size a_right a_text a_ops a_constants a_heights a_many a_chosen a_firstEnd a_secondEnd a_values (vp_updL a_nodes c (lN (min (yk_nn g p i u v j (k + 1)) 2000000000))) a_far a_productive a_useful a_covers := by
          intro x17 h17 x13 h13
          subst h17; subst h13
          unfold wY_evaluate_218
          have eg : ev_g (a_constants p).toInt64 (yk_W g op cn p i u v j) (k + 1) = if yk_W g op cn p i u v j k ≤ ev_g (a_constants p).toInt64 (yk_W g op cn p i u v j) k then ev_g (a_constants p).toInt64 (yk_W g op cn p i u v j) k else yk_W g op cn p i u v j k := rfl
          refine nm_e (nm_e (nm_e (br_c (fun q => nm_r (nI_1 _) ?_) (fun q => nm_r (nI_1 _) ?_))))
          · rw [eg, if_pos q] at nxt; exact nxt
          · rw [eg, if_neg q] at nxt; exact nxt
        have w206 : ∀ z0, ev_n (yk_W g op cn p i u v j) k ||| z0 = ev_n (yk_W g op cn p i u v j) (k + 1) → wY_evaluate_206 post (wY_evaluate_45 post (nI c) (nI i) (nI j) (nI p) (nI (gm_P g)) (nI L) f_goal f_extra f_measured f_known f_more f_sum (d + 1)) (nI c) (nI i) (nI j) (nI p) (ev_t (yk_W g op cn p i u v j) k) (ev_m (yk_W g op cn p i u v j) k) (ev_r (a_constants p).toInt64 (yk_W g op cn p i u v j) k) (ev_g (a_constants p).toInt64 (yk_W g op cn p i u v j) k) (ev_o (yk_W g op cn p i u v j) k) (yk_W g op cn p i u v j k) (nI k) z0 (ev_n (yk_W g op cn p i u v j) k) (nI (gm_P g)) (nI L) f_goal f_extra f_measured f_known f_more f_sum a_left a_size a_right a_text a_ops a_constants a_heights a_many a_chosen a_firstEnd a_secondEnd a_values (vp_updL a_nodes c (lN (min (yk_nn g p i u v j (k + 1)) 2000000000))) a_far a_productive a_useful a_covers := by
          intro z0 hz0
          unfold wY_evaluate_206
          refine nm_r hz0 (pk_eq k 0 (fun e => ?_) (fun e => ?_))
          · subst e; exact w218 _ rfl _ rfl
          · obtain ⟨q, rfl⟩ : ∃ q, k = q + 1 := ⟨k - 1, by omega⟩
            exact w218 _ rfl _ rfl
        unfold wY_evaluate_190
        refine br_c (fun q => w206 1 ?_) (fun q => w206 0 ?_)
        · show _ = ev_n (yk_W g op cn p i u v j) k ||| (if yk_W g op cn p i u v j k = cp_NONE then 1 else 0)
          rw [if_pos (show yk_W g op cn p i u v j k = cp_NONE from q)]
        · show _ = ev_n (yk_W g op cn p i u v j) k ||| (if yk_W g op cn p i u v j k = cp_NONE then 1 else 0)
          rw [if_neg (show ¬ yk_W g op cn p i u v j k = cp_NONE from q)]
      have enn : yk_nn g p i u v j (k + 1) = yk_nn g p i u v j k + gm_Np (gm_N g) (gm_s g (3 * p + k)) (yk_bg i u v k) (yk_en u v j k) := by
        unfold yk_nn; simp only [sm_S]; omega
      have w112 : ∀ z0, (10 ≤ gm_s g (3 * p + k) → z0 = nI (196 * (gm_s g (3 * p + k) - 10) + 14 * yk_bg i u v k + yk_en u v j k)) → wY_evaluate_112 post (wY_evaluate_45 post (nI c) (nI i) (nI j) (nI p) (nI (gm_P g)) (nI L) f_goal f_extra f_measured f_known f_more f_sum (d + 1)) (nI c) (nI i) (nI j) (nI p) (ev_t (yk_W g op cn p i u v j) k) (ev_m (yk_W g op cn p i u v j) k) (ev_r (a_constants p).toInt64 (yk_W g op cn p i u v j) k) (ev_g (a_constants p).toInt64 (yk_W g op cn p i u v j) k) (ev_o (yk_W g op cn p i u v j) k) (ev_n (yk_W g op cn p i u v j) k) (nI k) (cp_Sy (gm_s g (3 * p + k))) z0 (nI (gm_P g)) (nI L) f_goal f_extra f_measured f_known f_more f_sum a_left a_size a_right a_text a_ops a_constants a_heights a_many a_chosen a_firstEnd a_secondEnd a_values (vp_updL a_nodes c (lN (min (yk_nn g p i u v j k) 2000000000))) a_far a_productive a_useful a_covers := by
        intro z0 hz0
        unfold wY_evaluate_112
        refine br_i (cp_Sy_ge10 hcc) (fun h10 => ?_) (fun h10 => ?_)
        · obtain ⟨q1, q2, q3⟩ := hpart h10
          rw [hz0 h10, nI_clamp (show 196 * (gm_s g (3 * p + k) - 10) + 14 * yk_bg i u v k + yk_en u v j k < 2 ^ 31 by omega)]
          have eW : a_values (196 * (gm_s g (3 * p + k) - 10) + 14 * yk_bg i u v k + yk_en u v j k) = yk_W g op cn p i u v j k := by
            rw [q2]; unfold yk_W gm_Wp; rw [if_pos h10]
          rw [eW]
          refine ⟨vp_in_nI (by omega) (by omega), ?_⟩
          unfold wY_evaluate_134
          have eNp : gm_Np (gm_N g) (gm_s g (3 * p + k)) (yk_bg i u v k) (yk_en u v j k) = gm_N g (gm_s g (3 * p + k) - 10) (yk_bg i u v k) (yk_en u v j k) := by unfold gm_Np; rw [if_pos h10]
          rw [eNp] at enn
          rw [nI_clamp (show c < 2 ^ 31 by omega), nI_clamp (show 196 * (gm_s g (3 * p + k) - 10) + 14 * yk_bg i u v k + yk_en u v j k < 2 ^ 31 by omega), pk_uLs, pk_uLn q1, q3, lN_add, show (2000000000 : Int64) = lN 2000000000 from rfl]
          refine br_i (cp_Sy_lt10 hcc) (fun w => absurd w (by omega)) (fun _ => ⟨vp_in_nI (by omega) (by omega), vp_in_nI (by omega) (by omega), br_i (pk_lLE (by omega) (by omega)) (fun w => ?_) (fun w => ⟨vp_in_nI (by omega) (by omega), vp_in_nI (by omega) (by omega), ?_⟩)⟩)
          · unfold wY_evaluate_189
            rw [nI_clamp (show c < 2 ^ 31 by omega), upd2, show lN 2000000000 = lN (min (yk_nn g p i u v j (k + 1)) 2000000000) from congrArg lN (by omega)]
            exact ⟨vp_in_nI (by omega) (by omega), nm_e w190⟩
          · unfold wY_evaluate_189
            rw [nI_clamp (show c < 2 ^ 31 by omega), upd2, show min (yk_nn g p i u v j k) 2000000000 + min (gm_N g (gm_s g (3 * p + k) - 10) (yk_bg i u v k) (yk_en u v j k)) 2000000000 = min (yk_nn g p i u v j (k + 1)) 2000000000 by omega]
            exact ⟨vp_in_nI (by omega) (by omega), nm_e w190⟩
        · unfold wY_evaluate_134
          have eW : (cp_Sy (gm_s g (3 * p + k))).toInt64 = yk_W g op cn p i u v j k := by
            rw [cp_Sy_n h9, nI_l (by omega)]; unfold yk_W gm_Wp; rw [if_neg h10, if_neg h9]
          have eNp : gm_Np (gm_N g) (gm_s g (3 * p + k)) (yk_bg i u v k) (yk_en u v j k) = 0 := by unfold gm_Np; rw [if_neg h10]
          rw [eNp, Nat.add_zero] at enn
          rw [enn] at w190
          rw [eW]
          exact br_i (cp_Sy_lt10 hcc) (fun _ => w190) (fun w => absurd w (by omega))
      rw [wY_evaluate_45]; dsimp only
      rw [nI_clamp (show p < 2 ^ 31 by omega), cp_G_sz G hp, ix_3k, nI_clamp (show 3 * p + k < 2 ^ 31 by omega), cp_G_rt G hp hk3]
      have pe : wpY_partEnd (fun r_65 => ((10 ≤ cp_Sy (gm_s g (3 * p + k)) → (wpY_cell (fun r_92 => wY_evaluate_112 post (wY_evaluate_45 post (nI c) (nI i) (nI j) (nI p) (nI (gm_P g)) (nI L) f_goal f_extra f_measured f_known f_more f_sum (d + 1)) (nI c) (nI i) (nI j) (nI p) (ev_t (yk_W g op cn p i u v j) k) (ev_m (yk_W g op cn p i u v j) k) (ev_r (a_constants p).toInt64 (yk_W g op cn p i u v j) k) (ev_g (a_constants p).toInt64 (yk_W g op cn p i u v j) k) (ev_o (yk_W g op cn p i u v j) k) (ev_n (yk_W g op cn p i u v j) k) (nI k) (cp_Sy (gm_s g (3 * p + k))) r_92 (nI (gm_P g)) (nI L) f_goal f_extra f_measured f_known f_more f_sum a_left a_size a_right a_text a_ops a_constants a_heights a_many a_chosen a_firstEnd a_secondEnd a_values (vp_updL a_nodes c (lN (min (yk_nn g p i u v j k) 2000000000))) a_far a_productive a_useful a_covers) (nI (gm_P g), nI L, f_goal, f_extra, f_measured, f_known, f_more, f_sum, a_left, a_size, a_right, a_text, a_ops, a_constants, a_heights, a_many, a_chosen, a_firstEnd, a_secondEnd, a_values, vp_updL a_nodes c (lN (min (yk_nn g p i u v j k) 2000000000)), a_far, a_productive, a_useful, a_covers) (cp_Sy (gm_s g (3 * p + k))) (nI (yk_bg i u v k)) r_65)) ∧ (¬ 10 ≤ cp_Sy (gm_s g (3 * p + k)) → (wY_evaluate_112 post (wY_evaluate_45 post (nI c) (nI i) (nI j) (nI p) (nI (gm_P g)) (nI L) f_goal f_extra f_measured f_known f_more f_sum (d + 1)) (nI c) (nI i) (nI j) (nI p) (ev_t (yk_W g op cn p i u v j) k) (ev_m (yk_W g op cn p i u v j) k) (ev_r (a_constants p).toInt64 (yk_W g op cn p i u v j) k) (ev_g (a_constants p).toInt64 (yk_W g op cn p i u v j) k) (ev_o (yk_W g op cn p i u v j) k) (ev_n (yk_W g op cn p i u v j) k) (nI k) (cp_Sy (gm_s g (3 * p + k))) 0 (nI (gm_P g)) (nI L) f_goal f_extra f_measured f_known f_more f_sum a_left a_size a_right a_text a_ops a_constants a_heights a_many a_chosen a_firstEnd a_secondEnd a_values (vp_updL a_nodes c (lN (min (yk_nn g p i u v j k) 2000000000))) a_far a_productive a_useful a_covers)))) (nI (gm_P g), nI L, f_goal, f_extra, f_measured, f_known, f_more, f_sum, a_left, a_size, a_right, a_text, a_ops, a_constants, a_heights, a_many, a_chosen, a_firstEnd, a_secondEnd, a_values, vp_updL a_nodes c (lN (min (yk_nn g p i u v j k) 2000000000)), a_far, a_productive, a_useful, a_covers) (nI c) (nI j) (nI k) := by
        have body : ∀ e, e = nI (yk_en u v j k) → ((10 ≤ cp_Sy (gm_s g (3 * p + k)) → (wpY_cell (fun r_92 => wY_evaluate_112 post (wY_evaluate_45 post (nI c) (nI i) (nI j) (nI p) (nI (gm_P g)) (nI L) f_goal f_extra f_measured f_known f_more f_sum (d + 1)) (nI c) (nI i) (nI j) (nI p) (ev_t (yk_W g op cn p i u v j) k) (ev_m (yk_W g op cn p i u v j) k) (ev_r (a_constants p).toInt64 (yk_W g op cn p i u v j) k) (ev_g (a_constants p).toInt64 (yk_W g op cn p i u v j) k) (ev_o (yk_W g op cn p i u v j) k) (ev_n (yk_W g op cn p i u v j) k) (nI k) (cp_Sy (gm_s g (3 * p + k))) r_92 (nI (gm_P g)) (nI L) f_goal f_extra f_measured f_known f_more f_sum a_left a_size a_right a_text a_ops a_constants a_heights a_many a_chosen a_firstEnd a_secondEnd a_values (vp_updL a_nodes c (lN (min (yk_nn g p i u v j k) 2000000000))) a_far a_productive a_useful a_covers) (nI (gm_P g), nI L, f_goal, f_extra, f_measured, f_known, f_more, f_sum, a_left, a_size, a_right, a_text, a_ops, a_constants, a_heights, a_many, a_chosen, a_firstEnd, a_secondEnd, a_values, vp_updL a_nodes c (lN (min (yk_nn g p i u v j k) 2000000000)), a_far, a_productive, a_useful, a_covers) (cp_Sy (gm_s g (3 * p + k))) (nI (yk_bg i u v k)) e)) ∧ (¬ 10 ≤ cp_Sy (gm_s g (3 * p + k)) → (wY_evaluate_112 post (wY_evaluate_45 post (nI c) (nI i) (nI j) (nI p) (nI (gm_P g)) (nI L) f_goal f_extra f_measured f_known f_more f_sum (d + 1)) (nI c) (nI i) (nI j) (nI p) (ev_t (yk_W g op cn p i u v j) k) (ev_m (yk_W g op cn p i u v j) k) (ev_r (a_constants p).toInt64 (yk_W g op cn p i u v j) k) (ev_g (a_constants p).toInt64 (yk_W g op cn p i u v j) k) (ev_o (yk_W g op cn p i u v j) k) (ev_n (yk_W g op cn p i u v j) k) (nI k) (cp_Sy (gm_s g (3 * p + k))) 0 (nI (gm_P g)) (nI L) f_goal f_extra f_measured f_known f_more f_sum a_left a_size a_right a_text a_ops a_constants a_heights a_many a_chosen a_firstEnd a_secondEnd a_values (vp_updL a_nodes c (lN (min (yk_nn g p i u v j k) 2000000000))) a_far a_productive a_useful a_covers))) := by
          intro e he
          subst he
          exact br_i (cp_Sy_ge10 hcc) (fun h10 => ys_cell h10 (w112 _ fun _ => rfl)) (fun h10 => w112 _ fun w => absurd w h10)
        unfold wpY_partEnd
        dsimp only
        rw [nI_clamp (show c < 2 ^ 31 by omega)]
        refine pk_eq k 0 (fun e => ⟨vp_in_nI (by omega) (by omega), body _ ?_⟩) (fun e => pk_eq k 1 (fun e' => ⟨vp_in_nI (by omega) (by omega), body _ ?_⟩) (fun e' => body _ ?_))
        · rw [e1]; unfold yk_en; rw [if_pos e]
        · rw [e2]; unfold yk_en; rw [if_neg e, if_pos e']
        · unfold yk_en; rw [if_neg e, if_neg e']
      refine ⟨vp_in_nI (by omega) (by omega), pk_le (gm_sz g p) k (fun z => absurd z (by omega)) (fun _ => ⟨vp_in_nI (by omega) (by omega), nm_e ?_⟩)⟩
      unfold wpY_partBegin
      dsimp only
      rw [nI_clamp (show c < 2 ^ 31 by omega), e1, e2]
      refine pk_eq k 0 (fun e => ?_) (fun e => pk_eq k 1 (fun e' => ⟨vp_in_nI (by omega) (by omega), ?_⟩) (fun e' => ⟨vp_in_nI (by omega) (by omega), ?_⟩))
      · have : yk_bg i u v k = i := by unfold yk_bg; rw [if_pos e]
        rw [this] at pe; exact pe
      · have : yk_bg i u v k = u := by unfold yk_bg; rw [if_neg e, if_pos e']
        rw [this] at pe; exact pe
      · have : yk_bg i u v k = v := by unfold yk_bg; rw [if_neg e, if_neg e']
        rw [this] at pe; exact pe
  unfold wpY_evaluate
  dsimp only
  rw [nI_clamp (show p < 2 ^ 31 by omega), nI_clamp (show c < 2 ^ 31 by omega)]
  exact ⟨vp_in_nI (by omega) (by omega), nm_e ⟨vp_in_nI (by omega) (by omega), nm_e ⟨vp_in_nI (by omega) (by omega), nm_e ⟨gm_sz g p + 1, lp (gm_sz g p) 0 (by omega)⟩⟩⟩⟩
end
end
section
/-! Y: choose, know -/
def yk_Cl (g : gm_G) (op : Nat → Nat) (cn : Nat → Int32) (ac a1 a2 : Nat → Int32) (av an : Nat → Int64) (n a b : Nat) : Prop :=
  (∀ p u v, gm_IsC g n a b p u v → ac (196 * n + 14 * a + b) = nI p ∧ a1 (196 * n + 14 * a + b) = nI u ∧ a2 (196 * n + 14 * a + b) = nI v) ∧ an (196 * n + 14 * a + b) = lN (min (gm_N g n a b) 2000000000) ∧ av (196 * n + 14 * a + b) = gm_V g op cn n a b
theorem yk_Ht_H {g : gm_G} {L h : Nat} {ah : Nat → Int32} (ok : gm_ok g) (hL : L ≤ 10) (hH : yk_Ht g L ah) : yk_H L ah (h + 1) (gm_T g h) := fun n a b h1 h2 h3 => ⟨gm_Ht g n a b, by have := gm_Ht_B (g := g) (n := n) (i := a) (j := b) ok (by omega); omega, hH.1 n a b ⟨h1, h2, h3⟩, by rw [gm_T_iff]; omega⟩
theorem yk_Ht_D {g : gm_G} {L : Nat} {ah : Nat → Int32} (ok : gm_ok g) (hL : L ≤ 10) (hH : yk_Ht g L ah) : yk_H L ah 1000 (gm_D g) := fun n a b h1 h2 h3 => by
  have := gm_Ht_B (g := g) (n := n) (i := a) (j := b) ok (by omega)
  exact ⟨gm_Ht g n a b, by omega, hH.1 n a b ⟨h1, h2, h3⟩, by rw [gm_D_iff]; omega⟩
section
variable {g : gm_G} {L : Nat} {f_goal f_extra f_measured f_known f_more : Int32} {a_left a_size a_right a_text a_ops a_constants a_heights a_chosen a_firstEnd a_secondEnd a_far a_productive a_useful a_covers : Nat → Int32} {a_many a_values a_nodes : Nat → Int64} {f_sum : Int64} {c i j p n k m a b r u v h : Nat} {op : Nat → Nat} {cn : Nat → Int32}
theorem ys_choose {post : SY → Prop} (G : cp_G g L a_right a_size a_text) (hl : yk_L g a_left) (O : xk_O g op cn a_ops a_constants) (hH : yk_Ht g L a_heights) (hc0 : yk_ok L n i j) (hh : gm_Ht g n i j = h + 1)
    (hP : ∀ m a b, yk_ok L m a b → 0 < gm_Ht g m a b → gm_Ht g m a b ≤ h → yk_Cl g op cn a_chosen a_firstEnd a_secondEnd a_values a_nodes m a b)
    (hE : ∀ ac a1 a2 av an, yk_Cl g op cn ac a1 a2 av an n i j → (∀ y, y ≠ 196 * n + 14 * i + j → ac y = a_chosen y ∧ a1 y = a_firstEnd y ∧ a2 y = a_secondEnd y ∧ av y = a_values y ∧ an y = a_nodes y) → post (nI (gm_P g), nI L, f_goal, f_extra, f_measured, f_known, 1, f_sum, a_left, a_size, a_right, a_text, a_ops, a_constants, a_heights, a_many, ac, a1, a2, av, an, a_far, a_productive, a_useful, a_covers)) : wpY_choose post (nI (gm_P g), nI L, f_goal, f_extra, f_measured, f_known, f_more, f_sum, a_left, a_size, a_right, a_text, a_ops, a_constants, a_heights, a_many, a_chosen, a_firstEnd, a_secondEnd, a_values, a_nodes, a_far, a_productive, a_useful, a_covers) (nI (196 * n + 14 * i + j)) (nI (h + 1)) := by
  have h12 := cp_G_P G
  have hL := cp_G_L G
  have ok := cp_G_ok G
  obtain ⟨hn, hij, hj⟩ := hc0
  have hB := gm_Ht_B (g := g) (n := n) (i := i) (j := j) ok (by omega)
  have H := yk_Ht_H (h := h) ok hL hH
  have hc : 196 * n + 14 * i + j < 980 := by omega
  obtain ⟨p0, hp0, hl0, u0, v0, hd0⟩ := gm_Ht_inv (g := g) (n := n) (i := i) (j := j) (by omega)
  rw [hh, Nat.add_sub_cancel] at hd0
  have lp : ∀ d p1 ac a1 a2, p1 = d → p1 ≤ gm_P g → yk_PB g n i j h p1 ac a1 a2 (196 * n + 14 * i + j) → (∀ y, y ≠ 196 * n + 14 * i + j → ac y = a_chosen y ∧ a1 y = a_firstEnd y ∧ a2 y = a_secondEnd y) → wY_choose_33 post (nI (196 * n + 14 * i + j)) (nI (h + 1)) (nI (n + 10)) (nI i) (nI j) (d + 1) (nI p1 + (-1)) (nI (gm_P g)) (nI L) f_goal f_extra f_measured f_known f_more f_sum a_left a_size a_right a_text a_ops a_constants a_heights a_many ac a1 a2 a_values a_nodes a_far a_productive a_useful a_covers := by
    intro d
    induction d with
    | zero =>
      intro p1 ac a1 a2 hp1 hpP hI hf
      subst hp1
      obtain ⟨q, u, v, -, w2, w3, w4, w5, w6, w7, w8, w9⟩ := hI ⟨p0, u0, v0, Nat.zero_le _, hp0, hl0, hd0⟩
      have hC : gm_IsC g n i j q u v := by
        refine ⟨w2, w3, ?_, ?_, ?_⟩
        · rw [hh, Nat.add_sub_cancel]; exact w4
        · intro p' u' v' q1 q2
          rw [hh, Nat.add_sub_cancel]; exact w5 p' u' v' (Nat.zero_le _) q1 q2
        · intro u' v'
          rw [hh, Nat.add_sub_cancel]; exact w6 u' v'
      have hpos : 0 < gm_Ht g n i j := by omega
      obtain ⟨d1, d2, d3, sa, sb, sc⟩ := w4
      have c0 : gm_s g (3 * q) < 15 := gm_ok_15 ok w2 (show 0 < 3 by omega)
      have c1 := gm_ok_15 ok w2 (show 1 < 3 by omega)
      have c2 := gm_ok_15 ok w2 (show 2 < 3 by omega)
      have K : ∀ c a b, c < 15 → a ≤ b → b ≤ L → gm_Sp g (gm_T g h) c a b → gm_Sf (yk_pt g op cn (196 * n + 14 * i + j) a_values a_nodes) c a b := by
        intro c a b hcc hab hb hs h10
        have t := gm_T_iff.mp ((gm_Sp_n h10).mp hs)
        have q := hP (c - 10) a b ⟨by omega, hab, hb⟩ t.1 t.2
        refine ⟨fun e => ?_, q.2.2, q.2.1⟩
        obtain ⟨e1, e2, e3⟩ := yk_idx hL ⟨show c - 10 < 5 by omega, hab, hb⟩ ⟨hn, hij, hj⟩ e
        rw [e1, e2, e3] at t; omega
      rw [wY_choose_33]; dsimp only
      rw [nI_clamp (show 196 * n + 14 * i + j < 2 ^ 31 by omega), w7]
      refine br_t (by decide) ⟨vp_in_nI (by omega) (by omega), ys_evaluate (op := op) (cn := cn) G O w2 d1 d2 d3 hj hc w8 w9 ⟨K _ _ _ c0 d1 (by omega) sa, K _ _ _ c1 d2 (by omega) sb, K _ _ _ c2 d3 hj sc⟩ (hE ac a1 a2 (vp_updL a_values (196 * n + 14 * i + j) (gm_Vs g op cn (gm_V g op cn) q i u v j)) (vp_updL a_nodes (196 * n + 14 * i + j) (lN (min (gm_Ns g (gm_N g) q i u v j) 2000000000))) ⟨fun p' u' v' hC' => ?_, ?_, ?_⟩ fun y hy => ?_)⟩
      · obtain ⟨rfl, rfl, rfl⟩ := gm_IsC_un hC hC'
        exact ⟨w7, w8, w9⟩
      · rw [pk_uLs, gm_N_eq hC hpos]
      · rw [pk_uLs, gm_V_eq hC hpos]
      · rw [pk_uLn hy, pk_uLn hy]
        obtain ⟨f1, f2, f3⟩ := hf y hy
        exact ⟨f1, f2, f3, rfl, rfl⟩
    | succ d ih =>
      intro p1 ac a1 a2 hp1 hpP hI hf
      subst hp1
      have hp' : d < gm_P g := by omega
      have hl5 := gm_ok_l ok hp'
      rw [pk_m1, wY_choose_33]
      refine br_f (nI_pos (by omega)) ?_
      rw [nI_clamp (show d < 2 ^ 31 by omega), hl d hp']
      refine ⟨vp_in_nI (by omega) (by omega), pk_eq (gm_l g d + 10) (n + 10) (fun e => ys_chooseBy G H (by omega) hp' (by omega) hij hj hc hI fun ac' a1' a2' hI' hf' => nm_e (ih d ac' a1' a2' rfl (by omega) hI' fun y hy => ?_)) (fun e => nm_e (ih d ac a1 a2 rfl (by omega) ?_ hf))⟩
      · obtain ⟨q1, q2, q3⟩ := hf' y hy
        obtain ⟨s1, s2, s3⟩ := hf y hy
        exact ⟨q1.trans s1, q2.trans s2, q3.trans s3⟩
      · rintro ⟨q, u, v, w1, w2, w3, w4⟩
        have hq : d + 1 ≤ q := by
          rcases Nat.lt_or_ge d q with z | z
          · exact z
          · have : q = d := by omega
            subst this; omega
        obtain ⟨q, u, v, e1, e2, e3, e4, e5, e6, e7⟩ := hI ⟨q, u, v, hq, w2, w3, w4⟩
        refine ⟨q, u, v, by omega, e2, e3, e4, fun q' x y s1 s2 s3 s4 => ?_, e6, e7⟩
        by_cases z : q' = d
        · subst z; omega
        · exact e5 q' x y (by omega) s2 s3 s4
  have m1 : nI (196 * n + 14 * i + j) / 196 = nI n := by
    rw [show (196 : Int32) = nI 196 from rfl, pk_div (by omega) (by omega) (by omega)]; exact congrArg nI (by omega)
  have m2 : nI (196 * n + 14 * i + j) - nI (196 * n + 14 * i + j) / 196 * 196 = nI (14 * i + j) := by
    rw [show (196 : Int32) = nI 196 from rfl, pk_rem (by omega) (by omega) (by omega)]; exact congrArg nI (by omega)
  have m3 : nI (14 * i + j) / 14 = nI i := by
    rw [show (14 : Int32) = nI 14 from rfl, pk_div (by omega) (by omega) (by omega)]; exact congrArg nI (by omega)
  have m4 : nI (196 * n + 14 * i + j) - nI (196 * n + 14 * i + j) / 14 * 14 = nI j := by
    rw [show (14 : Int32) = nI 14 from rfl, pk_rem (by omega) (by omega) (by omega)]; exact congrArg nI (by omega)
  unfold wpY_choose
  dsimp only
  rw [m2, m1, m3, m4]
  refine ⟨by decide, nm_r (e' := nI (n + 10)) (by rw [show (10 : Int32) = nI 10 from rfl, nI_add]) ⟨by decide, by decide, nm_e ⟨by decide, nm_e (nm_r (e' := nI (gm_P g) + (-1)) ?_ ⟨gm_P g + 1, lp (gm_P g) (gm_P g) _ _ _ rfl (Nat.le_refl _) (fun ⟨q, _, _, w1, w2, _⟩ => absurd w1 (by omega)) fun y _ => ⟨rfl, rfl, rfl⟩⟩)⟩⟩⟩
  obtain ⟨q, hq⟩ : ∃ q, gm_P g = q + 1 := ⟨gm_P g - 1, by omega⟩
  rw [hq, pk_m1, nI_pred]
/-- all that know finds -/
def yk_KN (g : gm_G) (op : Nat → Nat) (cn : Nat → Int32) (L : Nat) (ah : Nat → Int32) (am : Nat → Int64) (ac a1 a2 : Nat → Int32) (av an : Nat → Int64) : Prop :=
  yk_Ht g L ah ∧ yk_Mf g L am ∧ ∀ n a b, yk_ok L n a b → 0 < gm_Ht g n a b → yk_Cl g op cn ac a1 a2 av an n a b
def yk_DC (h c0 : Nat) (x c : Nat) : Prop := x < h ∨ (x = h ∧ c < c0)
/-- while the cells of height h are chosen -/
def yk_K37 (g : gm_G) (op : Nat → Nat) (cn : Nat → Int32) (L h c0 : Nat) (fm : Int32) (ac a1 a2 : Nat → Int32) (av an : Nat → Int64) : Prop :=
  (∀ n a b, yk_ok L n a b → 0 < gm_Ht g n a b → yk_DC h c0 (gm_Ht g n a b) (196 * n + 14 * a + b) → yk_Cl g op cn ac a1 a2 av an n a b) ∧
  (fm = 0 → ∀ n a b, yk_ok L n a b → 196 * n + 14 * a + b < c0 → gm_Ht g n a b ≠ h) ∧ (fm ≠ 0 → ∃ n a b, yk_ok L n a b ∧ gm_Ht g n a b = h)
theorem ys_know_37 {post : SY → Prop} {J : Int32 → Int32 → Int32 → Int32 → Int32 → Int32 → Int32 → Int32 → Int64 → (Nat → Int32) → (Nat → Int32) → (Nat → Int32) → (Nat → Int32) → (Nat → Int32) → (Nat → Int32) → (Nat → Int32) → (Nat → Int64) → (Nat → Int32) → (Nat → Int32) → (Nat → Int32) → (Nat → Int64) → (Nat → Int64) → (Nat → Int32) → (Nat → Int32) → (Nat → Int32) → (Nat → Int32) → Prop} (G : cp_G g L a_right a_size a_text) (hl : yk_L g a_left) (O : xk_O g op cn a_ops a_constants) (hH : yk_Ht g L a_heights) (hh9 : h < 100)
    (hJ : ∀ fm ac a1 a2 av an, yk_K37 g op cn L (h + 1) 980 fm ac a1 a2 av an → J (nI (h + 1 + 1)) (nI (gm_P g)) (nI L) f_goal f_extra f_measured f_known fm f_sum a_left a_size a_right a_text a_ops a_constants a_heights a_many ac a1 a2 av an a_far a_productive a_useful a_covers) :
    ∀ d c fm ac a1 a2 av an, c + d = 980 → yk_K37 g op cn L (h + 1) c fm ac a1 a2 av an → wY_know_37 post J (nI (h + 1)) (d + 1) (nI c) (nI (gm_P g)) (nI L) f_goal f_extra f_measured f_known fm f_sum a_left a_size a_right a_text a_ops a_constants a_heights a_many ac a1 a2 av an a_far a_productive a_useful a_covers := by
  have hL := cp_G_L G
  have ok := cp_G_ok G
  intro d
  induction d with
  | zero =>
    intro c fm ac a1 a2 av an hc hI
    rw [wY_know_37]
    have e : c = 980 := by omega
    subst e
    exact pk_le 980 980 (fun _ => nm_r (nI_1 _) (hJ fm ac a1 a2 av an hI)) (fun z => absurd z (by omega))
  | succ d ih =>
    intro c fm ac a1 a2 av an hc hI
    rw [wY_know_37]
    refine pk_le 980 c (fun z => absurd z (by omega)) (fun _ => ?_)
    rw [nI_clamp (show c < 2 ^ 31 by omega)]
    refine ⟨vp_in_nI (by omega) (by omega), ?_⟩
    rcases Classical.em (∃ n a b, yk_ok L n a b ∧ c = 196 * n + 14 * a + b) with ⟨n, a, b, hk, ec⟩ | hno
    · have hB := gm_Ht_B (g := g) (n := n) (i := a) (j := b) ok (by have := hk.2.2; omega)
      subst ec
      rw [hH.1 n a b hk]
      refine pk_eq (gm_Ht g n a b) (h + 1) (fun e => ys_choose (op := op) (cn := cn) G hl O hH hk e (fun m x y hk' h0 hle => hI.1 m x y hk' h0 (Or.inl (by omega))) fun ac' a1' a2' av' an' hcl hf => nm_r (nI_1 _) (ih _ 1 ac' a1' a2' av' an' (by omega) ⟨fun m x y hk' h0 hD => ?_, fun z => absurd z (by decide), fun _ => ⟨n, a, b, hk, e⟩⟩)) (fun e => nm_r (nI_1 _) (ih _ fm ac a1 a2 av an (by omega) ⟨fun m x y hk' h0 hD => hI.1 m x y hk' h0 ?_, fun z m x y hk' hlt => ?_, hI.2.2⟩))
      · by_cases w : 196 * m + 14 * x + y = 196 * n + 14 * a + b
        · obtain ⟨rfl, rfl, rfl⟩ := yk_idx hL hk' hk w
          exact hcl
        · obtain ⟨f1, f2, f3, f4, f5⟩ := hf _ w
          have q := hI.1 m x y hk' h0 (by unfold yk_DC at hD ⊢; omega)
          unfold yk_Cl at q ⊢
          rw [f1, f2, f3, f4, f5]; exact q
      · by_cases w : 196 * m + 14 * x + y = 196 * n + 14 * a + b
        · obtain ⟨rfl, rfl, rfl⟩ := yk_idx hL hk' hk w
          unfold yk_DC at hD ⊢; omega
        · unfold yk_DC at hD ⊢; omega
      · by_cases w : 196 * m + 14 * x + y = 196 * n + 14 * a + b
        · obtain ⟨rfl, rfl, rfl⟩ := yk_idx hL hk' hk w
          exact e
        · exact hI.2.1 z m x y hk' (by omega)
    · have h0 : a_heights c = 0 := hH.2 c (by omega) fun n a b hk e => hno ⟨n, a, b, hk, e⟩
      rw [h0]
      refine pk_eq 0 (h + 1) (fun e => absurd e (by omega)) (fun _ => nm_r (nI_1 _) (ih (c + 1) fm ac a1 a2 av an (by omega) ⟨fun m x y hk' h0 hD => hI.1 m x y hk' h0 ?_, fun z m x y hk' hlt => hI.2.1 z m x y hk' ?_, hI.2.2⟩))
      · have : 196 * m + 14 * x + y ≠ c := fun e => hno ⟨m, x, y, hk', e.symm⟩
        unfold yk_DC at hD ⊢; omega
      · have : 196 * m + 14 * x + y ≠ c := fun e => hno ⟨m, x, y, hk', e.symm⟩
        omega
theorem ys_know_23 {post : SY → Prop} (G : cp_G g L a_right a_size a_text) (hl : yk_L g a_left) (O : xk_O g op cn a_ops a_constants) (hH : yk_Ht g L a_heights) (hM : yk_Mf g L a_many)
    (hE : ∀ fm ac a1 a2 av an, yk_KN g op cn L a_heights a_many ac a1 a2 av an → post (nI (gm_P g), nI L, f_goal, f_extra, 0, 1, fm, f_sum, a_left, a_size, a_right, a_text, a_ops, a_constants, a_heights, a_many, ac, a1, a2, av, an, a_far, a_productive, a_useful, a_covers)) :
    ∀ d h fm ac a1 a2 av an, h + d = 56 → (0 < h ∧ yk_K37 g op cn L h 980 fm ac a1 a2 av an) ∨ (h = 0 ∧ fm = 1) → wY_know_23 post (d + 1) (nI (h + 1)) (nI (gm_P g)) (nI L) f_goal f_extra f_measured f_known fm f_sum a_left a_size a_right a_text a_ops a_constants a_heights a_many ac a1 a2 av an a_far a_productive a_useful a_covers := by
  have hL := cp_G_L G
  have ok := cp_G_ok G
  have idx : ∀ n a b, yk_ok L n a b → 196 * n + 14 * a + b < 980 := fun n a b hk => by obtain ⟨q1, q2, q3⟩ := hk; omega
  have fin : ∀ h fm ac a1 a2 av an, (0 < h ∧ yk_K37 g op cn L h 980 fm ac a1 a2 av an) ∨ (h = 0 ∧ fm = 1) → fm = 0 → yk_KN g op cn L a_heights a_many ac a1 a2 av an := by
    intro h fm ac a1 a2 av an hI e
    rcases hI with ⟨z, hI⟩ | ⟨_, w⟩
    · exact ⟨hH, hM, fun n a b hk h0 => hI.1 n a b hk h0 (Or.inl (gm_Ht_top ok z (fun n a b hk => hI.2.1 e n a b hk (idx n a b hk)) n a b hk))⟩
    · rw [w] at e; exact absurd e (by decide)
  intro d
  induction d with
  | zero =>
    intro h fm ac a1 a2 av an hd hI
    rw [wY_know_23]
    refine br_c (fun e => hE fm ac a1 a2 av an (fin h fm ac a1 a2 av an hI e)) (fun e => ?_)
    rcases hI with ⟨_, hI⟩ | ⟨w, _⟩
    · obtain ⟨n, a, b, hk, w⟩ := hI.2.2 e
      have := gm_Ht_B (g := g) (n := n) (i := a) (j := b) ok (by have := hk.2.2; omega)
      omega
    · omega
  | succ d ih =>
    intro h fm ac a1 a2 av an hd hI
    rw [wY_know_23]
    refine br_c (fun e => hE fm ac a1 a2 av an (fin h fm ac a1 a2 av an hI e)) (fun e => ⟨981, ys_know_37 (h := h) G hl O hH (by omega) (fun fm' ac' a1' a2' av' an' hI' => ih (h + 1) fm' ac' a1' a2' av' an' (by omega) (Or.inl ⟨by omega, hI'⟩)) 980 0 0 ac a1 a2 av an rfl ⟨fun n a b hk h0 hD => ?_, fun _ n a b hk hlt => absurd hlt (by omega), fun z => absurd rfl z⟩⟩)
    rcases hI with ⟨_, hI⟩ | ⟨w, _⟩
    · exact hI.1 n a b hk h0 (by have := idx n a b hk; unfold yk_DC at hD ⊢; omega)
    · unfold yk_DC at hD; omega
theorem ys_know {post : SY → Prop} (G : cp_G g L a_right a_size a_text) (hl : yk_L g a_left) (O : xk_O g op cn a_ops a_constants) (hk : f_known ≠ 0 → f_known = 1 ∧ yk_KN g op cn L a_heights a_many a_chosen a_firstEnd a_secondEnd a_values a_nodes)
    (hE : ∀ fme fm fs ah am ac a1 a2 av an, (fme ≠ 0 → f_known ≠ 0 ∧ fme = f_measured) → yk_KN g op cn L ah am ac a1 a2 av an → post (nI (gm_P g), nI L, f_goal, f_extra, fme, 1, fm, fs, a_left, a_size, a_right, a_text, a_ops, a_constants, ah, am, ac, a1, a2, av, an, a_far, a_productive, a_useful, a_covers)) : wpY_know post (nI (gm_P g), nI L, f_goal, f_extra, f_measured, f_known, f_more, f_sum, a_left, a_size, a_right, a_text, a_ops, a_constants, a_heights, a_many, a_chosen, a_firstEnd, a_secondEnd, a_values, a_nodes, a_far, a_productive, a_useful, a_covers) := by
  have hL := cp_G_L G
  have ok := cp_G_ok G
  unfold wpY_know
  refine br_c (fun _ => ys_derive G hl fun fm ah hH => ys_count G hl hH (yk_Ht_D ok hL hH) fun fm2 fs am hM => ⟨57, ?_⟩) (fun z => ?_)
  · exact ys_know_23 (op := op) (cn := cn) G hl O hH hM (fun fm3 ac a1 a2 av an hK => hE 0 fm3 fs ah am ac a1 a2 av an (fun w => absurd rfl w) hK) 56 0 1 _ _ _ _ _ rfl (Or.inr ⟨rfl, rfl⟩)
  · obtain ⟨e, hK⟩ := hk z
    have := hE f_measured f_more f_sum _ _ _ _ _ _ _ (fun _ => ⟨z, rfl⟩) hK
    rw [← e] at this
    exact this
end
end
section
/-! Y: the queries, over whole states -/
def yk_Fa (g : gm_G) (L : Nat) (af : Nat → Int32) : Prop := ∀ n a b, yk_ok L n a b → (∃ x, x < 2 ^ 31 ∧ af (196 * n + 14 * a + b) = nI x ∧ gm_FY g n a b x) ∨ (af (196 * n + 14 * a + b) = -1 ∧ ∀ x, ¬ gm_Ye g n a b x)
def yk_J (g : gm_G) (op : Nat → Nat) (cn : Nat → Int32) (L : Nat) (f_measured f_known : Int32) (a_left a_size a_right a_text a_ops a_constants a_heights : Nat → Int32) (a_many : Nat → Int64) (a_chosen a_firstEnd a_secondEnd : Nat → Int32) (a_values a_nodes : Nat → Int64) (a_far : Nat → Int32) : Prop :=
  cp_G g L a_right a_size a_text ∧ yk_L g a_left ∧ xk_O g op cn a_ops a_constants ∧ (f_known ≠ 0 → f_known = 1 ∧ yk_KN g op cn L a_heights a_many a_chosen a_firstEnd a_secondEnd a_values a_nodes) ∧ (f_known ≠ 0 → f_measured ≠ 0 → yk_Fa g L a_far)
def yk_I (g : gm_G) (op : Nat → Nat) (cn : Nat → Int32) (L : Nat) (v : SY) : Prop := match v with
  | (f_productions, f_length, f_goal, f_extra, f_measured, f_known, f_more, f_sum, a_left, a_size, a_right, a_text, a_ops, a_constants, a_heights, a_many, a_chosen, a_firstEnd, a_secondEnd, a_values, a_nodes, a_far, a_productive, a_useful, a_covers) => f_productions = nI (gm_P g) ∧ f_length = nI L ∧ yk_J g op cn L f_measured f_known a_left a_size a_right a_text a_ops a_constants a_heights a_many a_chosen a_firstEnd a_secondEnd a_values a_nodes a_far
def yk_k (v : SY) : Prop := match v with
  | (f_productions, f_length, f_goal, f_extra, f_measured, f_known, f_more, f_sum, a_left, a_size, a_right, a_text, a_ops, a_constants, a_heights, a_many, a_chosen, a_firstEnd, a_secondEnd, a_values, a_nodes, a_far, a_productive, a_useful, a_covers) => f_known = 1
section
variable {g : gm_G} {L : Nat} {op : Nat → Nat} {cn : Nat → Int32} {w : SY} {v1 v2 v3 : Int32}
theorem yv_know {post : SY → Prop} (I : yk_I g op cn L w) (h : ∀ w', yk_I g op cn L w' → yk_k w' → post w') : wpY_know post w := by
  obtain ⟨f_productions, f_length, f_goal, f_extra, f_measured, f_known, f_more, f_sum, a_left, a_size, a_right, a_text, a_ops, a_constants, a_heights, a_many, a_chosen, a_firstEnd, a_secondEnd, a_values, a_nodes, a_far, a_productive, a_useful, a_covers⟩ := w
  obtain ⟨rfl, rfl, G, hl, O, hk, hf⟩ := I
  refine ys_know G hl O hk fun fme fm fs ah am ac a1 a2 av an hm hK => h _ ⟨rfl, rfl, G, hl, O, fun _ => ⟨rfl, hK⟩, fun _ z => ?_⟩ rfl
  obtain ⟨q1, q2⟩ := hm z
  exact hf q1 (by rw [← q2]; exact z)
theorem yv_height {post : Int32 → SY → Prop} (I : yk_I g op cn L w) (h0 : (∀ n i j, ¬ cp_Span L v1 v2 v3 n i j) → post 0 w) (h1 : ∀ n i j w', cp_Span L v1 v2 v3 n i j → yk_I g op cn L w' → yk_k w' → post (nI (gm_Ht g n i j)) w') : wpY_height post w v1 v2 v3 := by
  obtain ⟨f_productions, f_length, f_goal, f_extra, f_measured, f_known, f_more, f_sum, a_left, a_size, a_right, a_text, a_ops, a_constants, a_heights, a_many, a_chosen, a_firstEnd, a_secondEnd, a_values, a_nodes, a_far, a_productive, a_useful, a_covers⟩ := w
  have I0 := I
  obtain ⟨rfl, rfl, G, -⟩ := I0
  have hL := cp_G_L G
  unfold wpY_height
  refine ys_span hL (fun n i j hs => br_f (by decide) (yv_know I fun w' I' k' => ?_)) (fun hs => br_t rfl (h0 hs))
  have hs' := hs
  obtain ⟨hn, hij, hjL, e1, e2, e3⟩ := hs'
  rw [e1, e2, e3]
  obtain ⟨f_productions, f_length, f_goal, f_extra, f_measured, f_known, f_more, f_sum, a_left, a_size, a_right, a_text, a_ops, a_constants, a_heights, a_many, a_chosen, a_firstEnd, a_secondEnd, a_values, a_nodes, a_far, a_productive, a_useful, a_covers⟩ := w'
  have I1 := I'
  obtain ⟨rfl, rfl, -, -, -, hk, -⟩ := I1
  have k1 := k'
  have hK := (hk (by unfold yk_k at k1; rw [k1]; decide)).2
  dsimp only
  refine ys_cellN ?_
  rw [nI_clamp (show 196 * n + 14 * i + j < 2 ^ 31 by omega), hK.1.1 n i j ⟨hn, hij, hjL⟩]
  exact ⟨vp_in_nI (by omega) (by omega), h1 n i j _ hs I' k'⟩
theorem yv_derives {post : Int32 → SY → Prop} (I : yk_I g op cn L w) (h0 : (∀ n i j, ¬ cp_Span L v1 v2 v3 n i j) → post 0 w) (h1 : ∀ n i j w', cp_Span L v1 v2 v3 n i j → yk_I g op cn L w' → yk_k w' → gm_D g n i j → post 1 w') (h2 : ∀ n i j w', cp_Span L v1 v2 v3 n i j → yk_I g op cn L w' → yk_k w' → ¬ gm_D g n i j → post 0 w') : wpY_derives post w v1 v2 v3 := by
  obtain ⟨f_productions, f_length, f_goal, f_extra, f_measured, f_known, f_more, f_sum, a_left, a_size, a_right, a_text, a_ops, a_constants, a_heights, a_many, a_chosen, a_firstEnd, a_secondEnd, a_values, a_nodes, a_far, a_productive, a_useful, a_covers⟩ := w
  have I0 := I
  obtain ⟨rfl, rfl, G, -⟩ := I0
  have hL := cp_G_L G
  unfold wpY_derives
  refine yv_height I (fun hs => br_t (by decide) (h0 hs)) (fun n i j w' hs I' k' => ?_)
  obtain ⟨f_productions, f_length, f_goal, f_extra, f_measured, f_known, f_more, f_sum, a_left, a_size, a_right, a_text, a_ops, a_constants, a_heights, a_many, a_chosen, a_firstEnd, a_secondEnd, a_values, a_nodes, a_far, a_productive, a_useful, a_covers⟩ := w'
  have hB := gm_Ht_B (g := g) (n := n) (i := i) (j := j) (cp_G_ok G) (by have := hs.2.2.1; omega)
  refine pk_le (gm_Ht g n i j) 0 (fun z => h2 n i j _ hs I' k' fun q => ?_) (fun z => h1 n i j _ hs I' k' (gm_D_iff.mpr z))
  have := gm_D_iff.mp q; omega
theorem yv_trees {post : Int32 → SY → Prop} (I : yk_I g op cn L w) (h0 : (∀ n i j, ¬ cp_Span L v1 v2 v3 n i j) → post 0 w) (h1 : ∀ n i j w', cp_Span L v1 v2 v3 n i j → yk_I g op cn L w' → gm_F g n i j → post (nI (gm_M g n i j)) w') (h2 : ∀ n i j w', cp_Span L v1 v2 v3 n i j → yk_I g op cn L w' → ¬ gm_F g n i j → post (-3) w') : wpY_trees post w v1 v2 v3 := by
  obtain ⟨f_productions, f_length, f_goal, f_extra, f_measured, f_known, f_more, f_sum, a_left, a_size, a_right, a_text, a_ops, a_constants, a_heights, a_many, a_chosen, a_firstEnd, a_secondEnd, a_values, a_nodes, a_far, a_productive, a_useful, a_covers⟩ := w
  have I0 := I
  obtain ⟨rfl, rfl, G, -⟩ := I0
  have hL := cp_G_L G
  unfold wpY_trees
  refine ys_span hL (fun n i j hs => br_f (by decide) (yv_know I fun w' I' k' => ?_)) (fun hs => br_t rfl (h0 hs))
  have hs' := hs
  obtain ⟨hn, hij, hjL, e1, e2, e3⟩ := hs'
  rw [e1, e2, e3]
  obtain ⟨f_productions, f_length, f_goal, f_extra, f_measured, f_known, f_more, f_sum, a_left, a_size, a_right, a_text, a_ops, a_constants, a_heights, a_many, a_chosen, a_firstEnd, a_secondEnd, a_values, a_nodes, a_far, a_productive, a_useful, a_covers⟩ := w'
  have I1 := I'
  obtain ⟨rfl, rfl, -, -, -, hk, -⟩ := I1
  have k1 := k'
  have hK := (hk (by unfold yk_k at k1; rw [k1]; decide)).2
  have hB := gm_Ht_B (g := g) (n := n) (i := i) (j := j) (cp_G_ok G) (by omega)
  have hm := hK.2.1 n i j ⟨hn, hij, hjL⟩
  dsimp only
  refine ys_cellN ?_
  rw [nI_clamp (show 196 * n + 14 * i + j < 2 ^ 31 by omega), hK.1.1 n i j ⟨hn, hij, hjL⟩]
  refine ⟨vp_in_nI (by omega) (by omega), pk_le (gm_Ht g n i j) 0 (fun z => ⟨vp_in_nI (by omega) (by omega), ?_⟩) (fun z => ⟨vp_in_nI (by omega) (by omega), br_c (fun q => ?_) (fun q => ⟨vp_in_nI (by omega) (by omega), ?_⟩)⟩)⟩
  · have hF := (gm_M_0 (g := g) (n := n) (i := i) (j := j) fun q => by have := gm_D_iff.mp q; omega).1
    rw [hm.1 hF, lN_i]
    exact h1 n i j _ hs I' hF
  · have hF : ¬ gm_F g n i j := fun hF => by
      rw [hm.1 hF] at q
      have := gm_M_pos hF (gm_D_iff.mpr z)
      have hle := gm_M_le (g := g) (n := n) (i := i) (j := j)
      have := (lN_eq (a := gm_M g n i j) (b := 0) (by omega) (by omega)).mp q
      omega
    exact h2 n i j _ hs I' hF
  · have hF : gm_F g n i j := Classical.byContradiction fun y => q (hm.2 y)
    rw [hm.1 hF, lN_i]
    exact h1 n i j _ hs I' hF
theorem yv_longest {post : Int32 → SY → Prop} (I : yk_I g op cn L w) (h0 : (∀ n i, ¬ cp_Sp1 L v1 v2 n i) → post (-1) w) (h1 : ∀ n i w' r, cp_Sp1 L v1 v2 n i → yk_I g op cn L w' → cp_lg g L n i r → post r w') : wpY_longest post w v1 v2 := by
  obtain ⟨f_productions, f_length, f_goal, f_extra, f_measured, f_known, f_more, f_sum, a_left, a_size, a_right, a_text, a_ops, a_constants, a_heights, a_many, a_chosen, a_firstEnd, a_secondEnd, a_values, a_nodes, a_far, a_productive, a_useful, a_covers⟩ := w
  have I0 := I
  obtain ⟨rfl, rfl, G, -⟩ := I0
  have hL := cp_G_L G
  unfold wpY_longest
  refine ys_span hL (fun n i j hs => br_f (by decide) (yv_know I fun w' I' k' => ?_)) (fun hs => br_t rfl (h0 fun n i hz => hs n i i ⟨hz.1, Nat.le_refl _, hz.2.1, hz.2.2.1, hz.2.2.2, hz.2.2.2⟩))
  obtain ⟨hn, hij, hjL, e1, e2, e3⟩ := hs
  have hs1 : cp_Sp1 L v1 v2 n i := ⟨hn, by omega, e1, e2⟩
  rw [e1, e2]
  obtain ⟨f_productions, f_length, f_goal, f_extra, f_measured, f_known, f_more, f_sum, a_left, a_size, a_right, a_text, a_ops, a_constants, a_heights, a_many, a_chosen, a_firstEnd, a_secondEnd, a_values, a_nodes, a_far, a_productive, a_useful, a_covers⟩ := w'
  have I1 := I'
  obtain ⟨rfl, rfl, -, -, -, hk, -⟩ := I1
  have k1 := k'
  have hK := (hk (by unfold yk_k at k1; rw [k1]; decide)).2
  have lp : ∀ d j r, j + d = L + 1 → i ≤ j → ((r = -1 ∧ ∀ j', i ≤ j' → j' < j → ¬ gm_D g n i j') ∨ (∃ j0, r = nI j0 ∧ i ≤ j0 ∧ j0 < j ∧ gm_D g n i j0 ∧ ∀ j', j0 < j' → j' < j → ¬ gm_D g n i j')) → wY_longest_21 post (nI (n + 10)) (nI i) (nI (gm_P g)) (nI L) f_goal f_extra f_measured f_known f_more f_sum a_left a_size a_right a_text a_ops a_constants a_heights a_many a_chosen a_firstEnd a_secondEnd a_values a_nodes a_far a_productive a_useful a_covers (d + 1) r (nI j) := by
    intro d
    induction d with
    | zero =>
      intro j r hj hij hr
      rw [wY_longest_21]
      refine pk_lt L j (fun _ => h1 n i _ r hs1 I' ?_) (fun z => absurd z (by omega))
      rcases hr with ⟨q1, q2⟩ | ⟨j0, q1, q2, q3, q4, q5⟩
      · exact Or.inl ⟨q1, fun j' s1 s2 => q2 j' s1 (by omega)⟩
      · exact Or.inr ⟨j0, q1, q2, by omega, q4, fun j' s1 s2 => q5 j' s1 (by omega)⟩
    | succ d ih =>
      intro j r hj hij hr
      have hB := gm_Ht_B (g := g) (n := n) (i := i) (j := j) (cp_G_ok G) (by omega)
      rw [wY_longest_21]
      refine pk_lt L j (fun z => absurd z (by omega)) (fun _ => ys_cellN ?_)
      rw [nI_clamp (show 196 * n + 14 * i + j < 2 ^ 31 by omega), hK.1.1 n i j ⟨hn, hij, by omega⟩]
      refine ⟨vp_in_nI (by omega) (by omega), pk_le (gm_Ht g n i j) 0 (fun z => nm_r (nI_1 _) (ih (j + 1) r (by omega) (by omega) ?_)) (fun z => nm_r (nI_1 _) (ih (j + 1) (nI j) (by omega) (by omega) (Or.inr ⟨j, rfl, hij, by omega, gm_D_iff.mpr z, fun j' s1 s2 => absurd s1 (by omega)⟩)))⟩
      have hno : ¬ gm_D g n i j := fun q => by have := gm_D_iff.mp q; omega
      have ext : ∀ j', j' < j + 1 → (j' < j → ¬ gm_D g n i j') → ¬ gm_D g n i j' := fun j' s1 s2 => by
        by_cases e : j' = j
        · subst e; exact hno
        · exact s2 (by omega)
      rcases hr with ⟨q1, q2⟩ | ⟨j0, q1, q2, q3, q4, q5⟩
      · exact Or.inl ⟨q1, fun j' s1 s2 => ext j' s2 fun s3 => q2 j' s1 s3⟩
      · exact Or.inr ⟨j0, q1, q2, by omega, q4, fun j' s1 s2 => ext j' s2 fun s3 => q5 j' s1 s3⟩
  dsimp only
  exact ⟨L + 1 - i + 1, lp (L + 1 - i) i (-1) (by omega) (Nat.le_refl _) (Or.inl ⟨rfl, fun j' s1 s2 => absurd s1 (by omega)⟩)⟩
theorem yv_value {post : Int64 → SY → Prop} (I : yk_I g op cn L w) (h0 : (∀ n i j, ¬ cp_Span L v1 v2 v3 n i j) → post cp_NONE w) (h1 : ∀ n i j w', cp_Span L v1 v2 v3 n i j → yk_I g op cn L w' → 0 < gm_Ht g n i j → post (gm_V g op cn n i j) w') (h2 : ∀ n i j w', cp_Span L v1 v2 v3 n i j → yk_I g op cn L w' → gm_Ht g n i j = 0 → post cp_NONE w') : wpY_value post w v1 v2 v3 := by
  obtain ⟨f_productions, f_length, f_goal, f_extra, f_measured, f_known, f_more, f_sum, a_left, a_size, a_right, a_text, a_ops, a_constants, a_heights, a_many, a_chosen, a_firstEnd, a_secondEnd, a_values, a_nodes, a_far, a_productive, a_useful, a_covers⟩ := w
  have I0 := I
  obtain ⟨rfl, rfl, G, -⟩ := I0
  have hL := cp_G_L G
  unfold wpY_value
  refine yv_derives I (fun hs => br_t rfl (h0 hs)) (fun n i j w' hs I' k' hD => ?_) (fun n i j w' hs I' k' hD => ?_)
  · have hs' := hs
    obtain ⟨hn, hij, hjL, e1, e2, e3⟩ := hs'
    rw [e1, e2, e3]
    obtain ⟨f_productions, f_length, f_goal, f_extra, f_measured, f_known, f_more, f_sum, a_left, a_size, a_right, a_text, a_ops, a_constants, a_heights, a_many, a_chosen, a_firstEnd, a_secondEnd, a_values, a_nodes, a_far, a_productive, a_useful, a_covers⟩ := w'
    have I1 := I'
    obtain ⟨rfl, rfl, -, -, -, hk, -⟩ := I1
    have k1 := k'
    have hK := (hk (by unfold yk_k at k1; rw [k1]; decide)).2
    have h0' := gm_D_iff.mp hD
    refine br_f (by decide) (ys_cellN ?_)
    rw [nI_clamp (show 196 * n + 14 * i + j < 2 ^ 31 by omega), (hK.2.2 n i j ⟨hn, hij, hjL⟩ h0').2.2]
    exact ⟨vp_in_nI (by omega) (by omega), h1 n i j _ hs I' h0'⟩
  · obtain ⟨f_productions, f_length, f_goal, f_extra, f_measured, f_known, f_more, f_sum, a_left, a_size, a_right, a_text, a_ops, a_constants, a_heights, a_many, a_chosen, a_firstEnd, a_secondEnd, a_values, a_nodes, a_far, a_productive, a_useful, a_covers⟩ := w'
    refine br_t rfl (h2 n i j _ hs I' ?_)
    exact Classical.byContradiction fun q => hD (gm_D_iff.mpr (by omega))
end
end
section
/-! Y: node -/
section
variable {g : gm_G} {L : Nat} {f_goal f_extra f_measured f_known f_more : Int32} {a_left a_size a_right a_text a_ops a_constants a_heights a_chosen a_firstEnd a_secondEnd a_far a_productive a_useful a_covers : Nat → Int32} {a_many a_values a_nodes : Nat → Int64} {f_sum : Int64} {c i j p n k m a b r u v h : Nat} {op : Nat → Nat} {cn : Nat → Int32}
theorem ys_node_61 {post : Int32 → SY → Prop} (G : cp_G g L a_right a_size a_text) (hK : yk_KN g op cn L a_heights a_many a_chosen a_firstEnd a_secondEnd a_values a_nodes) :
    ∀ f n i j k, k < f → n < 5 → i ≤ j → j ≤ L → 0 < gm_Ht g n i j → k < gm_N g n i j → gm_N g n i j ≤ 1000000000 → post (nI (gm_nd g f n i j k)) (nI (gm_P g), nI L, f_goal, f_extra, f_measured, f_known, f_more, f_sum, a_left, a_size, a_right, a_text, a_ops, a_constants, a_heights, a_many, a_chosen, a_firstEnd, a_secondEnd, a_values, a_nodes, a_far, a_productive, a_useful, a_covers) → wY_node_61 post (nI (gm_P g)) (nI L) f_goal f_extra f_measured f_known f_more f_sum a_left a_size a_right a_text a_ops a_constants a_heights a_many a_chosen a_firstEnd a_secondEnd a_values a_nodes a_far a_productive a_useful a_covers f (nI (196 * n + 14 * i + j)) (lN k) := by
  have h12 := cp_G_P G
  have hL := cp_G_L G
  have ok := cp_G_ok G
  intro f
  induction f with
  | zero => intro n i j k h; omega
  | succ f ih =>
    intro n i j k hkf hn hij hjL h0 hk hN hpost
    have hC := gm_C_is h0
    obtain ⟨hch, -, -⟩ := hK.2.2 n i j ⟨hn, hij, hjL⟩ h0
    obtain ⟨ec, e1, e2⟩ := hch _ _ _ hC
    have hNe := gm_N_eq hC h0
    rw [gm_nd] at hpost; dsimp only at hpost
    generalize hp0 : (gm_C g n i j).1 = p at *
    generalize hu0 : (gm_C g n i j).2.1 = u at *
    generalize hv0 : (gm_C g n i j).2.2 = v at *
    obtain ⟨hp, hl, ⟨h1, h2, h3, sa, sb, sc⟩, -⟩ := hC
    have c0 : gm_s g (3 * p) < 15 := gm_ok_15 ok hp (show 0 < 3 by omega)
    have c1 := gm_ok_15 ok hp (show 1 < 3 by omega)
    have c2 := gm_ok_15 ok hp (show 2 < 3 by omega)
    have hs3 := gm_sz_le g p
    unfold gm_Ns at hNe
    have m1 : nI (196 * n + 14 * i + j) - nI (196 * n + 14 * i + j) / 196 * 196 = nI (14 * i + j) := by
      rw [show (196 : Int32) = nI 196 from rfl, pk_rem (by omega) (by omega) (by omega)]; exact congrArg nI (by omega)
    have m3 : nI (14 * i + j) / 14 = nI i := by
      rw [show (14 : Int32) = nI 14 from rfl, pk_div (by omega) (by omega) (by omega)]; exact congrArg nI (by omega)
    have m4 : nI (196 * n + 14 * i + j) - nI (196 * n + 14 * i + j) / 14 * 14 = nI j := by
      rw [show (14 : Int32) = nI 14 from rfl, pk_rem (by omega) (by omega) (by omega)]; exact congrArg nI (by omega)
    rw [wY_node_61]; dsimp only
    rw [m1, m3, m4, nI_clamp (show 196 * n + 14 * i + j < 2 ^ 31 by omega), ec]
    have kz : lN k ≤ 0 ↔ k = 0 := by
      rw [show (0 : Int64) = lN 0 from rfl, pk_lLE (by omega) (by omega)]; omega
    refine br_i kz (fun z => ⟨vp_in_nI (by omega) (by omega), by decide, by decide, by decide, ?_⟩) (fun z => ⟨vp_in_nI (by omega) (by omega), nm_e ⟨by decide, by decide, nm_e ⟨by decide, nm_e ?_⟩⟩⟩)
    · rw [if_pos z] at hpost
      rw [show (10000 : Int32) = nI 10000 from rfl, show (100 : Int32) = nI 100 from rfl, pk_mul, pk_mul, nI_add, nI_add]
      exact hpost
    · rw [if_neg z] at hpost
      obtain ⟨k, rfl⟩ : ∃ q, k = q + 1 := ⟨k - 1, by omega⟩
      rw [Nat.add_sub_cancel] at hpost
      refine nm_r (e' := lN k) (by rw [show (1 : Int64) = lN 1 from rfl, lN_sub (by omega)]; rfl) ⟨4, ?_⟩
      -- one part
      have st : ∀ N q k' a b, q < 3 → gm_s g (3 * p + q) < 15 → a ≤ b → b ≤ L → gm_Sp g (gm_T g (gm_Ht g n i j - 1)) (gm_s g (3 * p + q)) a b → yk_bg i u v q = a → yk_en u v j q = b → gm_Np (gm_N g) (gm_s g (3 * p + q)) a b ≤ 1000000000 → k' ≤ 1000000000 → k' < f →
          (gm_sz g p ≤ q → False) → (k' < gm_Np (gm_N g) (gm_s g (3 * p + q)) a b → post (nI (gm_nd g f (gm_s g (3 * p + q) - 10) a b k')) (nI (gm_P g), nI L, f_goal, f_extra, f_measured, f_known, f_more, f_sum, a_left, a_size, a_right, a_text, a_ops, a_constants, a_heights, a_many, a_chosen, a_firstEnd, a_secondEnd, a_values, a_nodes, a_far, a_productive, a_useful, a_covers)) → (gm_Np (gm_N g) (gm_s g (3 * p + q)) a b ≤ k' → wY_node_101 post (wY_node_61 post (nI (gm_P g)) (nI L) f_goal f_extra f_measured f_known f_more f_sum a_left a_size a_right a_text a_ops a_constants a_heights a_many a_chosen a_firstEnd a_secondEnd a_values a_nodes a_far a_productive a_useful a_covers f) (nI (196 * n + 14 * i + j)) (nI p) (nI i) (nI j) (nI (gm_P g)) (nI L) f_goal f_extra f_measured f_known f_more f_sum a_left a_size a_right a_text a_ops a_constants a_heights a_many a_chosen a_firstEnd a_secondEnd a_values a_nodes a_far a_productive a_useful a_covers (N + 1) (lN (k' - gm_Np (gm_N g) (gm_s g (3 * p + q)) a b)) (-1) (nI (q + 1))) →
          wY_node_101 post (wY_node_61 post (nI (gm_P g)) (nI L) f_goal f_extra f_measured f_known f_more f_sum a_left a_size a_right a_text a_ops a_constants a_heights a_many a_chosen a_firstEnd a_secondEnd a_values a_nodes a_far a_productive a_useful a_covers f) (nI (196 * n + 14 * i + j)) (nI p) (nI i) (nI j) (nI (gm_P g)) (nI L) f_goal f_extra f_measured f_known f_more f_sum a_left a_size a_right a_text a_ops a_constants a_heights a_many a_chosen a_firstEnd a_secondEnd a_values a_nodes a_far a_productive a_useful a_covers (N + 1 + 1) (lN k') (-1) (nI q) := by
        intro N q k' a b hq hc hab hb hs ea eb hNp hk' hkf' hsz hyes hno
        have exit1 : ∀ d', wY_node_61 post (nI (gm_P g)) (nI L) f_goal f_extra f_measured f_known f_more f_sum a_left a_size a_right a_text a_ops a_constants a_heights a_many a_chosen a_firstEnd a_secondEnd a_values a_nodes a_far a_productive a_useful a_covers f (nI d') (lN k') → d' < 2 ^ 31 → wY_node_101 post (wY_node_61 post (nI (gm_P g)) (nI L) f_goal f_extra f_measured f_known f_more f_sum a_left a_size a_right a_text a_ops a_constants a_heights a_many a_chosen a_firstEnd a_secondEnd a_values a_nodes a_far a_productive a_useful a_covers f) (nI (196 * n + 14 * i + j)) (nI p) (nI i) (nI j) (nI (gm_P g)) (nI L) f_goal f_extra f_measured f_known f_more f_sum a_left a_size a_right a_text a_ops a_constants a_heights a_many a_chosen a_firstEnd a_secondEnd a_values a_nodes a_far a_productive a_useful a_covers (N + 1) (lN k') (nI d') (nI (q + 1)) := by
          intro d' hJ hd'
          rw [wY_node_101]; dsimp only
          rw [nI_clamp (show p < 2 ^ 31 by omega), cp_G_sz G hp]
          exact ⟨vp_in_nI (by omega) (by omega), pk_le (gm_sz g p) (q + 1) (fun _ => hJ) (fun _ => br_t (nI_pos' hd') hJ)⟩
        have body : ∀ b' e', b' = nI a → e' = nI b → ((cp_Sy (gm_s g (3 * p + q)) < 10 → (∀ x9_130 : Int32, x9_130 = nI q + 1 → (wY_node_101 post (wY_node_61 post (nI (gm_P g)) (nI L) f_goal f_extra f_measured f_known f_more f_sum a_left a_size a_right a_text a_ops a_constants a_heights a_many a_chosen a_firstEnd a_secondEnd a_values a_nodes a_far a_productive a_useful a_covers f) (nI (196 * n + 14 * i + j)) (nI p) (nI i) (nI j) (nI (gm_P g)) (nI L) f_goal f_extra f_measured f_known f_more f_sum a_left a_size a_right a_text a_ops a_constants a_heights a_many a_chosen a_firstEnd a_secondEnd a_values a_nodes a_far a_productive a_useful a_covers (N + 1) (lN k') (-1) x9_130))) ∧ (¬ cp_Sy (gm_s g (3 * p + q)) < 10 → (wpY_cell (fun r_131 => (vp_in r_131 980 ∧ ((((a_nodes r_131.toNatClampNeg) ≤ lN k' → (vp_in r_131 980 ∧ (∀ x3_160 : Int64, x3_160 = lN k' - (a_nodes r_131.toNatClampNeg) → (∀ x9_161 : Int32, x9_161 = nI q + 1 → (wY_node_101 post (wY_node_61 post (nI (gm_P g)) (nI L) f_goal f_extra f_measured f_known f_more f_sum a_left a_size a_right a_text a_ops a_constants a_heights a_many a_chosen a_firstEnd a_secondEnd a_values a_nodes a_far a_productive a_useful a_covers f) (nI (196 * n + 14 * i + j)) (nI p) (nI i) (nI j) (nI (gm_P g)) (nI L) f_goal f_extra f_measured f_known f_more f_sum a_left a_size a_right a_text a_ops a_constants a_heights a_many a_chosen a_firstEnd a_secondEnd a_values a_nodes a_far a_productive a_useful a_covers (N + 1) x3_160 (-1) x9_161))))) ∧ (¬ (a_nodes r_131.toNatClampNeg) ≤ lN k' → (∀ x9_162 : Int32, x9_162 = nI q + 1 → (wY_node_101 post (wY_node_61 post (nI (gm_P g)) (nI L) f_goal f_extra f_measured f_known f_more f_sum a_left a_size a_right a_text a_ops a_constants a_heights a_many a_chosen a_firstEnd a_secondEnd a_values a_nodes a_far a_productive a_useful a_covers f) (nI (196 * n + 14 * i + j)) (nI p) (nI i) (nI j) (nI (gm_P g)) (nI L) f_goal f_extra f_measured f_known f_more f_sum a_left a_size a_right a_text a_ops a_constants a_heights a_many a_chosen a_firstEnd a_secondEnd a_values a_nodes a_far a_productive a_useful a_covers (N + 1) (lN k') r_131 x9_162))))))) (nI (gm_P g), nI L, f_goal, f_extra, f_measured, f_known, f_more, f_sum, a_left, a_size, a_right, a_text, a_ops, a_constants, a_heights, a_many, a_chosen, a_firstEnd, a_secondEnd, a_values, a_nodes, a_far, a_productive, a_useful, a_covers) (cp_Sy (gm_s g (3 * p + q))) b' e'))) := by
          intro b' e' hb' he'
          subst hb'; subst he'
          refine br_i (cp_Sy_lt10 hc) (fun w => nm_r (nI_1 _) ?_) (fun w => ys_cell (by omega) ?_)
          · have e0 : gm_Np (gm_N g) (gm_s g (3 * p + q)) a b = 0 := by unfold gm_Np; rw [if_neg (by omega)]
            rw [e0] at hno
            exact hno (Nat.zero_le _)
          · have h10 : 10 ≤ gm_s g (3 * p + q) := by omega
            have eN : gm_Np (gm_N g) (gm_s g (3 * p + q)) a b = gm_N g (gm_s g (3 * p + q) - 10) a b := by unfold gm_Np; rw [if_pos h10]
            have t := gm_T_iff.mp ((gm_Sp_n h10).mp hs)
            have q2 := (hK.2.2 (gm_s g (3 * p + q) - 10) a b ⟨by omega, hab, hb⟩ t.1).2.1
            rw [eN] at hNp hyes hno
            rw [Nat.min_eq_left (by omega)] at q2
            rw [nI_clamp (show 196 * (gm_s g (3 * p + q) - 10) + 14 * a + b < 2 ^ 31 by omega), q2]
            refine ⟨vp_in_nI (by omega) (by omega), br_i (pk_lLE (by omega) (by omega)) (fun y => ⟨vp_in_nI (by omega) (by omega), nm_r (lN_sub y) (nm_r (nI_1 _) (hno y))⟩) (fun y => nm_r (nI_1 _) (exit1 _ (ih _ a b k' hkf' (by omega) hab hb t.1 (by omega) hNp (hyes (by omega))) (by omega)))⟩
        rw [wY_node_101]; dsimp only
        rw [nI_clamp (show p < 2 ^ 31 by omega), cp_G_sz G hp, ix_3k, nI_clamp (show 3 * p + q < 2 ^ 31 by omega), cp_G_rt G hp hq]
        refine ⟨vp_in_nI (by omega) (by omega), pk_le (gm_sz g p) q (fun w => (hsz w).elim) (fun _ => br_f (by decide) ⟨vp_in_nI (by omega) (by omega), nm_e ?_⟩)⟩
        have pe : ∀ b', b' = nI a → wpY_partEnd (fun e' => ((cp_Sy (gm_s g (3 * p + q)) < 10 → (∀ x9_130 : Int32, x9_130 = nI q + 1 → (wY_node_101 post (wY_node_61 post (nI (gm_P g)) (nI L) f_goal f_extra f_measured f_known f_more f_sum a_left a_size a_right a_text a_ops a_constants a_heights a_many a_chosen a_firstEnd a_secondEnd a_values a_nodes a_far a_productive a_useful a_covers f) (nI (196 * n + 14 * i + j)) (nI p) (nI i) (nI j) (nI (gm_P g)) (nI L) f_goal f_extra f_measured f_known f_more f_sum a_left a_size a_right a_text a_ops a_constants a_heights a_many a_chosen a_firstEnd a_secondEnd a_values a_nodes a_far a_productive a_useful a_covers (N + 1) (lN k') (-1) x9_130))) ∧ (¬ cp_Sy (gm_s g (3 * p + q)) < 10 → (wpY_cell (fun r_131 => (vp_in r_131 980 ∧ ((((a_nodes r_131.toNatClampNeg) ≤ lN k' → (vp_in r_131 980 ∧ (∀ x3_160 : Int64, x3_160 = lN k' - (a_nodes r_131.toNatClampNeg) → (∀ x9_161 : Int32, x9_161 = nI q + 1 → (wY_node_101 post (wY_node_61 post (nI (gm_P g)) (nI L) f_goal f_extra f_measured f_known f_more f_sum a_left a_size a_right a_text a_ops a_constants a_heights a_many a_chosen a_firstEnd a_secondEnd a_values a_nodes a_far a_productive a_useful a_covers f) (nI (196 * n + 14 * i + j)) (nI p) (nI i) (nI j) (nI (gm_P g)) (nI L) f_goal f_extra f_measured f_known f_more f_sum a_left a_size a_right a_text a_ops a_constants a_heights a_many a_chosen a_firstEnd a_secondEnd a_values a_nodes a_far a_productive a_useful a_covers (N + 1) x3_160 (-1) x9_161))))) ∧ (¬ (a_nodes r_131.toNatClampNeg) ≤ lN k' → (∀ x9_162 : Int32, x9_162 = nI q + 1 → (wY_node_101 post (wY_node_61 post (nI (gm_P g)) (nI L) f_goal f_extra f_measured f_known f_more f_sum a_left a_size a_right a_text a_ops a_constants a_heights a_many a_chosen a_firstEnd a_secondEnd a_values a_nodes a_far a_productive a_useful a_covers f) (nI (196 * n + 14 * i + j)) (nI p) (nI i) (nI j) (nI (gm_P g)) (nI L) f_goal f_extra f_measured f_known f_more f_sum a_left a_size a_right a_text a_ops a_constants a_heights a_many a_chosen a_firstEnd a_secondEnd a_values a_nodes a_far a_productive a_useful a_covers (N + 1) (lN k') r_131 x9_162))))))) (nI (gm_P g), nI L, f_goal, f_extra, f_measured, f_known, f_more, f_sum, a_left, a_size, a_right, a_text, a_ops, a_constants, a_heights, a_many, a_chosen, a_firstEnd, a_secondEnd, a_values, a_nodes, a_far, a_productive, a_useful, a_covers) (cp_Sy (gm_s g (3 * p + q))) b' e')))) (nI (gm_P g), nI L, f_goal, f_extra, f_measured, f_known, f_more, f_sum, a_left, a_size, a_right, a_text, a_ops, a_constants, a_heights, a_many, a_chosen, a_firstEnd, a_secondEnd, a_values, a_nodes, a_far, a_productive, a_useful, a_covers) (nI (196 * n + 14 * i + j)) (nI j) (nI q) := by
          intro b' hb'
          unfold wpY_partEnd
          dsimp only
          rw [nI_clamp (show 196 * n + 14 * i + j < 2 ^ 31 by omega)]
          refine pk_eq q 0 (fun e => ⟨vp_in_nI (by omega) (by omega), body _ _ hb' ?_⟩) (fun e => pk_eq q 1 (fun e' => ⟨vp_in_nI (by omega) (by omega), body _ _ hb' ?_⟩) (fun e' => body _ _ hb' ?_))
          · rw [e1, ← eb]; unfold yk_en; rw [if_pos e]
          · rw [e2, ← eb]; unfold yk_en; rw [if_neg e, if_pos e']
          · rw [← eb]; unfold yk_en; rw [if_neg e, if_neg e']
        unfold wpY_partBegin
        dsimp only
        rw [nI_clamp (show 196 * n + 14 * i + j < 2 ^ 31 by omega)]
        refine pk_eq q 0 (fun e => pe _ ?_) (fun e => pk_eq q 1 (fun e' => ⟨vp_in_nI (by omega) (by omega), pe _ ?_⟩) (fun e' => ⟨vp_in_nI (by omega) (by omega), pe _ ?_⟩))
        · rw [← ea]; unfold yk_bg; rw [if_pos e]
        · rw [e1, ← ea]; unfold yk_bg; rw [if_neg e, if_pos e']
        · rw [e2, ← ea]; unfold yk_bg; rw [if_neg e, if_neg e']
      have np0 : ∀ q a b, q < 3 → gm_sz g p ≤ q → gm_Np (gm_N g) (gm_s g (3 * p + q)) a b = 0 := fun q a b hq hz => by
        have : gm_s g (3 * p + q) = 9 := Classical.byContradiction fun w => by have := (gm_sz_lt ok hp hq).mpr w; omega
        unfold gm_Np; rw [this, if_neg (by omega)]
      refine st 2 0 k i u (by omega) c0 h1 (by omega) sa rfl rfl (by show gm_Np (gm_N g) (gm_s g (3 * p)) i u ≤ _; omega) (by omega) (by omega) (fun w => ?_) (fun y => ?_) (fun y => st 1 1 _ u v (by omega) c1 h2 (by omega) sb rfl rfl (by omega) (by omega) (by omega) (fun w => ?_) (fun y' => ?_) (fun y' => st 0 2 _ v j (by omega) c2 h3 hjL sc rfl rfl (by omega) (by omega) (by omega) (fun w => ?_) (fun y'' => ?_) (fun y'' => ?_)))
      · have a0 : gm_Np (gm_N g) (gm_s g (3 * p)) i u = 0 := np0 0 i u (by omega) (by omega)
        have a1 := np0 1 u v (by omega) (by omega)
        have a2 := np0 2 v j (by omega) (by omega)
        omega
      · have y0 : k < gm_Np (gm_N g) (gm_s g (3 * p)) i u := y
        rw [if_pos y0] at hpost; exact hpost
      · have y0 : gm_Np (gm_N g) (gm_s g (3 * p)) i u ≤ k := y
        have a1 := np0 1 u v (by omega) (by omega)
        have a2 := np0 2 v j (by omega) (by omega)
        omega
      · have y0 : gm_Np (gm_N g) (gm_s g (3 * p)) i u ≤ k := y
        rw [if_neg (by omega), if_pos (show k - gm_Np (gm_N g) (gm_s g (3 * p)) i u < gm_Np (gm_N g) (gm_s g (3 * p + 1)) u v from y')] at hpost
        exact hpost
      · have y0 : gm_Np (gm_N g) (gm_s g (3 * p)) i u ≤ k := y
        have y1 : gm_Np (gm_N g) (gm_s g (3 * p + 1)) u v ≤ k - gm_Np (gm_N g) (gm_s g (3 * p)) i u := y'
        have a2 := np0 2 v j (by omega) (by omega)
        omega
      · have y0 : gm_Np (gm_N g) (gm_s g (3 * p)) i u ≤ k := y
        have y1 : gm_Np (gm_N g) (gm_s g (3 * p + 1)) u v ≤ k - gm_Np (gm_N g) (gm_s g (3 * p)) i u := y'
        rw [if_neg (by omega), if_neg (by omega)] at hpost
        exact hpost
      · have y0 : gm_Np (gm_N g) (gm_s g (3 * p)) i u ≤ k := y
        have y1 : gm_Np (gm_N g) (gm_s g (3 * p + 1)) u v ≤ k - gm_Np (gm_N g) (gm_s g (3 * p)) i u := y'
        have y2 : gm_Np (gm_N g) (gm_s g (3 * p + 2)) v j ≤ k - gm_Np (gm_N g) (gm_s g (3 * p)) i u - gm_Np (gm_N g) (gm_s g (3 * p + 1)) u v := y''
        omega
end
section
variable {g : gm_G} {L : Nat} {op : Nat → Nat} {cn : Nat → Int32} {w : SY} {v1 v2 v3 : Int32}
theorem yv_node {post : Int32 → SY → Prop} (I : yk_I g op cn L w) (h0 : ∀ w', yk_I g op cn L w' → cp_nb g L v1 → post (-1) w') (h1 : ∀ k w', k < 2 ^ 31 → v1 = nI k → 0 < gm_Ht g 0 0 L → k < gm_N g 0 0 L → gm_N g 0 0 L ≤ 1000000000 → yk_I g op cn L w' → post (nI (gm_nd g (k + 1) 0 0 L k)) w') : wpY_node post w v1 := by
  obtain ⟨f_productions, f_length, f_goal, f_extra, f_measured, f_known, f_more, f_sum, a_left, a_size, a_right, a_text, a_ops, a_constants, a_heights, a_many, a_chosen, a_firstEnd, a_secondEnd, a_values, a_nodes, a_far, a_productive, a_useful, a_covers⟩ := w
  have I0 := I
  obtain ⟨rfl, rfl, G, -⟩ := I0
  have hL := cp_G_L G
  unfold wpY_node
  refine br_c (fun z => h0 _ I (Or.inl z)) (fun z => ?_)
  obtain ⟨k, hk, e⟩ := nI_of z
  have sp : ∀ n i j, cp_Span L 10 0 (nI L) n i j → n = 0 ∧ i = 0 ∧ j = L := by
    rintro n i j ⟨q1, q2, q3, q4, q5, q6⟩
    have a := (nI_eq (a := 10) (b := n + 10) (by omega) (by omega)).mp q4
    have b := (nI_eq (a := 0) (b := i) (by omega) (by omega)).mp q5
    have c := (nI_eq (a := L) (b := j) (by omega) (by omega)).mp q6
    omega
  refine yv_derives I (fun hs => absurd ⟨by omega, Nat.zero_le _, Nat.le_refl _, rfl, rfl, rfl⟩ (hs 0 0 L)) (fun n i j w' hs I' k' hD => ?_) (fun n i j w' hs I' k' hD => ?_)
  · obtain ⟨rfl, rfl, rfl⟩ := sp n i j hs
    obtain ⟨f_productions, f_length, f_goal, f_extra, f_measured, f_known, f_more, f_sum, a_left, a_size, a_right, a_text, a_ops, a_constants, a_heights, a_many, a_chosen, a_firstEnd, a_secondEnd, a_values, a_nodes, a_far, a_productive, a_useful, a_covers⟩ := w'
    have I1 := I'
    obtain ⟨rfl, rfl, -, -, -, hkn, -⟩ := I1
    have k1 := k'
    have hK := (hkn (by unfold yk_k at k1; rw [k1]; decide)).2
    have I2 := I'
    obtain ⟨-, -, G', -⟩ := I2
    have hpos := gm_D_iff.mp hD
    have hq := (hK.2.2 0 0 j ⟨by omega, Nat.zero_le _, Nat.le_refl _⟩ hpos).2.1
    refine br_f (by decide) ?_
    refine ys_cellN (n := 0) (i := 0) ?_
    rw [nI_clamp (show 196 * 0 + 14 * 0 + j < 2 ^ 31 by omega), hq, e, nI_l hk, cp_1e9]
    refine ⟨vp_in_nI (by omega) (by omega), br_i (pk_lLE (by omega) (by omega)) (fun y => h0 _ I' (Or.inr (Or.inr ⟨k, hk, e, by omega⟩))) (fun y => ⟨vp_in_nI (by omega) (by omega), br_i (pk_lLE (by omega) (by omega)) (fun x => ⟨k + 1, ?_⟩) (fun x => h0 _ I' (Or.inr (Or.inr ⟨k, hk, e, by omega⟩)))⟩)⟩
    exact ys_node_61 (op := op) (cn := cn) G' hK (k + 1) 0 0 j k (by omega) (by omega) (Nat.zero_le _) (Nat.le_refl _) hpos (by omega) (by omega) (h1 k _ hk e hpos (by omega) (by omega) I')
  · obtain ⟨rfl, rfl, rfl⟩ := sp n i j hs
    obtain ⟨f_productions, f_length, f_goal, f_extra, f_measured, f_known, f_more, f_sum, a_left, a_size, a_right, a_text, a_ops, a_constants, a_heights, a_many, a_chosen, a_firstEnd, a_secondEnd, a_values, a_nodes, a_far, a_productive, a_useful, a_covers⟩ := w'
    refine br_t rfl (h0 _ I' (Or.inr (Or.inl ?_)))
    exact Classical.byContradiction fun q => hD (gm_D_iff.mpr (by omega))
end
end
section
/-! Y: the edits -/
section
variable {g : gm_G} {L : Nat} {op : Nat → Nat} {cn : Nat → Int32} {w : SY} {v1 v2 v3 v4 : Int32}
theorem yv_set {post : Int32 → SY → Prop} (I : yk_I g op cn L w) (h0 : (∀ a t, ¬ cp_sA L v1 v2 a t) → post 0 w) (h1 : ∀ a t w', cp_sA L v1 v2 a t → yk_I (gm_tx g (gm_st g a t)) op cn L w' → post 1 w') : wpY_set post w v1 v2 := by
  obtain ⟨f_productions, f_length, f_goal, f_extra, f_measured, f_known, f_more, f_sum, a_left, a_size, a_right, a_text, a_ops, a_constants, a_heights, a_many, a_chosen, a_firstEnd, a_secondEnd, a_values, a_nodes, a_far, a_productive, a_useful, a_covers⟩ := w
  obtain ⟨rfl, rfl, G, hl, O, hk, hf⟩ := I
  have hL := cp_G_L G
  unfold wpY_set
  rcases Classical.em (∃ a t, cp_sA L v1 v2 a t) with ⟨a, t, ha⟩ | hn
  · have ha' := ha
    obtain ⟨haL, ht, e1, e2⟩ := ha'
    rw [e1, e2]
    have G' : cp_G (gm_tx g (gm_st g a t)) L a_right a_size (upd a_text a (nI t)) := cp_G_tx' G hL fun i => by
      unfold gm_st
      by_cases e : i = a
      · subst e; rw [if_pos rfl, pk_us]; exact ⟨ht, rfl⟩
      · rw [if_neg e, pk_un e]; exact ⟨cp_G_t6 G, cp_G_tx G⟩
    refine br_f (nI_pos (by omega)) (pk_le L a (fun z => absurd z (by omega)) (fun _ => ys_terminal (fun t' ht' et => br_f (by decide) ?_) (fun w => absurd rfl (w t ht))))
    rw [nI_clamp (show a < 2 ^ 31 by omega)]
    exact ⟨vp_in_nI (by omega) (by omega), nm_e (h1 a t _ ha ⟨rfl, rfl, G', hl, O, fun z => absurd rfl z, fun z => absurd rfl z⟩)⟩
  · have hn' : ∀ a t, ¬ cp_sA L v1 v2 a t := fun a t h => hn ⟨a, t, h⟩
    refine br_c (fun _ => h0 hn') (fun z => br_c (fun _ => h0 hn') (fun y => ys_terminal (fun t ht e => ?_) (fun _ => br_t rfl (h0 hn'))))
    obtain ⟨a, ha, ea⟩ := nI_of z
    subst ea
    have : a < L := Nat.lt_of_not_le fun w => y (nI_le w ha)
    exact absurd ⟨this, ht, rfl, e⟩ (hn' a t)
theorem yv_action {post : Int32 → SY → Prop} (I : yk_I g op cn L w) (h0 : (∀ p o, ¬ cp_aA (gm_P g) v1 v2 p o) → post 0 w) (h1 : ∀ p o w', cp_aA (gm_P g) v1 v2 p o → yk_I g (fun q => if q = p then o else op q) (fun q => if q = p then v3 else cn q) L w' → post 1 w') : wpY_action post w v1 v2 v3 := by
  obtain ⟨f_productions, f_length, f_goal, f_extra, f_measured, f_known, f_more, f_sum, a_left, a_size, a_right, a_text, a_ops, a_constants, a_heights, a_many, a_chosen, a_firstEnd, a_secondEnd, a_values, a_nodes, a_far, a_productive, a_useful, a_covers⟩ := w
  obtain ⟨rfl, rfl, G, hl, O, hk, hf⟩ := I
  have hL := cp_G_L G
  have h12 := cp_G_P G
  unfold wpY_action
  rcases Classical.em (∃ p o, cp_aA (gm_P g) v1 v2 p o) with ⟨p, o, ha⟩ | hn
  · have ha' := ha
    obtain ⟨hp, ho, e1, e2⟩ := ha'
    rw [e1, e2]
    refine br_f (nI_pos (by omega)) (pk_le (gm_P g) p (fun z => absurd z (by omega)) (fun _ => br_f (nI_pos (by omega)) (pk_le o 7 (fun _ => ?_) (fun z => absurd z (by omega)))))
    rw [nI_clamp (show p < 2 ^ 31 by omega)]
    refine ⟨vp_in_nI (by omega) (by omega), nm_e ⟨vp_in_nI (by omega) (by omega), nm_e (h1 p o _ ha ⟨rfl, rfl, G, hl, fun q hq => ?_, fun z => absurd rfl z, fun z => absurd rfl z⟩)⟩⟩
    by_cases e : q = p
    · subst e; rw [pk_us, pk_us]; dsimp only; rw [if_pos rfl, if_pos rfl]; exact ⟨ho, rfl, rfl⟩
    · rw [pk_un e, pk_un e]; dsimp only; rw [if_neg e, if_neg e]; exact O q hq
  · have hn' : ∀ p o, ¬ cp_aA (gm_P g) v1 v2 p o := fun a t h => hn ⟨a, t, h⟩
    refine br_c (fun _ => h0 hn') (fun z => br_c (fun _ => h0 hn') (fun y => br_c (fun _ => h0 hn') (fun x => br_c (fun w => ?_) (fun _ => h0 hn'))))
    obtain ⟨p, hp, ep⟩ := nI_of z
    obtain ⟨o, ho, eo⟩ := nI_of x
    subst ep; subst eo
    have h1' : p < gm_P g := Nat.lt_of_not_le fun w => y (nI_le w hp)
    rw [show (7 : Int32) = nI 7 from rfl, nI_leI ho (by omega)] at w
    exact absurd ⟨h1', w, rfl, rfl⟩ (hn' p o)
theorem yv_retract {post : Int32 → SY → Prop} (I : yk_I g op cn L w) (h0 : gm_P g = 0 → post 0 w) (h1 : ∀ w', gm_P g ≠ 0 → yk_I (gm_rt g) op cn L w' → post 1 w') : wpY_retract post w := by
  obtain ⟨f_productions, f_length, f_goal, f_extra, f_measured, f_known, f_more, f_sum, a_left, a_size, a_right, a_text, a_ops, a_constants, a_heights, a_many, a_chosen, a_firstEnd, a_secondEnd, a_values, a_nodes, a_far, a_productive, a_useful, a_covers⟩ := w
  obtain ⟨rfl, rfl, G, hl, O, hk, hf⟩ := I
  have h12 := cp_G_P G
  unfold wpY_retract
  exact pk_eq (gm_P g) 0 (fun e => h0 e) (fun e => nm_r (pk_sub (b := 1) (by omega)) (h1 _ e ⟨rfl, rfl, cp_G_rt' G, fun p hp => hl p (by have : p < gm_P g - 1 := hp; omega), fun p hp => O p (by have : p < gm_P g - 1 := hp; omega), fun z => absurd rfl z, fun z => absurd rfl z⟩))
theorem cp_Sy_m1 {c : Nat} (h : cp_v c) : cp_Sy c = -1 ↔ c = 9 := by
  rw [← cp_Sy_9 (c := 9) rfl]
  exact cp_Sy_inj (by unfold cp_v at h; omega) (by omega)
theorem yv_produce {post : Int32 → SY → Prop} (I : yk_I g op cn L w) (h0 : (∀ n a b c, ¬ cp_pA v1 v2 v3 v4 n a b c) → post (-1) w) (h1 : ∀ n a b c, cp_pA v1 v2 v3 v4 n a b c → gm_P g = 12 → post (-2) w)
    (h2 : ∀ n a b c w', cp_pA v1 v2 v3 v4 n a b c → gm_P g < 12 → yk_I (gm_pd g n a b c) (fun q => if q = gm_P g then 1 else op q) (fun q => if q = gm_P g then 0 else cn q) L w' → post (nI (gm_P g)) w') : wpY_produce post w v1 v2 v3 v4 := by
  obtain ⟨f_productions, f_length, f_goal, f_extra, f_measured, f_known, f_more, f_sum, a_left, a_size, a_right, a_text, a_ops, a_constants, a_heights, a_many, a_chosen, a_firstEnd, a_secondEnd, a_values, a_nodes, a_far, a_productive, a_useful, a_covers⟩ := w
  obtain ⟨rfl, rfl, G, hl, O, hk, hf⟩ := I
  have h12 := cp_G_P G
  have hL := cp_G_L G
  unfold wpY_produce
  rcases Classical.em (∃ n a b c, cp_pA v1 v2 v3 v4 n a b c) with ⟨n, a, b, c, hA⟩ | hn
  · have hA' := hA
    obtain ⟨hn, e1, va, e2, vb, e3, vc, e4, m1, m2⟩ := hA'
    rw [e1, e2, e3, e4]
    have F1 : ∀ {x : Nat} {P : Prop}, cp_v x → ¬ cp_Vs (cp_Sy x) → P := fun {x} _ hx hz => absurd ⟨x, hx, rfl⟩ hz
    have w58 : wY_produce_58 post (nI (n + 10)) (cp_Sy a) (cp_Sy b) (cp_Sy c) (nI (gm_P g)) (nI L) f_goal f_extra f_measured f_known f_more f_sum a_left a_size a_right a_text a_ops a_constants a_heights a_many a_chosen a_firstEnd a_secondEnd a_values a_nodes a_far a_productive a_useful a_covers := by
      unfold wY_produce_58
      refine pk_eq (gm_P g) 12 (fun e => h1 n a b c hA e) (fun e => ?_)
      have w158 : wY_produce_158 post (nI (cp_szf a b c)) (nI (gm_P g)) (nI (gm_P g)) (nI L) f_goal f_extra f_measured f_known f_more f_sum (upd a_left (gm_P g) (nI (n + 10))) a_size (upd (upd (upd a_right (3 * gm_P g) (cp_Sy a)) (3 * gm_P g + 1) (cp_Sy b)) (3 * gm_P g + 2) (cp_Sy c)) a_text a_ops a_constants a_heights a_many a_chosen a_firstEnd a_secondEnd a_values a_nodes a_far a_productive a_useful a_covers := by
        unfold wY_produce_158
        rw [nI_clamp (show gm_P g < 2 ^ 31 by omega)]
        refine ⟨vp_in_nI (by omega) (by omega), nm_e ⟨vp_in_nI (by omega) (by omega), nm_e ⟨vp_in_nI (by omega) (by omega), nm_e (nm_r (nI_1 _) ?_)⟩⟩⟩
        rw [nI_pred]
        refine h2 n a b c _ hA (by omega) ⟨rfl, rfl, cp_G_pd G (by omega) hn va vb vc m1 m2, fun p hp => ?_, fun p hp => ?_, fun z => absurd rfl z, fun z => absurd rfl z⟩
        · have hp' : p < gm_P g + 1 := hp
          show _ = nI ((if p = gm_P g then n else gm_l g p) + 10)
          by_cases q : p = gm_P g
          · subst q; rw [pk_us, if_pos rfl]
          · rw [pk_un q, if_neg q]; exact hl p (by omega)
        · have hp' : p < gm_P g + 1 := hp
          by_cases q : p = gm_P g
          · subst q; rw [pk_us, pk_us]; dsimp only; rw [if_pos rfl, if_pos rfl]; exact ⟨by omega, rfl, rfl⟩
          · rw [pk_un q, pk_un q]; dsimp only; rw [if_neg q, if_neg q]; exact O p (by omega)
      rw [ix_31, ix_32, ix_3, nI_clamp (show gm_P g < 2 ^ 31 by omega), nI_clamp (show 3 * gm_P g < 2 ^ 31 by omega), nI_clamp (show 3 * gm_P g + 1 < 2 ^ 31 by omega), nI_clamp (show 3 * gm_P g + 2 < 2 ^ 31 by omega)]
      refine ⟨vp_in_nI (by omega) (by omega), nm_e ⟨vp_in_nI (by omega) (by omega), nm_e ⟨vp_in_nI (by omega) (by omega), nm_e ⟨vp_in_nI (by omega) (by omega), nm_e (br_i (cp_Sy_m1 va) (fun q1 => ?_) (fun q1 => br_i (cp_Sy_m1 vb) (fun q2 => ?_) (fun q2 => br_i (cp_Sy_m1 vc) (fun q3 => ?_) (fun q3 => ?_))))⟩⟩⟩⟩
      · rw [show cp_szf a b c = 0 by unfold cp_szf; rw [if_pos q1]] at w158; exact w158
      · rw [show cp_szf a b c = 1 by unfold cp_szf; rw [if_neg q1, if_pos q2]] at w158; exact w158
      · rw [show cp_szf a b c = 2 by unfold cp_szf; rw [if_neg q1, if_neg q2, if_pos q3]] at w158; exact w158
      · rw [show cp_szf a b c = 3 by unfold cp_szf; rw [if_neg q1, if_neg q2, if_neg q3]] at w158; exact w158
    have w45 : wY_produce_45 post (nI (n + 10)) (cp_Sy a) (cp_Sy b) (cp_Sy c) (nI (gm_P g)) (nI L) f_goal f_extra f_measured f_known f_more f_sum a_left a_size a_right a_text a_ops a_constants a_heights a_many a_chosen a_firstEnd a_secondEnd a_values a_nodes a_far a_productive a_useful a_covers := by
      unfold wY_produce_45
      exact br_i (cp_Sy_m1 vb) (fun q => br_t ((cp_Sy_m1 vc).mpr (m2 q)) w58) (fun _ => w58)
    exact ys_nonterminal (fun _ _ _ => br_f (by decide) (ys_wrong (fun _ => br_t rfl (ys_wrong (fun _ => br_t rfl (ys_wrong (fun _ => br_t rfl (br_i (cp_Sy_m1 va) (fun q => br_t ((cp_Sy_m1 vb).mpr (m1 q)) w45) (fun _ => w45))) (F1 vc))) (F1 vb))) (F1 va))) (fun w => absurd rfl (w n hn))
  · have hn' : ∀ n a b c, ¬ cp_pA v1 v2 v3 v4 n a b c := fun n a b c h => hn ⟨n, a, b, c, h⟩
    refine ys_nonterminal (fun n hn5 en => br_f (by decide) (ys_wrong (fun ⟨a, va, ea⟩ => br_t rfl (ys_wrong (fun ⟨b, vb, eb⟩ => br_t rfl (ys_wrong (fun ⟨c, vc, ec⟩ => br_t rfl ?_) (fun _ => br_f (by decide) (h0 hn')))) (fun _ => br_f (by decide) (h0 hn')))) (fun _ => br_f (by decide) (h0 hn')))) (fun _ => br_t rfl (h0 hn'))
    rw [ea, eb, ec]
    have key : ¬ ((a = 9 → b = 9) ∧ (b = 9 → c = 9)) := fun z => hn' n a b c ⟨hn5, en, va, ea, vb, eb, vc, ec, z.1, z.2⟩
    have w45 : (a = 9 → b = 9) → wY_produce_45 post v1 (cp_Sy a) (cp_Sy b) (cp_Sy c) (nI (gm_P g)) (nI L) f_goal f_extra f_measured f_known f_more f_sum a_left a_size a_right a_text a_ops a_constants a_heights a_many a_chosen a_firstEnd a_secondEnd a_values a_nodes a_far a_productive a_useful a_covers := by
      intro hab
      unfold wY_produce_45
      exact br_i (cp_Sy_m1 vb) (fun q => br_f (fun z => key ⟨hab, fun _ => (cp_Sy_m1 vc).mp z⟩) (h0 hn')) (fun q => absurd ⟨hab, fun z => absurd z q⟩ key)
    exact br_i (cp_Sy_m1 va) (fun q => br_i (cp_Sy_m1 vb) (fun y => w45 fun _ => y) (fun _ => h0 hn')) (fun q => w45 fun z => absurd z q)
theorem yv_insert {post : Int32 → SY → Prop} (I : yk_I g op cn L w) (h0 : (∀ a t, ¬ cp_iA L v1 v2 a t) → post 0 w) (h1 : ∀ a t w', cp_iA L v1 v2 a t → yk_I (gm_tx g (gm_it g L a t)) op cn (L + 1) w' → post 1 w') : wpY_insert post w v1 v2 := by
  obtain ⟨f_productions, f_length, f_goal, f_extra, f_measured, f_known, f_more, f_sum, a_left, a_size, a_right, a_text, a_ops, a_constants, a_heights, a_many, a_chosen, a_firstEnd, a_secondEnd, a_values, a_nodes, a_far, a_productive, a_useful, a_covers⟩ := w
  obtain ⟨rfl, rfl, G, hl, O, hk, hf⟩ := I
  have hL := cp_G_L G
  unfold wpY_insert
  rcases Classical.em (∃ a t, cp_iA L v1 v2 a t) with ⟨a, t, ha⟩ | hn
  · have ha' := ha
    obtain ⟨haL, hL9, ht, e1, e2⟩ := ha'
    rw [e1, e2]
    have text : ∀ d i tx, a + d = i → i ≤ L → cp_iT g L i tx → wY_insert_36 post (nI a) (nI t) (nI (gm_P g)) (nI L) f_goal f_extra f_measured f_known f_more f_sum (d + 1) (nI i) a_left a_size a_right tx a_ops a_constants a_heights a_many a_chosen a_firstEnd a_secondEnd a_values a_nodes a_far a_productive a_useful a_covers := by
      intro d
      induction d with
      | zero =>
        intro i tx hi hiL hT
        have e : i = a := by omega
        subst e
        rw [wY_insert_36]
        rw [nI_clamp (show i < 2 ^ 31 by omega)]
        exact pk_le i i (fun _ => ⟨vp_in_nI (by omega) (by omega), nm_e (nm_r (nI_1 _) (h1 i t _ ha ⟨rfl, rfl, cp_G_tx' G (by omega) (cp_iT_e hT ht (fun i => cp_G_t6 G) haL), hl, O, fun z => absurd rfl z, fun z => absurd rfl z⟩))⟩) (fun z => absurd z (by omega))
      | succ d ih =>
        intro i1 tx hi hiL hT
        obtain ⟨i, rfl⟩ : ∃ i, i1 = i + 1 := ⟨i1 - 1, by omega⟩
        rw [wY_insert_36]
        refine pk_le (i + 1) a (fun z => absurd z (by omega)) (fun _ => ?_)
        rw [nI_pred, nI_clamp (show i < 2 ^ 31 by omega), nI_clamp (show i + 1 < 2 ^ 31 by omega), (hT i).2 (by omega)]
        refine ⟨vp_in_nI (by omega) (by omega), vp_in_nI (by omega) (by omega), nm_e (nm_r (pk_m1 i) (ih i _ (by omega) (by omega) fun y => ⟨fun p1 p2 => ?_, fun p => ?_⟩))⟩
        · by_cases e : y = i + 1
          · subst e; rw [pk_us]; rfl
          · rw [pk_un e]; exact (hT y).1 (by omega) p2
        · rw [pk_un (by omega)]; exact (hT y).2 (by omega)
    refine br_f (nI_pos (by omega)) (pk_lt L a (fun z => absurd z (by omega)) (fun _ => ys_terminal (fun t' ht' et => br_f (by decide) (pk_eq L 10 (fun z => absurd z (by omega)) (fun _ => ⟨L - a + 1, text (L - a) L a_text (by omega) (Nat.le_refl _) fun y => ⟨fun p1 p2 => absurd p1 (by omega), fun _ => cp_G_tx G⟩⟩))) (fun w => absurd rfl (w t ht))))
  · have hn' : ∀ a t, ¬ cp_iA L v1 v2 a t := fun a t h => hn ⟨a, t, h⟩
    refine br_c (fun _ => h0 hn') (fun z => br_c (fun _ => h0 hn') (fun y => ys_terminal (fun t ht e => br_f (by decide) (pk_eq L 10 (fun _ => h0 hn') (fun w => ?_))) (fun _ => br_t rfl (h0 hn'))))
    obtain ⟨a, ha, ea⟩ := nI_of z
    subst ea
    have : a ≤ L := Nat.le_of_not_lt fun w => y (nI_lt w ha)
    exact absurd ⟨this, by omega, ht, rfl, e⟩ (hn' a t)
theorem yv_erase {post : Int32 → SY → Prop} (I : yk_I g op cn L w) (h0 : (∀ a, ¬ cp_eA L v1 a) → post 0 w) (h1 : ∀ a w', cp_eA L v1 a → yk_I (gm_tx g (gm_et g L a)) op cn (L - 1) w' → post 1 w') : wpY_erase post w v1 := by
  obtain ⟨f_productions, f_length, f_goal, f_extra, f_measured, f_known, f_more, f_sum, a_left, a_size, a_right, a_text, a_ops, a_constants, a_heights, a_many, a_chosen, a_firstEnd, a_secondEnd, a_values, a_nodes, a_far, a_productive, a_useful, a_covers⟩ := w
  obtain ⟨rfl, rfl, G, hl, O, hk, hf⟩ := I
  have hL := cp_G_L G
  unfold wpY_erase
  rcases Classical.em (∃ a, cp_eA L v1 a) with ⟨a, ha⟩ | hn
  · have ha' := ha
    obtain ⟨haL, e1⟩ := ha'
    rw [e1]
    obtain ⟨M, rfl⟩ : ∃ M, L = M + 1 := ⟨L - 1, by omega⟩
    rw [Nat.add_sub_cancel] at h1
    have text : ∀ d i tx, i + d = M → a ≤ i → cp_eT g a i tx → wY_erase_26 post (nI (gm_P g)) (nI M) f_goal f_extra f_measured f_known f_more f_sum (d + 1) (nI i) a_left a_size a_right tx a_ops a_constants a_heights a_many a_chosen a_firstEnd a_secondEnd a_values a_nodes a_far a_productive a_useful a_covers := by
      intro d
      induction d with
      | zero =>
        intro i tx hi hai hT
        have e : i = M := by omega
        subst e
        rw [wY_erase_26]
        exact pk_le i i (fun _ => h1 a _ ha ⟨rfl, rfl, cp_G_tx' G (by omega) (cp_eT_e (L := i + 1) hT fun i => cp_G_t6 G), hl, O, fun z => absurd rfl z, fun z => absurd rfl z⟩) (fun z => absurd z (by omega))
      | succ d ih =>
        intro i tx hi hai hT
        rw [wY_erase_26]
        refine pk_le M i (fun z => absurd z (by omega)) (fun _ => ?_)
        rw [nI_1, nI_clamp (show i < 2 ^ 31 by omega), nI_clamp (show i + 1 < 2 ^ 31 by omega), (hT (i + 1)).2 (by omega)]
        refine ⟨vp_in_nI (by omega) (by omega), vp_in_nI (by omega) (by omega), nm_e (nm_e (ih (i + 1) _ (by omega) (by omega) fun y => ⟨fun p1 p2 => ?_, fun p => ?_⟩))⟩
        · by_cases e : y = i
          · subst e; rw [pk_us]
          · rw [pk_un e]; exact (hT y).1 p1 (by omega)
        · rw [pk_un (by omega)]; exact (hT y).2 (by omega)
    exact br_f (nI_pos (by omega)) (pk_lt a (M + 1) (fun _ => nm_r (nI_pred M) ⟨M - a + 1, text (M - a) a a_text (by omega) (Nat.le_refl _) fun y => ⟨fun p1 p2 => absurd p1 (by omega), fun _ => cp_G_tx G⟩⟩) (fun z => absurd z (by omega)))
  · have hn' : ∀ a, ¬ cp_eA L v1 a := fun a h => hn ⟨a, h⟩
    refine br_c (fun _ => h0 hn') (fun z => br_c (fun y => ?_) (fun _ => h0 hn'))
    obtain ⟨a, ha, ea⟩ := nI_of z
    subst ea
    rw [nI_ltI ha (by omega)] at y
    exact absurd ⟨y, rfl⟩ (hn' a)
theorem yv_init {post : SY → Prop} (h : ∀ w, yk_I (0, fun _ => 0, fun _ => 9, fun _ => 0) (fun _ => 0) (fun _ => 0) 0 w → post w) : wpY_init post := by
  unfold wpY_init
  exact h _ ⟨rfl, rfl, ⟨⟨by show (0 : Nat) ≤ 12; omega, fun p hp => absurd hp (by show ¬ p < 0; omega)⟩, by omega, fun p hp => absurd hp (by show ¬ p < 0; omega), fun i => ⟨by show (0 : Nat) < 6; omega, rfl⟩⟩, fun p hp => absurd hp (by show ¬ p < 0; omega), fun p hp => absurd hp (by show ¬ p < 0; omega), fun z => absurd rfl z, fun z => absurd rfl z⟩
end
end
section
/-! Y: away, least -/
def yk_kf (af : Nat → Int32) (n a b x : Nat) : Prop := x ≤ 60000 ∧ af (196 * n + 14 * a + b) = nI x
/-- a cell is known, or -1 -/
def yk_c1 (L : Nat) (af : Nat → Int32) : Prop := ∀ n a b, yk_ok L n a b → af (196 * n + 14 * a + b) = -1 ∨ ∃ x, yk_kf af n a b x
theorem cp_nI_m1 {n : Nat} (h : n < 2 ^ 31) : nI n ≠ -1 := fun e => by
  have : (nI n).toInt = -1 := by rw [e]; rfl
  rw [nI_toInt h] at this; omega
theorem yk_kf_un {af : Nat → Int32} {n a b x y : Nat} (h : yk_kf af n a b x) (k : yk_kf af n a b y) : x = y := (nI_eq (by have := h.1; omega) (by have := k.1; omega)).mp (h.2.symm.trans k.2)
theorem gm_Cy_un {g : gm_G} {af : Nat → Int32} {c i j x y : Nat} (h : gm_Cy g (yk_kf af) c i j x) (k : gm_Cy g (yk_kf af) c i j y) : x = y := by
  rcases h with ⟨a, h⟩ | ⟨a, _, h⟩ | ⟨a, h⟩ <;> rcases k with ⟨b, k⟩ | ⟨b, _, k⟩ | ⟨b, k⟩
  · exact yk_kf_un h k
  · omega
  · omega
  · omega
  · omega
  · omega
  · omega
  · omega
  · exact gm_tc_un h k
section
variable {g : gm_G} {L : Nat} {f_goal f_extra f_measured f_known f_more : Int32} {a_left a_size a_right a_text a_ops a_constants a_heights a_chosen a_firstEnd a_secondEnd a_far a_productive a_useful a_covers : Nat → Int32} {a_many a_values a_nodes : Nat → Int64} {f_sum : Int64} {c i j p n k m a b r u v : Nat}
theorem ys_away {post : Int32 → Prop} (G : cp_G g L a_right a_size a_text) (T : yk_c1 L a_far) (hc : c < 6 ∨ (10 ≤ c ∧ c < 15)) (hab : a ≤ b) (hb : b ≤ L)
    (h1 : ∀ x, gm_Cy g (yk_kf a_far) c a b x → x ≤ 60000 → post (nI x)) (h0 : (∀ x, ¬ gm_Cy g (yk_kf a_far) c a b x) → post (-1)) : wpY_away post (nI (gm_P g), nI L, f_goal, f_extra, f_measured, f_known, f_more, f_sum, a_left, a_size, a_right, a_text, a_ops, a_constants, a_heights, a_many, a_chosen, a_firstEnd, a_secondEnd, a_values, a_nodes, a_far, a_productive, a_useful, a_covers) (cp_Sy c) (nI a) (nI b) := by
  have hL := cp_G_L G
  have h15 : c < 15 := by omega
  have lp : c < 6 → ∀ d k, k + d = b → a ≤ k → (∀ k', a ≤ k' → k' < k → gm_t g k' ≠ c) → wY_away_26 post (cp_Sy c) (nI a) (nI b) (nI (gm_P g)) (nI L) f_goal f_extra f_measured f_known f_more f_sum a_left a_size a_right a_text a_ops a_constants a_heights a_many a_chosen a_firstEnd a_secondEnd a_values a_nodes a_far a_productive a_useful a_covers (d + 1) (nI k) := by
    intro hc6 d
    induction d with
    | zero =>
      intro k hk hak hno
      rw [wY_away_26]
      refine pk_le b k (fun _ => pk_eq a b (fun e => h1 1 (Or.inr (Or.inr ⟨by omega, Or.inl ⟨e, rfl⟩⟩)) (by omega)) (fun e => ?_)) (fun z => absurd z (by omega))
      rw [pk_sub hab]
      exact h1 _ (Or.inr (Or.inr ⟨by omega, Or.inr (Or.inr ⟨by omega, fun k' q1 q2 => hno k' q1 (by omega), rfl⟩)⟩)) (by omega)
    | succ d ih =>
      intro k hk hak hno
      rw [wY_away_26]
      refine pk_le b k (fun z => absurd z (by omega)) (fun _ => ?_)
      rw [nI_clamp (show k < 2 ^ 31 by omega), cp_G_tx G]
      refine ⟨vp_in_nI (by omega) (by omega), br_i (cp_tx (cp_G_t6 G) h15) (fun e => ?_) (fun e => nm_r (nI_1 _) (ih (k + 1) (by omega) (by omega) fun k' q1 q2 => ?_))⟩
      · rw [pk_sub hab, show nI (b - a) - 1 = nI (b - a - 1) from pk_sub (b := 1) (by omega)]
        exact h1 _ (Or.inr (Or.inr ⟨by omega, Or.inr (Or.inl ⟨by omega, ⟨k, hak, by omega, e⟩, by omega⟩)⟩)) (by omega)
      · rcases Nat.lt_or_ge k' k with z | z
        · exact hno k' q1 z
        · have : k' = k := by omega
          subst this; exact e
  unfold wpY_away
  refine br_i (cp_Sy_lt10 h15) (fun h10 => ⟨b - a + 1, lp (by omega) (b - a) a (by omega) (Nat.le_refl _) (fun k' q1 q2 => absurd q1 (by omega))⟩) (fun h10 => ys_cell (by omega) ?_)
  rw [nI_clamp (show 196 * (c - 10) + 14 * a + b < 2 ^ 31 by omega)]
  refine ⟨vp_in_nI (by omega) (by omega), ?_⟩
  rcases T (c - 10) a b ⟨by omega, hab, hb⟩ with z | ⟨x, z⟩
  · rw [z]
    refine h0 fun x hx => ?_
    rcases hx with ⟨_, q⟩ | ⟨q, _⟩ | ⟨q, _⟩
    · rw [q.2] at z; exact cp_nI_m1 (by have := q.1; omega) z
    · omega
    · omega
  · rw [z.2]
    exact h1 x (Or.inl ⟨by omega, z⟩) z.1
/-- the least known sum -/
def yk_Ls (g : gm_G) (af : Nat → Int32) (S : Nat → Nat → Prop) (p i j : Nat) (r : Int32) : Prop :=
  (r = -1 ∧ ∀ u v a b c, S u v → i ≤ u → u ≤ v → v ≤ j → gm_Cy g (yk_kf af) (gm_s g (3 * p)) i u a → gm_Cy g (yk_kf af) (gm_s g (3 * p + 1)) u v b → gm_Cy g (yk_kf af) (gm_s g (3 * p + 2)) v j c → False) ∨
  (∃ x, r = nI x ∧ x ≤ 180000 ∧ gm_Ye1 g (yk_kf af) p i j x ∧ ∀ u v a b c, S u v → i ≤ u → u ≤ v → v ≤ j → gm_Cy g (yk_kf af) (gm_s g (3 * p)) i u a → gm_Cy g (yk_kf af) (gm_s g (3 * p + 1)) u v b → gm_Cy g (yk_kf af) (gm_s g (3 * p + 2)) v j c → x ≤ a + b + c)
theorem yk_Ls_c {af : Nat → Int32} {S S' : Nat → Nat → Prop} {q : Int32} (h : yk_Ls g af S p i j q) (hS : ∀ u v a b c, S' u v → i ≤ u → u ≤ v → v ≤ j → gm_Cy g (yk_kf af) (gm_s g (3 * p)) i u a → gm_Cy g (yk_kf af) (gm_s g (3 * p + 1)) u v b → gm_Cy g (yk_kf af) (gm_s g (3 * p + 2)) v j c → S u v) : yk_Ls g af S' p i j q := by
  rcases h with ⟨e, h⟩ | ⟨x, e, hx, h1, h2⟩
  · exact Or.inl ⟨e, fun u v a b c s1 s2 s3 s4 s5 s6 s7 => h u v a b c (hS u v a b c s1 s2 s3 s4 s5 s6 s7) s2 s3 s4 s5 s6 s7⟩
  · exact Or.inr ⟨x, e, hx, h1, fun u v a b c s1 s2 s3 s4 s5 s6 s7 => h2 u v a b c (hS u v a b c s1 s2 s3 s4 s5 s6 s7) s2 s3 s4 s5 s6 s7⟩
/-- a part's value: known or -1 -/
def yk_pv (g : gm_G) (af : Nat → Int32) (c a b : Nat) (r : Int32) : Prop := (r = -1 ∧ ∀ x, ¬ gm_Cy g (yk_kf af) c a b x) ∨ (∃ x, r = nI x ∧ x ≤ 60000 ∧ gm_Cy g (yk_kf af) c a b x)
theorem ys_least {post : Int32 → Prop} (G : cp_G g L a_right a_size a_text) (T : yk_c1 L a_far) (hp : p < gm_P g) (hij : i ≤ j) (hj : j ≤ L)
    (h1 : ∀ x, x ≤ 180000 → gm_Ye1 g (yk_kf a_far) p i j x → (∀ y, gm_Ye1 g (yk_kf a_far) p i j y → x ≤ y) → post (nI x)) (h0 : (∀ y, ¬ gm_Ye1 g (yk_kf a_far) p i j y) → post (-1)) : wpY_least post (nI (gm_P g), nI L, f_goal, f_extra, f_measured, f_known, f_more, f_sum, a_left, a_size, a_right, a_text, a_ops, a_constants, a_heights, a_many, a_chosen, a_firstEnd, a_secondEnd, a_values, a_nodes, a_far, a_productive, a_useful, a_covers) (nI p) (nI i) (nI j) := by
  have h12 := cp_G_P G
  have hL := cp_G_L G
  have ok := cp_G_ok G
  have c0 : gm_s g (3 * p) < 6 ∨ gm_s g (3 * p) = 9 ∨ (10 ≤ gm_s g (3 * p) ∧ gm_s g (3 * p) < 15) := gm_ok_s ok hp (show 0 < 3 by omega)
  have c1 := gm_ok_s ok hp (show 1 < 3 by omega)
  have c2 := gm_ok_s ok hp (show 2 < 3 by omega)
  have z0 : 0 < gm_sz g p ↔ gm_s g (3 * p) ≠ 9 := gm_sz_lt ok hp (show 0 < 3 by omega)
  have z1 := gm_sz_lt ok hp (show 1 < 3 by omega)
  have z2 := gm_sz_lt ok hp (show 2 < 3 by omega)
  have hs3 := gm_sz_le g p
  have cy9 : ∀ {c a b x}, c = 9 → gm_Cy g (yk_kf a_far) c a b x → a = b := by
    rintro c a b x hc (⟨q, _⟩ | ⟨_, q, _⟩ | ⟨q, _⟩)
    · omega
    · exact q
    · omega
  have main : gm_s g (3 * p) ≠ 9 → ∃ n25 : Nat, wY_least_25 post (nI p) (nI i) (nI j) (nI (gm_sz g p)) (nI (gm_P g)) (nI L) f_goal f_extra f_measured f_known f_more f_sum a_left a_size a_right a_text a_ops a_constants a_heights a_many a_chosen a_firstEnd a_secondEnd a_values a_nodes a_far a_productive a_useful a_covers n25 (-1) (nI i) := by
    intro h9
    have hsz := z0.mpr h9
    have inner : ∀ (J : Int32 → Int32 → Prop) u, i ≤ u → u ≤ j → (∀ q, yk_Ls g a_far (yk_D2 (u + 1) (u + 1)) p i j q → J q (nI (u + 1))) → ∀ d v q, v + d = j + 1 → u ≤ v → yk_Ls g a_far (yk_D2 u v) p i j q → wY_least_40 post J (nI p) (nI i) (nI j) (nI (gm_sz g p)) (nI u) (nI (gm_P g)) (nI L) f_goal f_extra f_measured f_known f_more f_sum a_left a_size a_right a_text a_ops a_constants a_heights a_many a_chosen a_firstEnd a_secondEnd a_values a_nodes a_far a_productive a_useful a_covers (d + 1) q (nI v) := by
      intro J u hiu huj hJ d
      induction d with
      | zero =>
        intro v q hv huv hI
        rw [wY_least_40]
        exact pk_lt j v (fun _ => nm_r (nI_1 _) (hJ q (yk_Ls_c hI fun u' v' a b c s1 s2 s3 s4 _ _ _ => by unfold yk_D2 at s1 ⊢; omega))) (fun z => absurd z (by omega))
      | succ d ih =>
        intro v q hv huv hI
        have skip : (∀ a b c, gm_Cy g (yk_kf a_far) (gm_s g (3 * p)) i u a → gm_Cy g (yk_kf a_far) (gm_s g (3 * p + 1)) u v b → gm_Cy g (yk_kf a_far) (gm_s g (3 * p + 2)) v j c → False) → yk_Ls g a_far (yk_D2 u (v + 1)) p i j q := fun hn => yk_Ls_c hI fun u' v' a b c s1 s2 s3 s4 s5 s6 s7 => by
          by_cases e : u' = u ∧ v' = v
          · obtain ⟨rfl, rfl⟩ := e; exact (hn a b c s5 s6 s7).elim
          · unfold yk_D2 at s1 ⊢; omega
        have nx : yk_Ls g a_far (yk_D2 u (v + 1)) p i j q → wY_least_40 post J (nI p) (nI i) (nI j) (nI (gm_sz g p)) (nI u) (nI (gm_P g)) (nI L) f_goal f_extra f_measured f_known f_more f_sum a_left a_size a_right a_text a_ops a_constants a_heights a_many a_chosen a_firstEnd a_secondEnd a_values a_nodes a_far a_productive a_useful a_covers (d + 1) q (nI (v + 1)) := fun hI' => ih (v + 1) q (by omega) (by omega) hI'
        have w147 : ∀ x8 x9 x0, yk_pv g a_far (gm_s g (3 * p)) i u x8 → yk_pv g a_far (gm_s g (3 * p + 1)) u v x9 → yk_pv g a_far (gm_s g (3 * p + 2)) v j x0 → wY_least_147 post J (wY_least_40 post J (nI p) (nI i) (nI j) (nI (gm_sz g p)) (nI u) (nI (gm_P g)) (nI L) f_goal f_extra f_measured f_known f_more f_sum a_left a_size a_right a_text a_ops a_constants a_heights a_many a_chosen a_firstEnd a_secondEnd a_values a_nodes a_far a_productive a_useful a_covers (d + 1)) (nI p) (nI i) (nI j) (nI (gm_sz g p)) q (nI u) (nI v) x8 x9 x0 (nI (gm_P g)) (nI L) f_goal f_extra f_measured f_known f_more f_sum a_left a_size a_right a_text a_ops a_constants a_heights a_many a_chosen a_firstEnd a_secondEnd a_values a_nodes a_far a_productive a_useful a_covers := by
          intro x8 x9 x0 p8 p9 p0
          unfold wY_least_147
          rcases p8 with ⟨e8, n8⟩ | ⟨y8, e8, b8, k8⟩
          · rw [e8]; exact br_t (by decide) (nm_r (nI_1 _) (nx (skip fun a b c q1 q2 q3 => n8 a q1)))
          rcases p9 with ⟨e9, n9⟩ | ⟨y9, e9, b9, k9⟩
          · rw [e8, e9]; exact br_f (nI_pos (by omega)) (br_t (by decide) (nm_r (nI_1 _) (nx (skip fun a b c q1 q2 q3 => n9 b q2))))
          rcases p0 with ⟨e0, n0⟩ | ⟨y0, e0, b0, k0⟩
          · rw [e8, e9, e0]; exact br_f (nI_pos (by omega)) (br_f (nI_pos (by omega)) (br_t (by decide) (nm_r (nI_1 _) (nx (skip fun a b c q1 q2 q3 => n0 c q3)))))
          rw [e8, e9, e0]
          have hYe : gm_Ye1 g (yk_kf a_far) p i j (y8 + y9 + y0) := Or.inr ⟨h9, u, v, y8, y9, y0, hiu, huv, by omega, k8, k9, k0, rfl⟩
          have put : (∀ u' v' a b c, yk_D2 u v u' v' → i ≤ u' → u' ≤ v' → v' ≤ j → gm_Cy g (yk_kf a_far) (gm_s g (3 * p)) i u' a → gm_Cy g (yk_kf a_far) (gm_s g (3 * p + 1)) u' v' b → gm_Cy g (yk_kf a_far) (gm_s g (3 * p + 2)) v' j c → y8 + y9 + y0 ≤ a + b + c) → wY_least_182 post J (wY_least_40 post J (nI p) (nI i) (nI j) (nI (gm_sz g p)) (nI u) (nI (gm_P g)) (nI L) f_goal f_extra f_measured f_known f_more f_sum a_left a_size a_right a_text a_ops a_constants a_heights a_many a_chosen a_firstEnd a_secondEnd a_values a_nodes a_far a_productive a_useful a_covers (d + 1)) (nI p) (nI i) (nI j) (nI (gm_sz g p)) (nI u) (nI v) (nI y8) (nI y9) (nI y0) (nI (gm_P g)) (nI L) f_goal f_extra f_measured f_known f_more f_sum a_left a_size a_right a_text a_ops a_constants a_heights a_many a_chosen a_firstEnd a_secondEnd a_values a_nodes a_far a_productive a_useful a_covers := by
            intro hlow
            unfold wY_least_182
            refine nm_r (e' := nI (y8 + y9 + y0)) (by rw [nI_add, nI_add]) (nm_r (nI_1 _) (ih (v + 1) _ (by omega) (by omega) (Or.inr ⟨y8 + y9 + y0, rfl, by omega, hYe, fun u' v' a b c s1 s2 s3 s4 s5 s6 s7 => ?_⟩)))
            by_cases e : u' = u ∧ v' = v
            · obtain ⟨rfl, rfl⟩ := e
              rw [gm_Cy_un s5 k8, gm_Cy_un s6 k9, gm_Cy_un s7 k0]; exact Nat.le_refl _
            · exact hlow u' v' a b c (by unfold yk_D2 at s1 ⊢; omega) s2 s3 s4 s5 s6 s7
          refine br_f (nI_pos (by omega)) (br_f (nI_pos (by omega)) (br_f (nI_pos (by omega)) ?_))
          rcases hI with ⟨eq, hn⟩ | ⟨x, eq, hx, hx1, hx2⟩
          · rw [eq]
            exact br_t (by decide) (put fun u' v' a b c s1 s2 s3 s4 s5 s6 s7 => (hn u' v' a b c s1 s2 s3 s4 s5 s6 s7).elim)
          · rw [eq] at nx ⊢
            refine br_f (nI_pos (by omega)) ?_
            rw [nI_add, nI_add]
            refine pk_le x (y8 + y9 + y0) (fun y => nm_r (nI_1 _) (nx (Or.inr ⟨x, rfl, hx, hx1, fun u' v' a b c s1 s2 s3 s4 s5 s6 s7 => ?_⟩))) (fun y => put fun u' v' a b c s1 s2 s3 s4 s5 s6 s7 => ?_)
            · by_cases e : u' = u ∧ v' = v
              · obtain ⟨rfl, rfl⟩ := e
                rw [gm_Cy_un s5 k8, gm_Cy_un s6 k9, gm_Cy_un s7 k0]; exact y
              · exact hx2 u' v' a b c (by unfold yk_D2 at s1 ⊢; omega) s2 s3 s4 s5 s6 s7
            · have := hx2 u' v' a b c s1 s2 s3 s4 s5 s6 s7; omega
        have w118 : (gm_sz g p < 3 → v = j) → ∀ x8 x9, yk_pv g a_far (gm_s g (3 * p)) i u x8 → yk_pv g a_far (gm_s g (3 * p + 1)) u v x9 → wY_least_118 post J (wY_least_40 post J (nI p) (nI i) (nI j) (nI (gm_sz g p)) (nI u) (nI (gm_P g)) (nI L) f_goal f_extra f_measured f_known f_more f_sum a_left a_size a_right a_text a_ops a_constants a_heights a_many a_chosen a_firstEnd a_secondEnd a_values a_nodes a_far a_productive a_useful a_covers (d + 1)) (nI p) (nI i) (nI j) (nI (gm_sz g p)) q (nI u) (nI v) x8 x9 (nI (gm_P g)) (nI L) f_goal f_extra f_measured f_known f_more f_sum a_left a_size a_right a_text a_ops a_constants a_heights a_many a_chosen a_firstEnd a_secondEnd a_values a_nodes a_far a_productive a_useful a_covers := by
          intro hv3 x8 x9 p8 p9
          unfold wY_least_118
          rw [ix_32, nI_clamp (show 3 * p + 2 < 2 ^ 31 by omega), cp_G_rt G hp (show 2 < 3 by omega)]
          refine pk_le 3 (gm_sz g p) (fun y => ⟨vp_in_nI (by omega) (by omega), ys_away G T (by have := z2.mp (by omega); omega) (by omega) hj (fun x hx hb => w147 _ _ _ p8 p9 (Or.inr ⟨x, rfl, hb, hx⟩)) (fun hx => w147 _ _ _ p8 p9 (Or.inl ⟨rfl, hx⟩))⟩) (fun y => w147 _ _ _ p8 p9 (Or.inr ⟨0, rfl, by omega, Or.inr (Or.inl ⟨?_, hv3 y, rfl⟩)⟩))
          exact Classical.byContradiction fun w => by have := z2.mpr w; omega
        have w73 : (gm_sz g p < 3 → v = j) → (gm_sz g p < 2 → u = j) → wY_least_73 post J (wY_least_40 post J (nI p) (nI i) (nI j) (nI (gm_sz g p)) (nI u) (nI (gm_P g)) (nI L) f_goal f_extra f_measured f_known f_more f_sum a_left a_size a_right a_text a_ops a_constants a_heights a_many a_chosen a_firstEnd a_secondEnd a_values a_nodes a_far a_productive a_useful a_covers (d + 1)) (nI p) (nI i) (nI j) (nI (gm_sz g p)) q (nI u) (nI v) (nI (gm_P g)) (nI L) f_goal f_extra f_measured f_known f_more f_sum a_left a_size a_right a_text a_ops a_constants a_heights a_many a_chosen a_firstEnd a_secondEnd a_values a_nodes a_far a_productive a_useful a_covers := by
          intro hv3 hu2
          unfold wY_least_73
          rw [ix_31, ix_3, nI_clamp (show 3 * p < 2 ^ 31 by omega), nI_clamp (show 3 * p + 1 < 2 ^ 31 by omega), cp_G_r0 G hp, cp_G_rt G hp (show 1 < 3 by omega)]
          have bcase : ∀ x8, yk_pv g a_far (gm_s g (3 * p)) i u x8 → ((2 ≤ nI (gm_sz g p) → (vp_in (nI (3 * p + 1)) 36 ∧ (wpY_away (fun r_39 => wY_least_118 post J (wY_least_40 post J (nI p) (nI i) (nI j) (nI (gm_sz g p)) (nI u) (nI (gm_P g)) (nI L) f_goal f_extra f_measured f_known f_more f_sum a_left a_size a_right a_text a_ops a_constants a_heights a_many a_chosen a_firstEnd a_secondEnd a_values a_nodes a_far a_productive a_useful a_covers (d + 1)) (nI p) (nI i) (nI j) (nI (gm_sz g p)) q (nI u) (nI v) x8 r_39 (nI (gm_P g)) (nI L) f_goal f_extra f_measured f_known f_more f_sum a_left a_size a_right a_text a_ops a_constants a_heights a_many a_chosen a_firstEnd a_secondEnd a_values a_nodes a_far a_productive a_useful a_covers) (nI (gm_P g), nI L, f_goal, f_extra, f_measured, f_known, f_more, f_sum, a_left, a_size, a_right, a_text, a_ops, a_constants, a_heights, a_many, a_chosen, a_firstEnd, a_secondEnd, a_values, a_nodes, a_far, a_productive, a_useful, a_covers) (cp_Sy (gm_s g (3 * p + 1))) (nI u) (nI v)))) ∧ (¬ 2 ≤ nI (gm_sz g p) → (wY_least_118 post J (wY_least_40 post J (nI p) (nI i) (nI j) (nI (gm_sz g p)) (nI u) (nI (gm_P g)) (nI L) f_goal f_extra f_measured f_known f_more f_sum a_left a_size a_right a_text a_ops a_constants a_heights a_many a_chosen a_firstEnd a_secondEnd a_values a_nodes a_far a_productive a_useful a_covers (d + 1)) (nI p) (nI i) (nI j) (nI (gm_sz g p)) q (nI u) (nI v) x8 0 (nI (gm_P g)) (nI L) f_goal f_extra f_measured f_known f_more f_sum a_left a_size a_right a_text a_ops a_constants a_heights a_many a_chosen a_firstEnd a_secondEnd a_values a_nodes a_far a_productive a_useful a_covers))) := by
            intro x8 p8
            refine pk_le 2 (gm_sz g p) (fun y => ⟨vp_in_nI (by omega) (by omega), ys_away G T (by have := z1.mp (by omega); omega) huv (by omega) (fun x hx hb => w118 hv3 _ _ p8 (Or.inr ⟨x, rfl, hb, hx⟩)) (fun hx => w118 hv3 _ _ p8 (Or.inl ⟨rfl, hx⟩))⟩) (fun y => w118 hv3 _ _ p8 (Or.inr ⟨0, rfl, by omega, Or.inr (Or.inl ⟨?_, ?_, rfl⟩)⟩))
            · exact Classical.byContradiction fun w => by have := z1.mpr w; omega
            · have := hu2 (by omega); have := hv3 (by omega); omega
          exact ⟨vp_in_nI (by omega) (by omega), ys_away G T (by omega) hiu (by omega) (fun x hx hb => bcase _ (Or.inr ⟨x, rfl, hb, hx⟩)) (fun hx => bcase _ (Or.inl ⟨rfl, hx⟩))⟩
        have w58 : (gm_sz g p < 3 → v = j) → wY_least_58 post J (wY_least_40 post J (nI p) (nI i) (nI j) (nI (gm_sz g p)) (nI u) (nI (gm_P g)) (nI L) f_goal f_extra f_measured f_known f_more f_sum a_left a_size a_right a_text a_ops a_constants a_heights a_many a_chosen a_firstEnd a_secondEnd a_values a_nodes a_far a_productive a_useful a_covers (d + 1)) (nI p) (nI i) (nI j) (nI (gm_sz g p)) q (nI u) (nI v) (nI (gm_P g)) (nI L) f_goal f_extra f_measured f_known f_more f_sum a_left a_size a_right a_text a_ops a_constants a_heights a_many a_chosen a_firstEnd a_secondEnd a_values a_nodes a_far a_productive a_useful a_covers := by
          intro hv3
          unfold wY_least_58
          refine pk_le 2 (gm_sz g p) (fun y => w73 hv3 fun w => absurd w (by omega)) (fun y => pk_le j u (fun w => w73 hv3 fun _ => by omega) (fun w => nm_r (nI_1 _) (nx (skip fun a b c q1 q2 q3 => ?_))))
          have h9' : gm_s g (3 * p + 1) = 9 := Classical.byContradiction fun t => by have := z1.mpr t; omega
          have := cy9 h9' q2
          have := hv3 (by omega)
          omega
        rw [wY_least_40]
        refine pk_lt j v (fun z => absurd z (by omega)) (fun _ => pk_le 3 (gm_sz g p) (fun y => w58 fun w => absurd w (by omega)) (fun y => pk_lt v j (fun w => nm_r (nI_1 _) (nx (skip fun a b c q1 q2 q3 => ?_))) (fun w => w58 fun _ => by omega)))
        have h9' : gm_s g (3 * p + 2) = 9 := Classical.byContradiction fun t => by have := z2.mpr t; omega
        have := cy9 h9' q3
        omega
    have outer : ∀ d u q, u + d = j + 1 → i ≤ u → yk_Ls g a_far (yk_D2 u u) p i j q → wY_least_25 post (nI p) (nI i) (nI j) (nI (gm_sz g p)) (nI (gm_P g)) (nI L) f_goal f_extra f_measured f_known f_more f_sum a_left a_size a_right a_text a_ops a_constants a_heights a_many a_chosen a_firstEnd a_secondEnd a_values a_nodes a_far a_productive a_useful a_covers (d + 1) q (nI u) := by
      intro d
      induction d with
      | zero =>
        intro u q hu hiu hI
        rw [wY_least_25]
        refine pk_lt j u (fun _ => ?_) (fun z => absurd z (by omega))
        rcases hI with ⟨e, hn⟩ | ⟨x, e, hx, hx1, hx2⟩
        · rw [e]
          refine h0 fun y hy => ?_
          rcases hy with ⟨w, _⟩ | ⟨_, u', v', a, b, c, s1, s2, s3, s4, s5, s6, _⟩
          · exact h9 w
          · exact hn u' v' a b c (by unfold yk_D2; omega) s1 s2 s3 s4 s5 s6
        · rw [e]
          refine h1 x hx hx1 fun y hy => ?_
          rcases hy with ⟨w, _⟩ | ⟨_, u', v', a, b, c, s1, s2, s3, s4, s5, s6, s7⟩
          · exact absurd w h9
          · rw [s7]; exact hx2 u' v' a b c (by unfold yk_D2; omega) s1 s2 s3 s4 s5 s6
      | succ d ih =>
        intro u q hu hiu hI
        rw [wY_least_25]
        exact pk_lt j u (fun z => absurd z (by omega)) (fun _ => pk_le (gm_sz g p) 0 (fun w => absurd w (by omega)) (fun _ => ⟨j + 1 - u + 1, inner _ u hiu (by omega) (fun q' hI' => ih (u + 1) q' (by omega) (by omega) hI') (j + 1 - u) u q (by omega) (Nat.le_refl _) hI⟩))
    exact ⟨j + 1 - i + 1, outer (j + 1 - i) i (-1) (by omega) (Nat.le_refl _) (Or.inl ⟨rfl, fun u v a b c s1 s2 s3 => by unfold yk_D2 at s1; omega⟩)⟩
  unfold wpY_least
  dsimp only
  rw [nI_clamp (show p < 2 ^ 31 by omega), cp_G_sz G hp]
  refine ⟨vp_in_nI (by omega) (by omega), nm_e (pk_eq (gm_sz g p) 0 (fun e => nm_r (pk_sub hij) ⟨1, ?_⟩) (fun e => main (z0.mp (by omega))))⟩
  have h9 : gm_s g (3 * p) = 9 := Classical.byContradiction fun t => by have := z0.mpr t; omega
  have fin : post (nI (j - i)) := h1 (j - i) (by omega) (Or.inl ⟨h9, hij, rfl⟩) fun y hy => by
    rcases hy with ⟨_, _, w⟩ | ⟨w, _⟩
    · omega
    · exact absurd h9 w
  rw [wY_least_25]
  exact pk_lt j i (fun _ => fin) (fun _ => pk_le (gm_sz g p) 0 (fun _ => fin) (fun w => absurd w (by omega)))
end
end
section
/-! Y: measure, distance -/
def yk_Bd (l K : Nat) : Nat := if l = 0 then 3 ^ K else 5000 * l + 486 * K - 4617
def yk_K (af : Nat → Int32) (a b : Nat) : Nat := sm_S (fun n => if af (196 * n + 14 * a + b) = -1 then 0 else 1) 5
theorem cp_3pos (K : Nat) : 1 ≤ 3 ^ K := Nat.pow_pos (by omega)
theorem cp_3mono {K K' : Nat} (h : K ≤ K') : 3 ^ K ≤ 3 ^ K' := Nat.pow_le_pow_right (by omega) h
theorem yk_Bd_m {l K K' : Nat} (h : K ≤ K') : yk_Bd l K ≤ yk_Bd l K' := by
  unfold yk_Bd
  by_cases z : l = 0
  · rw [if_pos z, if_pos z]; exact cp_3mono h
  · rw [if_neg z, if_neg z]; omega
theorem yk_Bd_5 {l K : Nat} (h : K ≤ 5) : (l = 0 ∧ yk_Bd l K ≤ 243) ∨ (0 < l ∧ yk_Bd l K + 2187 ≤ 5000 * l) := by
  unfold yk_Bd
  by_cases z : l = 0
  · rw [if_pos z]
    have := cp_3mono h
    have e : (3 : Nat) ^ 5 = 243 := by decide
    exact Or.inl ⟨z, by omega⟩
  · rw [if_neg z]; exact Or.inr ⟨by omega, by omega⟩
theorem yk_K_5 (af : Nat → Int32) (a b : Nat) : yk_K af a b ≤ 5 := by
  have : yk_K af a b ≤ sm_S (fun _ => 1) 5 := sm_le fun k _ => by
    show (if af (196 * k + 14 * a + b) = -1 then 0 else 1) ≤ 1
    by_cases z : af (196 * k + 14 * a + b) = -1
    · rw [if_pos z]; omega
    · rw [if_neg z]; omega
  rwa [sm_one] at this
/-- what is known is a cost, and not too great -/
def yk_Ms (g : gm_G) (L : Nat) (af : Nat → Int32) : Prop := ∀ n a b, yk_ok L n a b → af (196 * n + 14 * a + b) = -1 ∨ ∃ x, af (196 * n + 14 * a + b) = nI x ∧ gm_Ye g n a b x ∧ x ≤ yk_Bd (b - a) (yk_K af a b)
def yk_mf (af : Nat → Int32) : Nat := sm_S (fun c => if af c = -1 then 200000 else (af c).toNatClampNeg) 980
section
variable {g : gm_G} {L : Nat} {af af0 : Nat → Int32} {c i j p n k m a b r u v x : Nat}
theorem yk_Ms_6 (hL : L ≤ 10) (h : yk_ok L n a b) (hx : x ≤ yk_Bd (b - a) (yk_K af a b)) : x ≤ 60000 := by
  obtain ⟨h1, h2, h3⟩ := h
  rcases yk_Bd_5 (l := b - a) (yk_K_5 af a b) with ⟨q1, q2⟩ | ⟨q1, q2⟩ <;> omega
theorem yk_Ms_c1 (hL : L ≤ 10) (h : yk_Ms g L af) : yk_c1 L af := fun n a b hk => by
  rcases h n a b hk with z | ⟨x, z1, z2, z3⟩
  · exact Or.inl z
  · exact Or.inr ⟨x, yk_Ms_6 hL hk z3, z1⟩
theorem yk_Ms_kf (hL : L ≤ 10) (h : yk_Ms g L af) (hk : yk_ok L n a b) (hx : yk_kf af n a b x) : gm_Ye g n a b x ∧ x ≤ yk_Bd (b - a) (yk_K af a b) := by
  rcases h n a b hk with z | ⟨y, z1, z2, z3⟩
  · rw [hx.2] at z; exact absurd z (cp_nI_m1 (by have := hx.1; omega))
  · have e : y = x := yk_kf_un ⟨yk_Ms_6 hL hk z3, z1⟩ hx
    subst e; exact ⟨z2, z3⟩
theorem yk_part (hL : L ≤ 10) (h : yk_Ms g L af) (hc : c < 15) (hia : i ≤ a) (hab : a ≤ b) (hbj : b ≤ j) (hj : j ≤ L) (hx : gm_Cy g (yk_kf af) c a b x) :
    ((b - a = 0 ∧ x ≤ 243) ∨ (0 < b - a ∧ x + 2187 ≤ 5000 * (b - a))) ∧ ((a = i ∧ b = j) → x ≤ yk_Bd (j - i) (yk_K af i j)) := by
  have h3 := cp_3pos (yk_K af i j)
  rcases hx with ⟨h10, q⟩ | ⟨_, q1, q2⟩ | ⟨_, q⟩
  · have t := (yk_Ms_kf hL h ⟨by omega, hab, by omega⟩ q).2
    refine ⟨?_, fun ⟨e1, e2⟩ => by subst e1; subst e2; exact t⟩
    rcases yk_Bd_5 (l := b - a) (yk_K_5 af a b) with ⟨w1, w2⟩ | ⟨w1, w2⟩
    · exact Or.inl ⟨w1, by omega⟩
    · exact Or.inr ⟨w1, by omega⟩
  · exact ⟨Or.inl ⟨by omega, by omega⟩, fun _ => by omega⟩
  · have hb : x ≤ 1 ∧ b - a = 0 ∨ x ≤ b - a ∧ 0 < b - a := by
      rcases q with ⟨w1, w2⟩ | ⟨w1, _, w2⟩ | ⟨w1, _, w2⟩ <;> omega
    refine ⟨by omega, fun ⟨e1, e2⟩ => ?_⟩
    subst e1; subst e2
    unfold yk_Bd
    by_cases z : b - a = 0
    · rw [if_pos z]; omega
    · rw [if_neg z]; omega
theorem yk_bound (ok : gm_ok g) (hL : L ≤ 10) (h : yk_Ms g L af) (hp : p < gm_P g) (hj : j ≤ L) (hx : gm_Ye1 g (yk_kf af) p i j x) : x ≤ yk_Bd (j - i) (yk_K af i j + 1) := by
  have c0 : gm_s g (3 * p) < 15 := gm_ok_15 ok hp (show 0 < 3 by omega)
  have c1 := gm_ok_15 ok hp (show 1 < 3 by omega)
  have c2 := gm_ok_15 ok hp (show 2 < 3 by omega)
  have hpow : 3 ^ (yk_K af i j + 1) = 3 * 3 ^ yk_K af i j := by rw [Nat.pow_succ, Nat.mul_comm]
  have h3 := cp_3pos (yk_K af i j)
  rcases hx with ⟨_, q1, q2⟩ | ⟨_, u, v, y1, y2, y3, s1, s2, s3, k1, k2, k3, e⟩
  · unfold yk_Bd
    by_cases z : j - i = 0
    · rw [if_pos z]; omega
    · rw [if_neg z]; omega
  · obtain ⟨a1, w1⟩ := yk_part (i := i) (j := j) hL h c0 (Nat.le_refl _) s1 (by omega) hj k1
    obtain ⟨a2, w2⟩ := yk_part (i := i) (j := j) hL h c1 s1 s2 (by omega) hj k2
    obtain ⟨a3, w3⟩ := yk_part (i := i) (j := j) hL h c2 (by omega) s3 (Nat.le_refl _) hj k3
    unfold yk_Bd at w1 w2 w3 ⊢
    by_cases z : j - i = 0
    · rw [if_pos z] at w1 w2 w3 ⊢
      have b1 := w1 ⟨rfl, by omega⟩
      have b2 := w2 ⟨by omega, by omega⟩
      have b3 := w3 ⟨by omega, rfl⟩
      omega
    · rw [if_neg z] at w1 w2 w3 ⊢
      by_cases t1 : u = j
      · have b1 := w1 ⟨rfl, t1⟩; omega
      · by_cases t2 : u = i ∧ v = j
        · have b2 := w2 t2; omega
        · by_cases t3 : v = i
          · have b3 := w3 ⟨t3, rfl⟩; omega
          · omega
theorem yk_K_u (hn : n < 5) (hx : x < 2 ^ 31) : (af (196 * n + 14 * i + j) = -1 → yk_K (upd af (196 * n + 14 * i + j) (nI x)) i j = yk_K af i j + 1) ∧ (af (196 * n + 14 * i + j) ≠ -1 → yk_K (upd af (196 * n + 14 * i + j) (nI x)) i j = yk_K af i j) := by
  refine ⟨fun h => sm_add1 (k0 := n) (fun k hk => ?_) ?_ hn, fun h => sm_eq fun k _ => ?_⟩
  · rw [pk_un (by omega)]
  · rw [pk_us, if_neg (cp_nI_m1 hx), if_pos h]
  · by_cases e : k = n
    · subst e; rw [pk_us, if_neg (cp_nI_m1 hx), if_neg h]
    · rw [pk_un (by omega)]
theorem yk_K_o (hL : L ≤ 10) (hn : n < 5) (hij : i ≤ j) (hj : j ≤ L) (hab : a ≤ b) (hb : b ≤ L) (hne : ¬ (a = i ∧ b = j)) : yk_K (upd af (196 * n + 14 * i + j) (nI x)) a b = yk_K af a b :=
  sm_eq fun k hk => by rw [pk_un fun e => hne (by obtain ⟨_, e1, e2⟩ := yk_idx hL (n := k) ⟨hk, hab, hb⟩ ⟨hn, hij, hj⟩ e; exact ⟨e1, e2⟩)]
theorem yk_Ms_u (ok : gm_ok g) (hL : L ≤ 10) (h : yk_Ms g L af) (hp : p < gm_P g) (hij : i ≤ j) (hj : j ≤ L) (hx : gm_Ye1 g (yk_kf af) p i j x) (hlt : af (196 * gm_l g p + 14 * i + j) = -1 ∨ ∃ y, yk_kf af (gm_l g p) i j y ∧ x < y) : yk_Ms g L (upd af (196 * gm_l g p + 14 * i + j) (nI x)) ∧ yk_mf (upd af (196 * gm_l g p + 14 * i + j) (nI x)) < yk_mf af ∧ x ≤ 60000 := by
  have hl5 := gm_ok_l ok hp
  have hk0 : yk_ok L (gm_l g p) i j := ⟨hl5, hij, hj⟩
  have hB := yk_bound ok hL h hp hj hx
  have hYe : gm_Ye g (gm_l g p) i j x := by
    refine gm_Ye_mk hp ?_
    rcases hx with q | ⟨q0, u, v, y1, y2, y3, s1, s2, s3, k1, k2, k3, e⟩
    · exact Or.inl q
    · have c0 : gm_s g (3 * p) < 15 := gm_ok_15 ok hp (show 0 < 3 by omega)
      have c1 := gm_ok_15 ok hp (show 1 < 3 by omega)
      have c2 := gm_ok_15 ok hp (show 2 < 3 by omega)
      have K : ∀ {c a b y}, c < 15 → a ≤ b → b ≤ L → gm_Cy g (yk_kf af) c a b y → gm_Cy g (gm_Ye g) c a b y := by
        rintro c a b y hc hab hb (⟨h10, q⟩ | q | q)
        · exact Or.inl ⟨h10, (yk_Ms_kf hL h ⟨by omega, hab, hb⟩ q).1⟩
        · exact Or.inr (Or.inl q)
        · exact Or.inr (Or.inr q)
      exact Or.inr ⟨q0, u, v, y1, y2, y3, s1, s2, s3, K c0 s1 (by omega) k1, K c1 s2 (by omega) k2, K c2 s3 hj k3, e⟩
  have hKb : x ≤ yk_Bd (j - i) (yk_K (upd af (196 * gm_l g p + 14 * i + j) (nI x)) i j) ∧ x ≤ 60000 ∧ yk_K af i j ≤ yk_K (upd af (196 * gm_l g p + 14 * i + j) (nI x)) i j := by
    have x31 : x < 2 ^ 31 := by
      have h6 : yk_K af i j + 1 ≤ 6 := by have := yk_K_5 af i j; omega
      have := yk_Bd_m (l := j - i) h6
      have e : yk_Bd (j - i) 6 ≤ 1000000 := by
        unfold yk_Bd
        by_cases z : j - i = 0
        · rw [if_pos z]; decide
        · rw [if_neg z]; omega
      omega
    have ku := yk_K_u (af := af) (i := i) (j := j) hl5 x31
    rcases hlt with z | ⟨y, z1, z2⟩
    · have e := ku.1 z
      have hb : x ≤ yk_Bd (j - i) (yk_K (upd af (196 * gm_l g p + 14 * i + j) (nI x)) i j) := by rw [e]; exact hB
      exact ⟨hb, yk_Ms_6 hL hk0 hb, by omega⟩
    · have e := ku.2 (by rw [z1.2]; exact cp_nI_m1 (by have := z1.1; omega))
      have t := (yk_Ms_kf hL h hk0 z1).2
      exact ⟨by rw [e]; omega, by have := z1.1; omega, by omega⟩
  refine ⟨fun m a b hk => ?_, ?_, hKb.2.1⟩
  · by_cases w : 196 * m + 14 * a + b = 196 * gm_l g p + 14 * i + j
    · obtain ⟨rfl, rfl, rfl⟩ := yk_idx hL hk hk0 w
      rw [pk_us]
      exact Or.inr ⟨x, rfl, hYe, hKb.1⟩
    · rw [pk_un w]
      rcases h m a b hk with z | ⟨y, z1, z2, z3⟩
      · exact Or.inl z
      · refine Or.inr ⟨y, z1, z2, ?_⟩
        by_cases w2 : a = i ∧ b = j
        · obtain ⟨rfl, rfl⟩ := w2
          have := yk_Bd_m (l := b - a) hKb.2.2
          omega
        · rw [yk_K_o hL hl5 hij hj hk.2.1 hk.2.2 w2]; exact z3
  · have hidx : 196 * gm_l g p + 14 * i + j < 980 := by omega
    refine sm_lt (a := 196 * gm_l g p + 14 * i + j) ?_ (fun k _ => ?_) hidx
    · show (if upd af (196 * gm_l g p + 14 * i + j) (nI x) (196 * gm_l g p + 14 * i + j) = -1 then 200000 else (upd af (196 * gm_l g p + 14 * i + j) (nI x) (196 * gm_l g p + 14 * i + j)).toNatClampNeg) < (if af (196 * gm_l g p + 14 * i + j) = -1 then 200000 else (af (196 * gm_l g p + 14 * i + j)).toNatClampNeg)
      have := hKb.2.1
      rw [pk_us, if_neg (cp_nI_m1 (by omega)), nI_clamp (by omega)]
      rcases hlt with z | ⟨y, z1, z2⟩
      · rw [if_pos z]; omega
      · have := z1.1
        rw [z1.2, if_neg (cp_nI_m1 (by omega)), nI_clamp (by omega)]; exact z2
    · show (if upd af (196 * gm_l g p + 14 * i + j) (nI x) k = -1 then 200000 else (upd af (196 * gm_l g p + 14 * i + j) (nI x) k).toNatClampNeg) ≤ (if af k = -1 then 200000 else (af k).toNatClampNeg)
      by_cases e : k = 196 * gm_l g p + 14 * i + j
      · subst e
        have := hKb.2.1
        rw [pk_us, if_neg (cp_nI_m1 (by omega)), nI_clamp (by omega)]
        rcases hlt with z | ⟨y, z1, z2⟩
        · rw [if_pos z]; omega
        · have := z1.1
          rw [z1.2, if_neg (cp_nI_m1 (by omega)), nI_clamp (by omega)]; omega
      · rw [pk_un e]; exact Nat.le_refl _
def yk_cl (g : gm_G) (af : Nat → Int32) (p a b : Nat) : Prop := ∀ x, gm_Ye1 g (yk_kf af) p a b x → ∃ y, y ≤ x ∧ yk_kf af (gm_l g p) a b y
/-- a pass of measure -/
def yk_Mp (g : gm_G) (L : Nat) (af0 : Nat → Int32) (i0 j0 p0 : Nat) (fm : Int32) (af : Nat → Int32) : Prop :=
  yk_Ms g L af ∧ (fm = 0 → af = af0 ∧ ∀ p a b, p < gm_P g → a ≤ b → b ≤ L → yk_Dn i0 j0 p0 p a b → yk_cl g af0 p a b) ∧ (fm ≠ 0 → yk_mf af < yk_mf af0) ∧ yk_mf af ≤ yk_mf af0
theorem yk_Mp_m {i0 j0 n0 i1 j1 n1 : Nat} {fm : Int32} (h : yk_Mp g L af0 i0 j0 n0 fm af) (hd : ∀ p a b, p < gm_P g → a ≤ b → b ≤ L → yk_Dn i1 j1 n1 p a b → yk_Dn i0 j0 n0 p a b) : yk_Mp g L af0 i1 j1 n1 fm af :=
  ⟨h.1, fun z => ⟨(h.2.1 z).1, fun p a b h1 h2 h3 hD => (h.2.1 z).2 p a b h1 h2 h3 (hd p a b h1 h2 h3 hD)⟩, h.2.2⟩
theorem yk_Fa_of (ok : gm_ok g) (hL : L ≤ 10) (h : yk_Ms g L af) (hc : ∀ p a b, p < gm_P g → a ≤ b → b ≤ L → yk_cl g af p a b) : yk_Fa g L af := by
  have key : ∀ {n a b y}, gm_Ye g n a b y → b ≤ L → ∃ x, x ≤ y ∧ yk_kf af n a b x := by
    intro n a b y hy
    refine gm_Ye_ind (Q := fun n a b y => b ≤ L → ∃ x, x ≤ y ∧ yk_kf af n a b x) (fun p a b y hp hd hb => ?_) hy
    have c0 : gm_s g (3 * p) < 15 := gm_ok_15 ok hp (show 0 < 3 by omega)
    have c1 := gm_ok_15 ok hp (show 1 < 3 by omega)
    have c2 := gm_ok_15 ok hp (show 2 < 3 by omega)
    rcases hd with ⟨q0, q1, q2⟩ | ⟨q0, u, v, y1, y2, y3, s1, s2, s3, k1, k2, k3, e⟩
    · exact hc p a b hp q1 hb y (Or.inl ⟨q0, q1, q2⟩)
    · have K : ∀ {c s t z}, t ≤ L → gm_Cy g (fun n a b y => gm_Ye g n a b y ∧ (b ≤ L → ∃ x, x ≤ y ∧ yk_kf af n a b x)) c s t z → ∃ z', z' ≤ z ∧ gm_Cy g (yk_kf af) c s t z' := by
        rintro c s t z ht (⟨h10, q⟩ | q | q)
        · obtain ⟨z', l, q'⟩ := q.2 ht
          exact ⟨z', l, Or.inl ⟨h10, q'⟩⟩
        · exact ⟨z, Nat.le_refl _, Or.inr (Or.inl q)⟩
        · exact ⟨z, Nat.le_refl _, Or.inr (Or.inr q)⟩
      obtain ⟨z1, l1, m1⟩ := K (by omega) k1
      obtain ⟨z2, l2, m2⟩ := K (by omega) k2
      obtain ⟨z3, l3, m3⟩ := K hb k3
      obtain ⟨x, hx, hk⟩ := hc p a b hp (by omega) hb _ (Or.inr ⟨q0, u, v, z1, z2, z3, s1, s2, s3, m1, m2, m3, rfl⟩)
      exact ⟨x, by omega, hk⟩
  intro n a b hk
  rcases h n a b hk with z | ⟨x, z1, z2, z3⟩
  · refine Or.inr ⟨z, fun y hy => ?_⟩
    obtain ⟨x, _, hx⟩ := key hy hk.2.2
    rw [hx.2] at z; exact cp_nI_m1 (by have := hx.1; omega) z
  · have h6 := yk_Ms_6 hL hk z3
    refine Or.inl ⟨x, by omega, z1, z2, fun y hy => ?_⟩
    obtain ⟨x', hx', hk'⟩ := key hy hk.2.2
    have e : x = x' := yk_kf_un ⟨h6, z1⟩ hk'
    omega
end
section
variable {g : gm_G} {L : Nat} {f_goal f_extra f_measured f_known f_more : Int32} {a_left a_size a_right a_text a_ops a_constants a_heights a_chosen a_firstEnd a_secondEnd a_far a_productive a_useful a_covers : Nat → Int32} {a_many a_values a_nodes : Nat → Int64} {f_sum : Int64} {c i j p n k m a b r u v : Nat} {af0 : Nat → Int32}
theorem ys_mSpan_2 {post : SY → Prop} (G : cp_G g L a_right a_size a_text) (hl : yk_L g a_left) (hij : i ≤ j) (hj : j ≤ L)
    (h : ∀ fm af, yk_Mp g L af0 i (j + 1) 0 fm af → post (nI (gm_P g), nI L, f_goal, f_extra, f_measured, f_known, fm, f_sum, a_left, a_size, a_right, a_text, a_ops, a_constants, a_heights, a_many, a_chosen, a_firstEnd, a_secondEnd, a_values, a_nodes, af, a_productive, a_useful, a_covers)) :
    ∀ d p fm af, p + d = gm_P g → yk_Mp g L af0 i j p fm af → wY_measureSpan_2 post (nI i) (nI j) (nI (gm_P g)) (nI L) f_goal f_extra f_measured f_known f_sum (d + 1) (nI p) fm a_left a_size a_right a_text a_ops a_constants a_heights a_many a_chosen a_firstEnd a_secondEnd a_values a_nodes af a_productive a_useful a_covers := by
  have h12 := cp_G_P G
  have hL := cp_G_L G
  have ok := cp_G_ok G
  intro d
  induction d with
  | zero =>
    intro p fm af hp hI
    rw [wY_measureSpan_2]
    exact pk_le (gm_P g) p (fun _ => h fm af (yk_Mp_m hI fun q a b h1 h2 h3 hD => by unfold yk_Dn at hD ⊢; omega)) (fun z => absurd z (by omega))
  | succ d ih =>
    intro p fm af hp hI
    have hp' : p < gm_P g := by omega
    have hl5 := gm_ok_l ok hp'
    have hc1 := yk_Ms_c1 hL hI.1
    have stay : (fm = 0 → yk_cl g af p i j) → yk_Mp g L af0 i j (p + 1) fm af := fun hs => ⟨hI.1, fun z => ⟨(hI.2.1 z).1, fun q a b h1 h2 h3 hD => by
      by_cases e : q = p ∧ a = i ∧ b = j
      · obtain ⟨rfl, rfl, rfl⟩ := e
        rw [← (hI.2.1 z).1]; exact hs z
      · exact (hI.2.1 z).2 q a b h1 h2 h3 (by unfold yk_Dn at hD ⊢; omega)⟩, hI.2.2⟩
    have w60 : ∀ x, gm_Ye1 g (yk_kf af) p i j x → (af (196 * gm_l g p + 14 * i + j) = -1 ∨ ∃ y, yk_kf af (gm_l g p) i j y ∧ x < y) → wY_measureSpan_60 post (wY_measureSpan_2 post (nI i) (nI j) (nI (gm_P g)) (nI L) f_goal f_extra f_measured f_known f_sum (d + 1)) (nI i) (nI j) (nI p) (nI x) (nI (196 * gm_l g p + 14 * i + j)) (nI (gm_P g)) (nI L) f_goal f_extra f_measured f_known fm f_sum a_left a_size a_right a_text a_ops a_constants a_heights a_many a_chosen a_firstEnd a_secondEnd a_values a_nodes af a_productive a_useful a_covers := by
      intro x hx hlt
      obtain ⟨u1, u2, u3⟩ := yk_Ms_u ok hL hI.1 hp' hij hj hx hlt
      unfold wY_measureSpan_60
      rw [nI_clamp (show 196 * gm_l g p + 14 * i + j < 2 ^ 31 by omega)]
      have := hI.2.2.2
      exact ⟨vp_in_nI (by omega) (by omega), nm_e (nm_r (nI_1 _) (ih (p + 1) 1 _ (by omega) ⟨u1, fun z => absurd z (by decide), fun _ => by omega, by omega⟩))⟩
    rw [wY_measureSpan_2]
    refine pk_le (gm_P g) p (fun z => absurd z (by omega)) (fun _ => ys_least G hc1 hp' hij hj (fun x hxb hx hmin => ?_) (fun hno => ?_))
    · rw [nI_clamp (show p < 2 ^ 31 by omega), hl p hp']
      refine ⟨vp_in_nI (by omega) (by omega), ys_cellN (br_f (nI_pos (by omega)) ?_)⟩
      rw [nI_clamp (show 196 * gm_l g p + 14 * i + j < 2 ^ 31 by omega)]
      refine ⟨vp_in_nI (by omega) (by omega), ?_⟩
      rcases hc1 (gm_l g p) i j ⟨hl5, hij, hj⟩ with z | ⟨y, z⟩
      · rw [z]; exact br_t (by decide) (w60 x hx (Or.inl z))
      · have := z.1
        rw [z.2]
        refine br_f (nI_pos (by omega)) ⟨vp_in_nI (by omega) (by omega), pk_le y x (fun q => nm_r (nI_1 _) (ih (p + 1) fm af (by omega) (stay fun _ x' hx' => ⟨y, ?_, z⟩))) (fun q => w60 x hx (Or.inr ⟨y, z, q⟩))⟩
        have := hmin x' hx'
        omega
    · rw [nI_clamp (show p < 2 ^ 31 by omega), hl p hp']
      exact ⟨vp_in_nI (by omega) (by omega), ys_cellN (br_t (by decide) (nm_r (nI_1 _) (ih (p + 1) fm af (by omega) (stay fun _ x' hx' => absurd hx' (hno x')))))⟩
theorem ys_meas_64 {post : SY → Prop} {J40 : Int32 → Int32 → Int32 → Int32 → Int32 → Int32 → Int32 → Int64 → (Nat → Int32) → (Nat → Int32) → (Nat → Int32) → (Nat → Int32) → (Nat → Int32) → (Nat → Int32) → (Nat → Int32) → (Nat → Int64) → (Nat → Int32) → (Nat → Int32) → (Nat → Int32) → (Nat → Int64) → (Nat → Int64) → (Nat → Int32) → (Nat → Int32) → (Nat → Int32) → (Nat → Int32) → Prop} {J54 : Int32 → Int32 → Int32 → Int32 → Int32 → Int32 → Int32 → Int32 → Int64 → (Nat → Int32) → (Nat → Int32) → (Nat → Int32) → (Nat → Int32) → (Nat → Int32) → (Nat → Int32) → (Nat → Int32) → (Nat → Int64) → (Nat → Int32) → (Nat → Int32) → (Nat → Int32) → (Nat → Int64) → (Nat → Int64) → (Nat → Int32) → (Nat → Int32) → (Nat → Int32) → (Nat → Int32) → Prop} (G : cp_G g L a_right a_size a_text) (hl : yk_L g a_left) (hiL : i ≤ L)
    (hJ : ∀ fm af, yk_Mp g L af0 (i + 1) (i + 1) 0 fm af → J54 (nI (i + 1)) (nI (gm_P g)) (nI L) f_goal f_extra f_measured f_known fm f_sum a_left a_size a_right a_text a_ops a_constants a_heights a_many a_chosen a_firstEnd a_secondEnd a_values a_nodes af a_productive a_useful a_covers) :
    ∀ d j fm af, j + d = L + 1 → i ≤ j → yk_Mp g L af0 i j 0 fm af → wY_measure_64 post J40 J54 (nI i) (d + 1) (nI j) (nI (gm_P g)) (nI L) f_goal f_extra f_measured f_known fm f_sum a_left a_size a_right a_text a_ops a_constants a_heights a_many a_chosen a_firstEnd a_secondEnd a_values a_nodes af a_productive a_useful a_covers := by
  have hL := cp_G_L G
  intro d
  induction d with
  | zero =>
    intro j fm af hj hij hI
    rw [wY_measure_64]
    exact pk_lt L j (fun _ => nm_r (nI_1 _) (hJ fm af (yk_Mp_m hI fun q a b h1 h2 h3 hD => by unfold yk_Dn at hD ⊢; omega))) (fun z => absurd z (by omega))
  | succ d ih =>
    intro j fm af hj hij hI
    rw [wY_measure_64]
    refine pk_lt L j (fun z => absurd z (by omega)) (fun _ => ?_)
    unfold wpY_measureSpan
    exact ⟨gm_P g + 1, ys_mSpan_2 G hl hij (by omega) (fun fm' af' hI' => nm_r (nI_1 _) (ih (j + 1) fm' af' (by omega) (by omega) hI')) (gm_P g) 0 fm af (by omega) hI⟩
theorem ys_meas_54 {post : SY → Prop} {J40 : Int32 → Int32 → Int32 → Int32 → Int32 → Int32 → Int32 → Int64 → (Nat → Int32) → (Nat → Int32) → (Nat → Int32) → (Nat → Int32) → (Nat → Int32) → (Nat → Int32) → (Nat → Int32) → (Nat → Int64) → (Nat → Int32) → (Nat → Int32) → (Nat → Int32) → (Nat → Int64) → (Nat → Int64) → (Nat → Int32) → (Nat → Int32) → (Nat → Int32) → (Nat → Int32) → Prop} (G : cp_G g L a_right a_size a_text) (hl : yk_L g a_left)
    (hJ : ∀ fm af, yk_Mp g L af0 (L + 1) (L + 1) 0 fm af → J40 (nI (gm_P g)) (nI L) f_goal f_extra f_measured f_known fm f_sum a_left a_size a_right a_text a_ops a_constants a_heights a_many a_chosen a_firstEnd a_secondEnd a_values a_nodes af a_productive a_useful a_covers) :
    ∀ d i fm af, i + d = L + 1 → yk_Mp g L af0 i i 0 fm af → wY_measure_54 post J40 (d + 1) (nI i) (nI (gm_P g)) (nI L) f_goal f_extra f_measured f_known fm f_sum a_left a_size a_right a_text a_ops a_constants a_heights a_many a_chosen a_firstEnd a_secondEnd a_values a_nodes af a_productive a_useful a_covers := by
  have hL := cp_G_L G
  intro d
  induction d with
  | zero =>
    intro i fm af hi hI
    rw [wY_measure_54]
    have e : i = L + 1 := by omega
    subst e
    exact pk_lt L (L + 1) (fun _ => hJ fm af hI) (fun z => absurd z (by omega))
  | succ d ih =>
    intro i fm af hi hI
    rw [wY_measure_54]
    exact pk_lt L i (fun z => absurd z (by omega)) (fun _ => ⟨L + 1 - i + 1, ys_meas_64 G hl (by omega) (fun fm' af' hI' => ih (i + 1) fm' af' (by omega) hI') (L + 1 - i) i fm af (by omega) (Nat.le_refl _) hI⟩)
theorem ys_meas_40 {post : SY → Prop} (G : cp_G g L a_right a_size a_text) (hl : yk_L g a_left)
    (h : ∀ fm af, yk_Fa g L af → post (nI (gm_P g), nI L, f_goal, f_extra, f_measured, f_known, fm, f_sum, a_left, a_size, a_right, a_text, a_ops, a_constants, a_heights, a_many, a_chosen, a_firstEnd, a_secondEnd, a_values, a_nodes, af, a_productive, a_useful, a_covers)) :
    ∀ N fm af, yk_mf af < N → yk_Ms g L af → (fm = 0 → yk_Fa g L af) → wY_measure_40 post (N + 1) (nI (gm_P g)) (nI L) f_goal f_extra f_measured f_known fm f_sum a_left a_size a_right a_text a_ops a_constants a_heights a_many a_chosen a_firstEnd a_secondEnd a_values a_nodes af a_productive a_useful a_covers := by
  have ok := cp_G_ok G
  have hL := cp_G_L G
  intro N
  induction N with
  | zero => intro fm af h; omega
  | succ N ih =>
    intro fm af hN hM hf
    rw [wY_measure_40]
    refine br_c (fun e => h fm af (hf e)) (fun e => ⟨L + 1 + 1, ys_meas_54 (af0 := af) G hl (fun fm' af' hI => ?_) (L + 1) 0 0 af (by omega) ⟨hM, fun _ => ⟨rfl, fun q a b h1 h2 h3 hD => absurd hD (by unfold yk_Dn; omega)⟩, fun z => absurd rfl z, Nat.le_refl _⟩⟩)
    have fin : fm' = 0 → yk_Fa g L af' := fun z => by
      obtain ⟨e1, e2⟩ := hI.2.1 z
      refine yk_Fa_of ok hL hI.1 fun q a b h1 h2 h3 => ?_
      rw [e1]
      exact e2 q a b h1 h2 h3 (by unfold yk_Dn; omega)
    by_cases z : fm' = 0
    · rw [wY_measure_40]
      exact br_t z (h fm' af' (fin z))
    · exact ih fm' af' (by have := hI.2.2.1 z; omega) hI.1 fin
theorem ys_measure {post : SY → Prop} (G : cp_G g L a_right a_size a_text) (hl : yk_L g a_left)
    (hm : f_measured ≠ 0 → post (nI (gm_P g), nI L, f_goal, f_extra, f_measured, f_known, f_more, f_sum, a_left, a_size, a_right, a_text, a_ops, a_constants, a_heights, a_many, a_chosen, a_firstEnd, a_secondEnd, a_values, a_nodes, a_far, a_productive, a_useful, a_covers)) (h : ∀ fm af, yk_Fa g L af → post (nI (gm_P g), nI L, f_goal, f_extra, 1, f_known, fm, f_sum, a_left, a_size, a_right, a_text, a_ops, a_constants, a_heights, a_many, a_chosen, a_firstEnd, a_secondEnd, a_values, a_nodes, af, a_productive, a_useful, a_covers)) : wpY_measure post (nI (gm_P g), nI L, f_goal, f_extra, f_measured, f_known, f_more, f_sum, a_left, a_size, a_right, a_text, a_ops, a_constants, a_heights, a_many, a_chosen, a_firstEnd, a_secondEnd, a_values, a_nodes, a_far, a_productive, a_useful, a_covers) := by
  have hL := cp_G_L G
  have lp : ∀ d c af, c + d = 980 → (∀ y, y < c → af y = -1) → wY_measure_15 post (nI (gm_P g)) (nI L) f_goal f_extra 1 f_known f_more f_sum (d + 1) (nI c) a_left a_size a_right a_text a_ops a_constants a_heights a_many a_chosen a_firstEnd a_secondEnd a_values a_nodes af a_productive a_useful a_covers := by
    intro d
    induction d with
    | zero =>
      intro c af hc hz
      rw [wY_measure_15]
      have e : c = 980 := by omega
      subst e
      refine pk_le 980 980 (fun _ => ⟨yk_mf af + 1 + 1, ys_meas_40 G hl h (yk_mf af + 1) 1 af (by omega) (fun n a b hc => Or.inl ?_) (fun z => absurd z (by decide))⟩) (fun z => absurd z (by omega))
      obtain ⟨q1, q2, q3⟩ := hc
      exact hz _ (by omega)
    | succ d ih =>
      intro c af hc hz
      rw [wY_measure_15]
      refine pk_le 980 c (fun z => absurd z (by omega)) (fun _ => ?_)
      rw [nI_clamp (show c < 2 ^ 31 by omega)]
      refine ⟨vp_in_nI (by omega) (by omega), nm_e (nm_r (nI_1 _) (ih (c + 1) _ (by omega) fun y hy => ?_))⟩
      by_cases e : y = c
      · subst e; exact pk_us
      · rw [pk_un e]; exact hz y (by omega)
  unfold wpY_measure
  exact br_c (fun _ => ⟨981, lp 980 0 a_far rfl fun y hy => absurd hy (by omega)⟩) (fun z => hm z)
end
section
variable {g : gm_G} {L : Nat} {op : Nat → Nat} {cn : Nat → Int32} {w : SY} {v1 v2 v3 : Int32}
theorem yv_distance {post : Int32 → SY → Prop} (I : yk_I g op cn L w) (h0 : (∀ n i j, ¬ cp_Span L v1 v2 v3 n i j) → post (-1) w) (h1 : ∀ n i j w', cp_Span L v1 v2 v3 n i j → yk_I g op cn L w' → (∀ x, ¬ gm_Ye g n i j x) → post (-1) w') (h2 : ∀ n i j w' x, cp_Span L v1 v2 v3 n i j → yk_I g op cn L w' → gm_FY g n i j x → post (nI x) w') : wpY_distance post w v1 v2 v3 := by
  obtain ⟨f_productions, f_length, f_goal, f_extra, f_measured, f_known, f_more, f_sum, a_left, a_size, a_right, a_text, a_ops, a_constants, a_heights, a_many, a_chosen, a_firstEnd, a_secondEnd, a_values, a_nodes, a_far, a_productive, a_useful, a_covers⟩ := w
  have I0 := I
  obtain ⟨rfl, rfl, G, -⟩ := I0
  have hL := cp_G_L G
  unfold wpY_distance
  refine ys_span hL (fun n i j hs => br_f (by decide) (yv_know I fun w' I' k' => ?_)) (fun hs => br_t rfl (h0 hs))
  have hs' := hs
  obtain ⟨hn, hij, hjL, e1, e2, e3⟩ := hs'
  rw [e1, e2, e3]
  obtain ⟨f_productions, f_length, f_goal, f_extra, f_measured, f_known, f_more, f_sum, a_left, a_size, a_right, a_text, a_ops, a_constants, a_heights, a_many, a_chosen, a_firstEnd, a_secondEnd, a_values, a_nodes, a_far, a_productive, a_useful, a_covers⟩ := w'
  have k1 : f_known = 1 := k'
  subst k1
  obtain ⟨rfl, rfl, G', hl, O, hk, hf⟩ := I'
  have fin : ∀ fme fm af, yk_Fa g L af → wpY_cell (fun r_80 => (vp_in r_80 980 ∧ (post (af r_80.toNatClampNeg) (nI (gm_P g), nI L, f_goal, f_extra, fme, 1, fm, f_sum, a_left, a_size, a_right, a_text, a_ops, a_constants, a_heights, a_many, a_chosen, a_firstEnd, a_secondEnd, a_values, a_nodes, af, a_productive, a_useful, a_covers)))) (nI (gm_P g), nI L, f_goal, f_extra, fme, 1, fm, f_sum, a_left, a_size, a_right, a_text, a_ops, a_constants, a_heights, a_many, a_chosen, a_firstEnd, a_secondEnd, a_values, a_nodes, af, a_productive, a_useful, a_covers) (nI (n + 10)) (nI i) (nI j) := by
    intro fme fm af hF
    refine ys_cellN ?_
    rw [nI_clamp (show 196 * n + 14 * i + j < 2 ^ 31 by omega)]
    refine ⟨vp_in_nI (by omega) (by omega), ?_⟩
    have I2 : yk_I g op cn L (nI (gm_P g), nI L, f_goal, f_extra, fme, 1, fm, f_sum, a_left, a_size, a_right, a_text, a_ops, a_constants, a_heights, a_many, a_chosen, a_firstEnd, a_secondEnd, a_values, a_nodes, af, a_productive, a_useful, a_covers) := ⟨rfl, rfl, G', hl, O, fun _ => hk (by decide), fun _ _ => hF⟩
    rcases hF n i j ⟨hn, hij, hjL⟩ with ⟨x, q1, q2, q3⟩ | ⟨q1, q2⟩
    · rw [q2]; exact h2 n i j _ x hs I2 q3
    · rw [q1]; exact h1 n i j _ hs I2 q2
  exact ys_measure G' hl (fun z => fin _ _ _ (hf (by decide) z)) (fun fm af hF => fin 1 fm af hF)
end
end
section
/-! Y: yields, allYield, findProductive -/
theorem yk_n1 : vp_nar .boolean 1 = 1 := rfl
theorem yk_n0 : vp_nar .boolean 0 = 0 := rfl
/-- the symbols from number q on have a mark -/
def yk_aQ (g : gm_G) (ap : Nat → Int32) (p q : Nat) : Prop := ∀ k, q ≤ k → k < 3 → 10 ≤ gm_s g (3 * p + k) → ap (gm_s g (3 * p + k) - 10) ≠ 0
/-- a table of marks, as a set -/
def yk_Bo (N : Nat) (ap : Nat → Int32) (A : Nat → Prop) : Prop := ∀ n, n < N → (ap n = 0 ∧ ¬ A n) ∨ (ap n = 1 ∧ A n)
theorem yk_Bo_i {N n : Nat} {ap : Nat → Int32} {A : Nat → Prop} (h : yk_Bo N ap A) (hn : n < N) : ap n ≠ 0 ↔ A n := by
  rcases h n hn with ⟨e, w⟩ | ⟨e, w⟩
  · exact ⟨fun z => absurd e z, fun z => absurd z w⟩
  · exact ⟨fun _ => w, fun _ => by rw [e]; decide⟩
theorem yk_Bo_n {N n : Nat} {ap : Nat → Int32} {A : Nat → Prop} (h : yk_Bo N ap A) (hn : n < N) : narrow .boolean (.int (ap n)) = .int (ap n) := by
  rcases h n hn with ⟨e, w⟩ | ⟨e, w⟩
  · rw [e]; rfl
  · rw [e]; rfl
section
variable {g : gm_G} {L : Nat} {f_goal f_extra f_measured f_known f_more : Int32} {a_left a_size a_right a_text a_ops a_constants a_heights a_chosen a_firstEnd a_secondEnd a_far a_productive a_useful a_covers : Nat → Int32} {a_many a_values a_nodes : Nat → Int64} {f_sum : Int64} {c i j p n k m a b r u v q : Nat}
theorem ys_yields {post : Int32 → Prop} (hc : c < 15) (h1 : (10 ≤ c → a_productive (c - 10) ≠ 0) → post 1) (h0 : ¬ (10 ≤ c → a_productive (c - 10) ≠ 0) → post 0) : wpY_yields post (nI (gm_P g), nI L, f_goal, f_extra, f_measured, f_known, f_more, f_sum, a_left, a_size, a_right, a_text, a_ops, a_constants, a_heights, a_many, a_chosen, a_firstEnd, a_secondEnd, a_values, a_nodes, a_far, a_productive, a_useful, a_covers) (cp_Sy c) := by
  unfold wpY_yields
  refine br_i (cp_Sy_lt10 hc) (fun z => h1 fun w => absurd w (by omega)) (fun z => ?_)
  rw [ix_S (by omega), nI_clamp (show c - 10 < 2 ^ 31 by omega)]
  exact ⟨vp_in_nI (by omega) (by omega), br_c (fun y => h0 fun w => w (by omega) y) (fun y => h1 fun _ => y)⟩
theorem ys_allYield {post : Int32 → Prop} (G : cp_G g L a_right a_size a_text) (hp : p < gm_P g) (hq : q ≤ 3) (h1 : yk_aQ g a_productive p q → post 1) (h0 : ¬ yk_aQ g a_productive p q → post 0) : wpY_allYield post (nI (gm_P g), nI L, f_goal, f_extra, f_measured, f_known, f_more, f_sum, a_left, a_size, a_right, a_text, a_ops, a_constants, a_heights, a_many, a_chosen, a_firstEnd, a_secondEnd, a_values, a_nodes, a_far, a_productive, a_useful, a_covers) (nI p) (nI q) := by
  have h12 := cp_G_P G
  have ok := cp_G_ok G
  have hs3 := gm_sz_le g p
  have lp : ∀ d k, k + d = 3 → q ≤ k → (∀ a, q ≤ a → a < k → 10 ≤ gm_s g (3 * p + a) → a_productive (gm_s g (3 * p + a) - 10) ≠ 0) → wY_allYield_2 post (nI p) (nI (gm_P g)) (nI L) f_goal f_extra f_measured f_known f_more f_sum a_left a_size a_right a_text a_ops a_constants a_heights a_many a_chosen a_firstEnd a_secondEnd a_values a_nodes a_far a_productive a_useful a_covers (d + 1) (nI k) := by
    intro d
    induction d with
    | zero =>
      intro k hk hqk hy
      rw [wY_allYield_2]
      dsimp only
      rw [nI_clamp (show p < 2 ^ 31 by omega), cp_G_sz G hp]
      exact ⟨vp_in_nI (by omega) (by omega), pk_le (gm_sz g p) k (fun _ => h1 fun a a1 a2 => hy a a1 (by omega)) (fun z => absurd z (by omega))⟩
    | succ d ih =>
      intro k hk hqk hy
      have hz := gm_sz_lt ok hp (show k < 3 by omega)
      have c15 := gm_ok_15 ok hp (show k < 3 by omega)
      rw [wY_allYield_2]
      dsimp only
      rw [nI_clamp (show p < 2 ^ 31 by omega), cp_G_sz G hp, ix_3k, nI_clamp (show 3 * p + k < 2 ^ 31 by omega), cp_G_rt G hp (show k < 3 by omega)]
      refine ⟨vp_in_nI (by omega) (by omega), pk_le (gm_sz g p) k (fun w => h1 fun a a1 a2 a3 => ?_) (fun w => ⟨vp_in_nI (by omega) (by omega), ys_yields c15 (fun y => br_f (by decide) (nm_r (nI_1 _) (ih (k + 1) (by omega) (by omega) fun a a1 a2 a3 => ?_))) (fun y => br_t rfl (h0 fun t => y fun h10 => t k hqk (by omega) h10))⟩)⟩
      · have hz' := gm_sz_lt ok hp a2
        by_cases e : a < k
        · exact hy a a1 e a3
        · have := hz'.mpr (by omega); omega
      · by_cases e : a = k
        · subst e; exact y a3
        · exact hy a a1 (by omega) a3
  unfold wpY_allYield
  exact ⟨3 - q + 1, lp (3 - q) q (by omega) (Nat.le_refl _) fun a a1 a2 => absurd a1 (by omega)⟩
/-- round r of findProductive, before production p -/
def yk_fp (g : gm_G) (r p : Nat) (ap : Nat → Int32) : Prop :=
  (∀ n, n < 5 → (ap n = 0 ∨ ap n = 1)) ∧ (∀ n, n < 5 → ap n ≠ 0 → gm_Pd g n) ∧ (∀ n, gm_Pr g r n → ap n ≠ 0) ∧ (∀ q, q < p → (∀ k, k < 3 → 10 ≤ gm_s g (3 * q + k) → gm_Pr g r (gm_s g (3 * q + k) - 10)) → ap (gm_l g q) ≠ 0)
theorem ys_fp_29 {post : SY → Prop} {J : Int32 → (Nat → Int32) → (Nat → Int32) → (Nat → Int32) → (Nat → Int32) → (Nat → Int32) → (Nat → Int32) → (Nat → Int32) → (Nat → Int64) → (Nat → Int32) → (Nat → Int32) → (Nat → Int32) → (Nat → Int64) → (Nat → Int64) → (Nat → Int32) → (Nat → Int32) → (Nat → Int32) → (Nat → Int32) → Prop} {x1 : Int32} (G : cp_G g L a_right a_size a_text) (hl : yk_L g a_left)
    (hJ : ∀ ap, yk_fp g r (gm_P g) ap → J (x1 + 1) a_left a_size a_right a_text a_ops a_constants a_heights a_many a_chosen a_firstEnd a_secondEnd a_values a_nodes a_far ap a_useful a_covers) :
    ∀ d p ap, p + d = gm_P g → yk_fp g r p ap → wY_findProductive_29 post J x1 (nI (gm_P g)) (nI L) f_goal f_extra f_measured f_known f_more f_sum (d + 1) (nI p) a_left a_size a_right a_text a_ops a_constants a_heights a_many a_chosen a_firstEnd a_secondEnd a_values a_nodes a_far ap a_useful a_covers := by
  have h12 := cp_G_P G
  have ok := cp_G_ok G
  intro d
  induction d with
  | zero =>
    intro p ap hp hI
    rw [wY_findProductive_29]
    have e : p = gm_P g := by omega
    subst e
    exact pk_le (gm_P g) (gm_P g) (fun _ => nm_e (hJ ap hI)) (fun z => absurd z (by omega))
  | succ d ih =>
    intro p ap hp hI
    have hp' : p < gm_P g := by omega
    have hl5 := gm_ok_l ok hp'
    obtain ⟨i1, i2, i3, i4⟩ := hI
    rw [wY_findProductive_29]
    refine pk_le (gm_P g) p (fun z => absurd z (by omega)) (fun _ => ys_allYield (q := 0) G hp' (by omega) (fun y => br_f (by decide) ?_) (fun y => br_t rfl (nm_r (nI_1 _) (ih (p + 1) ap (by omega) ⟨i1, i2, i3, fun s hs hk => ?_⟩))))
    · rw [nI_clamp (show p < 2 ^ 31 by omega), hl p hp', ix_N, nI_clamp (show gm_l g p < 2 ^ 31 by omega), yk_n1]
      refine ⟨vp_in_nI (by omega) (by omega), vp_in_nI (by omega) (by omega), nm_e (nm_r (nI_1 _) (ih (p + 1) _ (by omega) ⟨fun n hn => ?_, fun n hn w => ?_, fun n w => ?_, fun s hs hk => ?_⟩))⟩
      · by_cases e : n = gm_l g p
        · subst e; rw [pk_us]; exact Or.inr rfl
        · rw [pk_un e]; exact i1 n hn
      · by_cases e : n = gm_l g p
        · subst e
          exact gm_Pd_mk hp' fun k k1 k2 k3 => i2 _ (by have := gm_ok_15 ok hp' k2; omega) (y k k1 k2 k3)
        · rw [pk_un e] at w; exact i2 n hn w
      · by_cases e : n = gm_l g p
        · subst e; rw [pk_us]; decide
        · rw [pk_un e]; exact i3 n w
      · by_cases e : gm_l g s = gm_l g p
        · rw [e, pk_us]; decide
        · rw [pk_un e]
          refine i4 s ?_ hk
          rcases Nat.lt_or_ge s p with z | z
          · exact z
          · have : s = p := by omega
            subst this; exact absurd rfl e
    · by_cases e : s = p
      · subst e
        exact absurd (fun k k1 k2 k3 => i3 _ (hk k k2 k3)) y
      · exact i4 s (by omega) hk
theorem ys_findProductive {post : SY → Prop} (G : cp_G g L a_right a_size a_text) (hl : yk_L g a_left)
    (h : ∀ ap, yk_Bo 5 ap (gm_Pd g) → post (nI (gm_P g), nI L, f_goal, f_extra, f_measured, f_known, f_more, f_sum, a_left, a_size, a_right, a_text, a_ops, a_constants, a_heights, a_many, a_chosen, a_firstEnd, a_secondEnd, a_values, a_nodes, a_far, ap, a_useful, a_covers)) : wpY_findProductive post (nI (gm_P g), nI L, f_goal, f_extra, f_measured, f_known, f_more, f_sum, a_left, a_size, a_right, a_text, a_ops, a_constants, a_heights, a_many, a_chosen, a_firstEnd, a_secondEnd, a_values, a_nodes, a_far, a_productive, a_useful, a_covers) := by
  have h12 := cp_G_P G
  have ok := cp_G_ok G
  have rounds : ∀ d r ap, r + d = 5 → yk_fp g r 0 ap → wY_findProductive_22 post (nI (gm_P g)) (nI L) f_goal f_extra f_measured f_known f_more f_sum (d + 1) (nI r) a_left a_size a_right a_text a_ops a_constants a_heights a_many a_chosen a_firstEnd a_secondEnd a_values a_nodes a_far ap a_useful a_covers := by
    intro d
    induction d with
    | zero =>
      intro r ap hr hI
      rw [wY_findProductive_22]
      have e : r = 5 := by omega
      subst e
      obtain ⟨i1, i2, i3, -⟩ := hI
      refine pk_le 5 5 (fun _ => h ap fun n hn => ?_) (fun z => absurd z (by omega))
      rcases i1 n hn with z | z
      · exact Or.inl ⟨z, fun w => i3 n (gm_Pd_5 ok w) z⟩
      · exact Or.inr ⟨z, i2 n hn (by rw [z]; decide)⟩
    | succ d ih =>
      intro r ap hr hI
      rw [wY_findProductive_22]
      refine pk_le 5 r (fun z => absurd z (by omega)) (fun _ => ⟨gm_P g + 1, ys_fp_29 (r := r) G hl (fun ap' hI' => ?_) (gm_P g) 0 ap (by omega) hI⟩)
      rw [nI_1]
      refine ih (r + 1) ap' (by omega) ⟨hI'.1, hI'.2.1, ?_, fun q hq => absurd hq (by omega)⟩
      rintro n ⟨p, hp, e, hk⟩
      rw [← e]
      exact hI'.2.2.2 p hp hk
  have lp : ∀ d c ap, c + d = 5 → (∀ n, n < c → ap n = 0) → wY_findProductive_2 post (nI (gm_P g)) (nI L) f_goal f_extra f_measured f_known f_more f_sum (d + 1) (nI c) a_left a_size a_right a_text a_ops a_constants a_heights a_many a_chosen a_firstEnd a_secondEnd a_values a_nodes a_far ap a_useful a_covers := by
    intro d
    induction d with
    | zero =>
      intro c ap hc hz
      rw [wY_findProductive_2]
      exact pk_le 5 c (fun _ => ⟨6, rounds 5 0 ap rfl ⟨fun n hn => Or.inl (hz n (by omega)), fun n hn w => absurd (hz n (by omega)) w, fun n w => w.elim, fun q hq => absurd hq (by omega)⟩⟩) (fun z => absurd z (by omega))
    | succ d ih =>
      intro c ap hc hz
      rw [wY_findProductive_2]
      refine pk_le 5 c (fun z => absurd z (by omega)) (fun _ => ?_)
      rw [nI_clamp (show c < 2 ^ 31 by omega), yk_n0]
      refine ⟨vp_in_nI (by omega) (by omega), nm_e (nm_r (nI_1 _) (ih (c + 1) _ (by omega) fun n hn => ?_))⟩
      by_cases e : n = c
      · subst e; exact pk_us
      · rw [pk_un e]; exact hz n (by omega)
  unfold wpY_findProductive
  exact ⟨6, lp 5 0 a_productive rfl fun n hn => absurd hn (by omega)⟩
theorem yk_aQ_Pd {ap : Nat → Int32} (ok : gm_ok g) (h : yk_Bo 5 ap (gm_Pd g)) (hp : p < gm_P g) : yk_aQ g ap p q ↔ gm_aQ g p q := by
  constructor
  · intro z k k1 k2 k3
    exact (yk_Bo_i h (by have := gm_ok_15 ok hp k2; omega)).mp (z k k1 k2 k3)
  · intro z k k1 k2 k3
    exact (yk_Bo_i h (by have := gm_ok_15 ok hp k2; omega)).mpr (z k k1 k2 k3)
end
end
section
/-! Y: covered, covering, coverBy, beginning, isBeginning -/
def yk_mc (ac : Nat → Int32) : Nat := sm_S (fun k => if ac k = 0 then 1 else 0) 70
def yk_C (ac : Nat → Int32) (n i : Nat) : Prop := ac (14 * n + i) ≠ 0
/-- the last token of the goal -/
def yk_xt (g : gm_G) (M x : Nat) (fe : Int32) : Prop := (fe = nI x ∧ x < 6) ∨ (fe = -1 ∧ x = gm_t g (M - 1))
def yk_cb (ac : Nat → Int32) : Prop := ∀ y, y < 70 → ac y = 0 ∨ ac y = 1
section
variable {g : gm_G} {M x p i u v : Nat} {C E : Nat → Nat → Prop}
def gm_K0 (g : gm_G) (M x : Nat) (C : Nat → Nat → Prop) (p i : Nat) : Prop := gm_s g (3 * p) ≠ 9 ∧ i < M ∧ gm_Cs M x C (gm_s g (3 * p)) i ∧ gm_aQ g p 1
def gm_K1 (g : gm_G) (M x : Nat) (C : Nat → Nat → Prop) (p i u : Nat) : Prop := i ≤ u ∧ u < M ∧ gm_s g (3 * p + 1) ≠ 9 ∧ gm_Sp g (gm_D g) (gm_s g (3 * p)) i u ∧ gm_Cs M x C (gm_s g (3 * p + 1)) u ∧ gm_aQ g p 2
def gm_K2 (g : gm_G) (M x : Nat) (C : Nat → Nat → Prop) (p i u v : Nat) : Prop := i ≤ u ∧ u ≤ v ∧ v < M ∧ gm_s g (3 * p + 2) ≠ 9 ∧ gm_Sp g (gm_D g) (gm_s g (3 * p)) i u ∧ gm_Sp g (gm_D g) (gm_s g (3 * p + 1)) u v ∧ gm_Cs M x C (gm_s g (3 * p + 2)) v
theorem gm_Cg_3 : gm_Cg g M x C p i ↔ gm_K0 g M x C p i ∨ (∃ u, gm_K1 g M x C p i u) ∨ ∃ u v, gm_K2 g M x C p i u v := by
  constructor
  · rintro ⟨q, u, h1, h2, h3, h4, h5, h6, h7⟩
    rcases (by omega : q = 0 ∨ q = 1 ∨ q = 2) with rfl | rfl | rfl
    · have e : i = u := h3
      subst e
      exact Or.inl ⟨h2, h5, h6, h7⟩
    · obtain ⟨u', e, a1, a2, a3⟩ := h3
      have e : i = u' := e
      subst e
      exact Or.inr (Or.inl ⟨u, h4, h5, h2, a3, h6, h7⟩)
    · obtain ⟨u', ⟨u2, e, b1, b2, b3⟩, a1, a2, a3⟩ := h3
      have e : i = u2 := e
      subst e
      exact Or.inr (Or.inr ⟨u', u, a1, a2, h5, h2, b3, a3, h6⟩)
  · rintro (⟨a1, a2, a3, a4⟩ | ⟨u, a1, a2, a3, a4, a5, a6⟩ | ⟨u, v, a1, a2, a3, a4, a5, a6, a7⟩)
    · exact ⟨0, i, by omega, a1, rfl, Nat.le_refl _, a2, a3, a4⟩
    · exact ⟨1, u, by omega, a3, ⟨i, rfl, Nat.le_refl _, a1, a4⟩, a1, a2, a5, a6⟩
    · exact ⟨2, v, by omega, a4, ⟨u, ⟨i, rfl, Nat.le_refl _, a1, a5⟩, a1, a2, a6⟩, by omega, a3, a7, fun k k1 k2 => absurd k1 (by omega)⟩
theorem gm_Cg_mono (ok : gm_ok g) (hp : p < gm_P g) (h : ∀ n a, n < 5 → a < M → C n a → E n a) (hc : gm_Cg g M x C p i) : gm_Cg g M x E p i := by
  obtain ⟨q, u, h1, h2, h3, h4, h5, h6, h7⟩ := hc
  refine ⟨q, u, h1, h2, h3, h4, h5, ?_, h7⟩
  rcases h6 with ⟨a, b⟩ | b
  · exact Or.inl ⟨a, h _ _ (by have := gm_ok_15 ok hp h1; omega) h5 b⟩
  · exact Or.inr b
/-- a closed table holds all coverings -/
theorem gm_Ce_cl (ok : gm_ok g) (h : ∀ p i, p < gm_P g → i < M → gm_Cg g M x C p i → C (gm_l g p) i) {n : Nat} (hc : gm_Ce g M x n i) : C n i := by
  refine gm_Ce_ind (Q := fun n i => C n i) (fun p i hp hh => ?_) hc
  refine h p i hp ?_ (gm_Cg_mono ok hp (fun n a _ _ z => z.2) hh)
  obtain ⟨q, u, h1, h2, h3, h4, h5, h6, h7⟩ := hh
  omega
end
section
variable {g : gm_G} {L : Nat} {f_goal f_extra f_measured f_known f_more : Int32} {a_left a_size a_right a_text a_ops a_constants a_heights a_chosen a_firstEnd a_secondEnd a_far a_productive a_useful a_covers : Nat → Int32} {a_many a_values a_nodes : Nat → Int64} {f_sum : Int64} {c i j p n k m a b r u v q M x : Nat} {ac0 : Nat → Int32}
theorem ys_covered {post : Int32 → Prop} (G : cp_G g L a_right a_size a_text) (hB : yk_cb a_covers) (hx : yk_xt g M x f_extra) (hM : M ≤ 11) (hi : i < M) (hc : c < 15) (h9 : c ≠ 9)
    (h1 : gm_Cs M x (yk_C a_covers) c i → post 1) (h0 : ¬ gm_Cs M x (yk_C a_covers) c i → post 0) : wpY_covered post (nI (gm_P g), nI L, nI M, f_extra, f_measured, f_known, f_more, f_sum, a_left, a_size, a_right, a_text, a_ops, a_constants, a_heights, a_many, a_chosen, a_firstEnd, a_secondEnd, a_values, a_nodes, a_far, a_productive, a_useful, a_covers) (cp_Sy c) (nI i) := by
  have w65 : c < 10 → i + 1 = M → x < 6 → wY_covered_65 post (cp_Sy c) (nI x) (nI (gm_P g)) (nI L) (nI M) f_extra f_measured f_known f_more f_sum a_left a_size a_right a_text a_ops a_constants a_heights a_many a_chosen a_firstEnd a_secondEnd a_values a_nodes a_far a_productive a_useful a_covers := by
    intro z e hx6
    unfold wY_covered_65
    refine br_i (cp_tx hx6 hc) (fun y => h1 (Or.inr ⟨by omega, e, y⟩)) (fun y => h0 ?_)
    rintro (w | w)
    · omega
    · exact y w.2.2
  unfold wpY_covered
  refine pk_eq i M (fun z => absurd z (by omega)) (fun _ => br_i (cp_Sy_lt10 hc) (fun z => ?_) (fun z => ?_))
  · refine pk_eq (i + 1) M (fun e => ?_) (fun e => h0 ?_) (hx := nI_1 i)
    · rcases hx with ⟨e1, e2⟩ | ⟨e1, e2⟩
      · rw [e1]
        rw [e1] at w65
        exact br_t (nI_pos' (by omega)) (w65 z e e2)
      · rw [nI_clamp (show i < 2 ^ 31 by omega), cp_G_tx G, show gm_t g i = x from by rw [e2, show M - 1 = i by omega]]
        exact br_f (by rw [e1]; decide) ⟨vp_in_nI (by omega) (by omega), w65 z e (by rw [e2]; exact cp_G_t6 G)⟩
    · rintro (w | w)
      · omega
      · exact e w.2.1
  · rw [ix_S (by omega), ix_14, nI_clamp (show 14 * (c - 10) + i < 2 ^ 31 by omega)]
    rcases hB (14 * (c - 10) + i) (by omega) with e | e
    · rw [e]
      refine ⟨vp_in_nI (by omega) (by omega), rfl, h0 ?_⟩
      rintro (w | w)
      · exact w.2 e
      · omega
    · rw [e]
      exact ⟨vp_in_nI (by omega) (by omega), rfl, h1 (Or.inl ⟨by omega, by unfold yk_C; rw [e]; decide⟩)⟩
theorem ys_covering {post : Int32 → Prop} (G : cp_G g L a_right a_size a_text) (H : yk_H L a_heights 1000 (gm_D g)) (hP : yk_Bo 5 a_productive (gm_Pd g)) (hB : yk_cb a_covers) (hx : yk_xt g M x f_extra) (hM : M ≤ L + 1) (hi : i < M) (hp : p < gm_P g)
    (h1 : gm_Cg g M x (yk_C a_covers) p i → post 1) (h0 : ¬ gm_Cg g M x (yk_C a_covers) p i → post 0) : wpY_covering post (nI (gm_P g), nI L, nI M, f_extra, f_measured, f_known, f_more, f_sum, a_left, a_size, a_right, a_text, a_ops, a_constants, a_heights, a_many, a_chosen, a_firstEnd, a_secondEnd, a_values, a_nodes, a_far, a_productive, a_useful, a_covers) (nI p) (nI i) := by
  have h12 := cp_G_P G
  have hL := cp_G_L G
  have ok := cp_G_ok G
  have c0 : gm_s g (3 * p) < 15 := gm_ok_15 ok hp (show 0 < 3 by omega)
  have c1 := gm_ok_15 ok hp (show 1 < 3 by omega)
  have c2 := gm_ok_15 ok hp (show 2 < 3 by omega)
  have z0 : 0 < gm_sz g p ↔ gm_s g (3 * p) ≠ 9 := gm_sz_lt ok hp (show 0 < 3 by omega)
  have z1 := gm_sz_lt ok hp (show 1 < 3 by omega)
  have z2 := gm_sz_lt ok hp (show 2 < 3 by omega)
  have hs3 := gm_sz_le g p
  have lp124 : ∀ (J : Int32 → Prop) u, i ≤ u → u < M → gm_Sp g (gm_D g) (gm_s g (3 * p)) i u → 1 < gm_sz g p → ((∀ v, ¬ gm_K2 g M x (yk_C a_covers) p i u v) → J (nI (u + 1))) → ∀ d v, v + d = M → u ≤ v → (∀ v', v' < v → ¬ gm_K2 g M x (yk_C a_covers) p i u v') → wY_covering_124 post J (nI p) (nI i) (cp_Sy (gm_s g (3 * p))) (cp_Sy (gm_s g (3 * p + 1))) (cp_Sy (gm_s g (3 * p + 2))) (nI (gm_sz g p)) (nI u) (nI (gm_P g)) (nI L) (nI M) f_extra f_measured f_known f_more f_sum a_left a_size a_right a_text a_ops a_constants a_heights a_many a_chosen a_firstEnd a_secondEnd a_values a_nodes a_far a_productive a_useful a_covers (d + 1) (nI v) := by
    intro J u hiu huM sa h2 hJ d
    induction d with
    | zero =>
      intro v hv huv hno
      rw [wY_covering_124]
      exact pk_le M v (fun _ => nm_r (nI_1 _) (hJ fun v' hk => hno v' (by have := hk.2.2.1; omega) hk)) (fun z => absurd z (by omega))
    | succ d ih =>
      intro v hv huv hno
      have nx : ¬ gm_K2 g M x (yk_C a_covers) p i u v → wY_covering_124 post J (nI p) (nI i) (cp_Sy (gm_s g (3 * p))) (cp_Sy (gm_s g (3 * p + 1))) (cp_Sy (gm_s g (3 * p + 2))) (nI (gm_sz g p)) (nI u) (nI (gm_P g)) (nI L) (nI M) f_extra f_measured f_known f_more f_sum a_left a_size a_right a_text a_ops a_constants a_heights a_many a_chosen a_firstEnd a_secondEnd a_values a_nodes a_far a_productive a_useful a_covers (d + 1) (nI (v + 1)) := fun hk => ih (v + 1) (by omega) (by omega) fun v' hv' => by
        by_cases e : v' = v
        · subst e; exact hk
        · exact hno v' (by omega)
      rw [wY_covering_124]
      refine pk_le M v (fun z => absurd z (by omega)) (fun _ => pk_le (gm_sz g p) 2 (fun w => nm_r (nI_1 _) (hJ fun v' hk => ?_)) (fun w => ys_stands (r := 1000) G H (by omega) c1 (z1.mp h2) huv (by omega) (fun sb => br_f (by decide) (ys_covered G hB hx (by omega) (by omega) c2 (z2.mp w) (fun hc => br_f (by decide) (h1 (gm_Cg_3.mpr (Or.inr (Or.inr ⟨u, v, hiu, huv, by omega, z2.mp w, sa, sb, hc⟩))))) (fun hc => br_t rfl (nm_r (nI_1 _) (nx fun hk => hc hk.2.2.2.2.2.2))))) (fun sb => br_t rfl (nm_r (nI_1 _) (nx fun hk => sb hk.2.2.2.2.2.1)))))
      have := z2.mpr hk.2.2.2.1
      omega
  have lp69 : ¬ gm_K0 g M x (yk_C a_covers) p i → ∀ d u, u + d = M → i ≤ u → (∀ u', u' < u → ¬ gm_K1 g M x (yk_C a_covers) p i u' ∧ ∀ v, ¬ gm_K2 g M x (yk_C a_covers) p i u' v) → wY_covering_69 post (nI p) (nI i) (cp_Sy (gm_s g (3 * p))) (cp_Sy (gm_s g (3 * p + 1))) (cp_Sy (gm_s g (3 * p + 2))) (nI (gm_sz g p)) (nI (gm_P g)) (nI L) (nI M) f_extra f_measured f_known f_more f_sum a_left a_size a_right a_text a_ops a_constants a_heights a_many a_chosen a_firstEnd a_secondEnd a_values a_nodes a_far a_productive a_useful a_covers (d + 1) (nI u) := by
    intro hk0 d
    induction d with
    | zero =>
      intro u hu hiu hno
      rw [wY_covering_69]
      refine pk_le M u (fun _ => h0 fun w => ?_) (fun z => absurd z (by omega))
      rcases gm_Cg_3.mp w with w | ⟨u', w⟩ | ⟨u', v', w⟩
      · exact hk0 w
      · exact (hno u' (by have := w.2.1; omega)).1 w
      · exact (hno u' (by have := w.2.1; have := w.2.2.1; omega)).2 v' w
    | succ d ih =>
      intro u hu hiu hno
      have nx : ¬ gm_K1 g M x (yk_C a_covers) p i u → (∀ v, ¬ gm_K2 g M x (yk_C a_covers) p i u v) → wY_covering_69 post (nI p) (nI i) (cp_Sy (gm_s g (3 * p))) (cp_Sy (gm_s g (3 * p + 1))) (cp_Sy (gm_s g (3 * p + 2))) (nI (gm_sz g p)) (nI (gm_P g)) (nI L) (nI M) f_extra f_measured f_known f_more f_sum a_left a_size a_right a_text a_ops a_constants a_heights a_many a_chosen a_firstEnd a_secondEnd a_values a_nodes a_far a_productive a_useful a_covers (d + 1) (nI (u + 1)) := fun hk hk2 => ih (u + 1) (by omega) (by omega) fun u' hu' => by
        by_cases e : u' = u
        · subst e; exact ⟨hk, hk2⟩
        · exact hno u' (by omega)
      rw [wY_covering_69]
      refine pk_le M u (fun z => absurd z (by omega)) (fun _ => pk_le (gm_sz g p) 1 (fun w => h0 fun y => ?_) (fun w => ys_stands (r := 1000) G H (by omega) c0 (z0.mp (by omega)) hiu (by omega) (fun sa => br_f (by decide) ?_) (fun sa => br_t rfl (nm_r (nI_1 _) (nx (fun hk => sa hk.2.2.2.1) (fun v hk => sa hk.2.2.2.2.1))))))
      · rcases gm_Cg_3.mp y with y | ⟨u', y⟩ | ⟨u', v', y⟩
        · exact hk0 y
        · have := z1.mpr y.2.2.1; omega
        · have := z2.mpr y.2.2.2.1; omega
      · have go : ¬ gm_K1 g M x (yk_C a_covers) p i u → ∃ n124 : Nat, wY_covering_124 post (wY_covering_69 post (nI p) (nI i) (cp_Sy (gm_s g (3 * p))) (cp_Sy (gm_s g (3 * p + 1))) (cp_Sy (gm_s g (3 * p + 2))) (nI (gm_sz g p)) (nI (gm_P g)) (nI L) (nI M) f_extra f_measured f_known f_more f_sum a_left a_size a_right a_text a_ops a_constants a_heights a_many a_chosen a_firstEnd a_secondEnd a_values a_nodes a_far a_productive a_useful a_covers (d + 1)) (nI p) (nI i) (cp_Sy (gm_s g (3 * p))) (cp_Sy (gm_s g (3 * p + 1))) (cp_Sy (gm_s g (3 * p + 2))) (nI (gm_sz g p)) (nI u) (nI (gm_P g)) (nI L) (nI M) f_extra f_measured f_known f_more f_sum a_left a_size a_right a_text a_ops a_constants a_heights a_many a_chosen a_firstEnd a_secondEnd a_values a_nodes a_far a_productive a_useful a_covers n124 (nI u) :=
          fun hk => ⟨M - u + 1, lp124 _ u hiu (by omega) sa w (fun hk2 => nx hk hk2) (M - u) u (by omega) (Nat.le_refl _) fun v' hv' hk2 => by have := hk2.2.1; omega⟩
        exact ys_covered G hB hx (by omega) (by omega) c1 (z1.mp w) (fun hc => br_f (by decide) (ys_allYield (q := 2) G hp (by omega) (fun ha => br_f (by decide) (h1 (gm_Cg_3.mpr (Or.inr (Or.inl ⟨u, hiu, by omega, z1.mp w, sa, hc, (yk_aQ_Pd ok hP hp).mp ha⟩))))) (fun ha => br_t rfl (go fun hk => ha ((yk_aQ_Pd ok hP hp).mpr hk.2.2.2.2.2))))) (fun hc => br_t rfl (go fun hk => hc hk.2.2.2.2.1))
  have go : ¬ gm_K0 g M x (yk_C a_covers) p i → ∃ n69 : Nat, wY_covering_69 post (nI p) (nI i) (cp_Sy (gm_s g (3 * p))) (cp_Sy (gm_s g (3 * p + 1))) (cp_Sy (gm_s g (3 * p + 2))) (nI (gm_sz g p)) (nI (gm_P g)) (nI L) (nI M) f_extra f_measured f_known f_more f_sum a_left a_size a_right a_text a_ops a_constants a_heights a_many a_chosen a_firstEnd a_secondEnd a_values a_nodes a_far a_productive a_useful a_covers n69 (nI i) :=
    fun hk => ⟨M - i + 1, lp69 hk (M - i) i (by omega) (Nat.le_refl _) fun u' hu' => ⟨fun w => by have := w.1; omega, fun v w => by have := w.1; omega⟩⟩
  unfold wpY_covering
  dsimp only
  rw [ix_31, ix_32, ix_3, nI_clamp (show 3 * p < 2 ^ 31 by omega), nI_clamp (show 3 * p + 1 < 2 ^ 31 by omega), nI_clamp (show 3 * p + 2 < 2 ^ 31 by omega), nI_clamp (show p < 2 ^ 31 by omega), cp_G_r0 G hp, cp_G_rt G hp (show 1 < 3 by omega), cp_G_rt G hp (show 2 < 3 by omega), cp_G_sz G hp]
  refine ⟨vp_in_nI (by omega) (by omega), nm_e ⟨vp_in_nI (by omega) (by omega), nm_e ⟨vp_in_nI (by omega) (by omega), nm_e ⟨vp_in_nI (by omega) (by omega), nm_e (pk_le (gm_sz g p) 0 (fun w => go fun hk => ?_) (fun w => ?_))⟩⟩⟩⟩
  · have := z0.mpr hk.1; omega
  · exact ys_covered G hB hx (by omega) hi c0 (z0.mp w) (fun hc => br_f (by decide) (ys_allYield (q := 1) G hp (by omega) (fun ha => br_f (by decide) (h1 (gm_Cg_3.mpr (Or.inl ⟨z0.mp w, hi, hc, (yk_aQ_Pd ok hP hp).mp ha⟩)))) (fun ha => br_t rfl (go fun hk => ha ((yk_aQ_Pd ok hP hp).mpr hk.2.2.2))))) (fun hc => br_t rfl (go fun hk => hc hk.2.2.1))
/-- a pass over the coverings -/
def yk_Cp (g : gm_G) (M x : Nat) (ac0 : Nat → Int32) (p0 i0 : Nat) (fm : Int32) (ac : Nat → Int32) : Prop :=
  yk_cb ac ∧ (∀ n i, n < 5 → i < M → ac (14 * n + i) ≠ 0 → gm_Ce g M x n i) ∧ (fm = 0 → ac = ac0 ∧ ∀ p i, p < gm_P g → i < M → (p < p0 ∨ (p = p0 ∧ i < i0)) → gm_Cg g M x (yk_C ac0) p i → yk_C ac0 (gm_l g p) i) ∧ (fm ≠ 0 → yk_mc ac < yk_mc ac0) ∧ yk_mc ac ≤ yk_mc ac0
theorem ys_coverBy {post : SY → Prop} (G : cp_G g L a_right a_size a_text) (hl : yk_L g a_left) (H : yk_H L a_heights 1000 (gm_D g)) (hP : yk_Bo 5 a_productive (gm_Pd g)) (hx : yk_xt g M x f_extra) (hM : M ≤ L + 1) (hp : p < gm_P g)
    (h : ∀ fm ac, yk_Cp g M x ac0 (p + 1) 0 fm ac → post (nI (gm_P g), nI L, nI M, f_extra, f_measured, f_known, fm, f_sum, a_left, a_size, a_right, a_text, a_ops, a_constants, a_heights, a_many, a_chosen, a_firstEnd, a_secondEnd, a_values, a_nodes, a_far, a_productive, a_useful, ac)) :
    ∀ d i fm ac, i + d = M → yk_Cp g M x ac0 p i fm ac → wY_coverBy_2 post (nI p) (nI (gm_P g)) (nI L) (nI M) f_extra f_measured f_known f_sum (d + 1) (nI i) fm a_left a_size a_right a_text a_ops a_constants a_heights a_many a_chosen a_firstEnd a_secondEnd a_values a_nodes a_far a_productive a_useful ac := by
  have h12 := cp_G_P G
  have hL := cp_G_L G
  have ok := cp_G_ok G
  have hl5 := gm_ok_l ok hp
  intro d
  induction d with
  | zero =>
    intro i fm ac hi hI
    rw [wY_coverBy_2]
    refine pk_le M i (fun _ => h fm ac ⟨hI.1, hI.2.1, fun z => ⟨(hI.2.2.1 z).1, fun q a h1 h2 h3 => (hI.2.2.1 z).2 q a h1 h2 (by omega)⟩, hI.2.2.2⟩) (fun z => absurd z (by omega))
  | succ d ih =>
    intro i fm ac hi hI
    have hiM : i < M := by omega
    have stay : (gm_Cg g M x (yk_C ac) p i → yk_C ac (gm_l g p) i) → yk_Cp g M x ac0 p (i + 1) fm ac := fun hs => ⟨hI.1, hI.2.1, fun z => ⟨(hI.2.2.1 z).1, fun q a h1 h2 h3 => by
      by_cases e : q = p ∧ a = i
      · obtain ⟨rfl, rfl⟩ := e
        rw [← (hI.2.2.1 z).1]; exact hs
      · exact (hI.2.2.1 z).2 q a h1 h2 (by omega)⟩, hI.2.2.2⟩
    rw [wY_coverBy_2]
    refine pk_le M i (fun z => absurd z (by omega)) (fun _ => ?_)
    rw [nI_clamp (show p < 2 ^ 31 by omega), hl p hp, ix_N, ix_14]
    refine ⟨vp_in_nI (by omega) (by omega), nm_e ?_⟩
    rw [nI_clamp (show 14 * gm_l g p + i < 2 ^ 31 by omega)]
    refine ⟨vp_in_nI (by omega) (by omega), br_c (fun e => ys_covering G H hP hI.1 hx hM hiM hp (fun hc => br_f (by decide) ⟨vp_in_nI (by omega) (by omega), ?_⟩) (fun hc => br_t rfl (nm_r (nI_1 _) (ih (i + 1) fm ac (by omega) (stay fun w => absurd w hc))))) (fun e => nm_r (nI_1 _) (ih (i + 1) fm ac (by omega) (stay fun _ => e)))⟩
    rw [yk_n1]
    have hlt : yk_mc (upd ac (14 * gm_l g p + i) 1) < yk_mc ac := by
      refine sm_lt (a := 14 * gm_l g p + i) ?_ (fun k _ => ?_) (by omega)
      · show (if upd ac (14 * gm_l g p + i) 1 (14 * gm_l g p + i) = 0 then 1 else 0) < (if ac (14 * gm_l g p + i) = 0 then 1 else 0)
        rw [pk_us, if_neg (by decide), if_pos e]; omega
      · show (if upd ac (14 * gm_l g p + i) 1 k = 0 then 1 else 0) ≤ (if ac k = 0 then 1 else 0)
        by_cases w : k = 14 * gm_l g p + i
        · subst w; rw [pk_us, if_neg (by decide)]; omega
        · rw [pk_un w]; exact Nat.le_refl _
    have hle := hI.2.2.2.2
    refine nm_e (nm_r (nI_1 _) (ih (i + 1) 1 _ (by omega) ⟨fun y hy => ?_, fun n a hn ha w => ?_, fun z => absurd z (by decide), fun _ => by omega, by omega⟩))
    · by_cases w : y = 14 * gm_l g p + i
      · subst w; rw [pk_us]; exact Or.inr rfl
      · rw [pk_un w]; exact hI.1 y hy
    · by_cases w2 : 14 * n + a = 14 * gm_l g p + i
      · have e1 : n = gm_l g p := by omega
        have e2 : a = i := by omega
        subst e1 e2
        exact gm_Ce_mk hp (gm_Cg_mono ok hp (fun m b hm hb z => hI.2.1 m b hm hb z) hc)
      · rw [pk_un w2] at w; exact hI.2.1 n a hn ha w
theorem ys_beg_58 {post : Int32 → SY → Prop} {J : Int32 → Int32 → Int32 → Int32 → Int32 → Int32 → Int32 → Int64 → (Nat → Int32) → (Nat → Int32) → (Nat → Int32) → (Nat → Int32) → (Nat → Int32) → (Nat → Int32) → (Nat → Int32) → (Nat → Int64) → (Nat → Int32) → (Nat → Int32) → (Nat → Int32) → (Nat → Int64) → (Nat → Int64) → (Nat → Int32) → (Nat → Int32) → (Nat → Int32) → (Nat → Int32) → Prop} (G : cp_G g L a_right a_size a_text) (hl : yk_L g a_left) (H : yk_H L a_heights 1000 (gm_D g)) (hP : yk_Bo 5 a_productive (gm_Pd g)) (hx : yk_xt g M x f_extra) (hM : M ≤ L + 1)
    (hJ : ∀ fm ac, yk_Cp g M x ac0 (gm_P g) 0 fm ac → J (nI (gm_P g)) (nI L) (nI M) f_extra f_measured f_known fm f_sum a_left a_size a_right a_text a_ops a_constants a_heights a_many a_chosen a_firstEnd a_secondEnd a_values a_nodes a_far a_productive a_useful ac) :
    ∀ d p fm ac, p + d = gm_P g → yk_Cp g M x ac0 p 0 fm ac → wY_beginning_58 post J (d + 1) (nI p) (nI (gm_P g)) (nI L) (nI M) f_extra f_measured f_known fm f_sum a_left a_size a_right a_text a_ops a_constants a_heights a_many a_chosen a_firstEnd a_secondEnd a_values a_nodes a_far a_productive a_useful ac := by
  have h12 := cp_G_P G
  intro d
  induction d with
  | zero =>
    intro p fm ac hp hI
    rw [wY_beginning_58]
    have e : p = gm_P g := by omega
    subst e
    exact pk_le (gm_P g) (gm_P g) (fun _ => hJ fm ac hI) (fun z => absurd z (by omega))
  | succ d ih =>
    intro p fm ac hp hI
    rw [wY_beginning_58]
    refine pk_le (gm_P g) p (fun z => absurd z (by omega)) (fun _ => ?_)
    unfold wpY_coverBy
    exact ⟨M + 1, ys_coverBy G hl H hP hx hM (by omega) (fun fm' ac' hI' => nm_r (nI_1 _) (ih (p + 1) fm' ac' (by omega) hI')) M 0 fm ac (by omega) hI⟩
theorem ys_beg_44 {post : Int32 → SY → Prop} (G : cp_G g L a_right a_size a_text) (hl : yk_L g a_left) (H : yk_H L a_heights 1000 (gm_D g)) (hP : yk_Bo 5 a_productive (gm_Pd g)) (hx : yk_xt g M x f_extra) (hM : M ≤ L + 1) (h0M : 0 < M)
    (h1 : ∀ fm ac, gm_Ce g M x 0 0 → post 1 (nI (gm_P g), nI L, nI M, f_extra, f_measured, f_known, fm, f_sum, a_left, a_size, a_right, a_text, a_ops, a_constants, a_heights, a_many, a_chosen, a_firstEnd, a_secondEnd, a_values, a_nodes, a_far, a_productive, a_useful, ac)) (h0 : ∀ fm ac, ¬ gm_Ce g M x 0 0 → post 0 (nI (gm_P g), nI L, nI M, f_extra, f_measured, f_known, fm, f_sum, a_left, a_size, a_right, a_text, a_ops, a_constants, a_heights, a_many, a_chosen, a_firstEnd, a_secondEnd, a_values, a_nodes, a_far, a_productive, a_useful, ac)) :
    ∀ N fm ac, yk_mc ac < N → yk_cb ac → (∀ n i, n < 5 → i < M → ac (14 * n + i) ≠ 0 → gm_Ce g M x n i) → (fm = 0 → ∀ p i, p < gm_P g → i < M → gm_Cg g M x (yk_C ac) p i → yk_C ac (gm_l g p) i) → wY_beginning_44 post (N + 1) (nI (gm_P g)) (nI L) (nI M) f_extra f_measured f_known fm f_sum a_left a_size a_right a_text a_ops a_constants a_heights a_many a_chosen a_firstEnd a_secondEnd a_values a_nodes a_far a_productive a_useful ac := by
  have ok := cp_G_ok G
  have fin : ∀ fm ac, yk_cb ac → (∀ n i, n < 5 → i < M → ac (14 * n + i) ≠ 0 → gm_Ce g M x n i) → (∀ p i, p < gm_P g → i < M → gm_Cg g M x (yk_C ac) p i → yk_C ac (gm_l g p) i) → (narrow .boolean (.int (ac 0)) = .int (ac 0) ∧ post (ac 0) (nI (gm_P g), nI L, nI M, f_extra, f_measured, f_known, fm, f_sum, a_left, a_size, a_right, a_text, a_ops, a_constants, a_heights, a_many, a_chosen, a_firstEnd, a_secondEnd, a_values, a_nodes, a_far, a_productive, a_useful, ac)) := by
    intro fm ac hB hS hC
    rcases hB 0 (by omega) with e | e
    · rw [e]; exact ⟨rfl, h0 fm ac fun w => gm_Ce_cl ok hC w e⟩
    · rw [e]; exact ⟨rfl, h1 fm ac (hS 0 0 (by omega) h0M (by show ac 0 ≠ 0; rw [e]; decide))⟩
  intro N
  induction N with
  | zero => intro fm ac h; omega
  | succ N ih =>
    intro fm ac hN hB hS hC
    rw [wY_beginning_44]
    refine br_c (fun e => fin fm ac hB hS (hC e)) (fun e => ⟨gm_P g + 1, ys_beg_58 (ac0 := ac) G hl H hP hx hM (fun fm' ac' hI => ?_) (gm_P g) 0 0 ac (by omega) ⟨hB, hS, fun _ => ⟨rfl, fun q a h1 h2 h3 => absurd h3 (by omega)⟩, fun z => absurd rfl z, Nat.le_refl _⟩⟩)
    have hC' : fm' = 0 → ∀ p i, p < gm_P g → i < M → gm_Cg g M x (yk_C ac') p i → yk_C ac' (gm_l g p) i := fun z => by
      obtain ⟨e1, e2⟩ := hI.2.2.1 z
      rw [e1]
      exact fun q a h1 h2 h3 => e2 q a h1 h2 (Or.inl h1) h3
    by_cases z : fm' = 0
    · rw [wY_beginning_44]
      exact br_t z (fin fm' ac' hI.1 hI.2.1 (hC' z))
    · exact ih fm' ac' (by have := hI.2.2.2.1 z; omega) hI.1 hI.2.1 hC'
theorem ys_beginning {post : Int32 → SY → Prop} (G : cp_G g L a_right a_size a_text) (hl : yk_L g a_left) (H : yk_H L a_heights 1000 (gm_D g)) (hx : yk_xt g M x f_extra) (hM : M ≤ L + 1)
    (h1 : ∀ fm ap ac, (M = 0 ∧ gm_Pd g 0) ∨ (0 < M ∧ gm_Ce g M x 0 0) → post 1 (nI (gm_P g), nI L, nI M, f_extra, f_measured, f_known, fm, f_sum, a_left, a_size, a_right, a_text, a_ops, a_constants, a_heights, a_many, a_chosen, a_firstEnd, a_secondEnd, a_values, a_nodes, a_far, ap, a_useful, ac)) (h0 : ∀ fm ap ac, ¬ ((M = 0 ∧ gm_Pd g 0) ∨ (0 < M ∧ gm_Ce g M x 0 0)) → post 0 (nI (gm_P g), nI L, nI M, f_extra, f_measured, f_known, fm, f_sum, a_left, a_size, a_right, a_text, a_ops, a_constants, a_heights, a_many, a_chosen, a_firstEnd, a_secondEnd, a_values, a_nodes, a_far, ap, a_useful, ac)) : wpY_beginning post (nI (gm_P g), nI L, nI M, f_extra, f_measured, f_known, f_more, f_sum, a_left, a_size, a_right, a_text, a_ops, a_constants, a_heights, a_many, a_chosen, a_firstEnd, a_secondEnd, a_values, a_nodes, a_far, a_productive, a_useful, a_covers) := by
  have hL := cp_G_L G
  unfold wpY_beginning
  refine ys_findProductive G hl fun ap hP => pk_eq M 0 (fun e => ?_) (fun e => ⟨71, ?_⟩)
  · rcases hP 0 (by omega) with ⟨z, w⟩ | ⟨z, w⟩
    · rw [z]; exact ⟨rfl, h0 _ _ _ fun y => by rcases y with y | y; exact w y.2; omega⟩
    · rw [z]; exact ⟨rfl, h1 _ _ _ (Or.inl ⟨e, w⟩)⟩
  · have lp : ∀ d c ac, c + d = 70 → (∀ y, y < c → ac y = 0) → wY_beginning_20 post (nI (gm_P g)) (nI L) (nI M) f_extra f_measured f_known f_more f_sum (d + 1) (nI c) a_left a_size a_right a_text a_ops a_constants a_heights a_many a_chosen a_firstEnd a_secondEnd a_values a_nodes a_far ap a_useful ac := by
      intro d
      induction d with
      | zero =>
        intro c ac hc hz
        rw [wY_beginning_20]
        refine pk_le 70 c (fun _ => ⟨yk_mc ac + 1 + 1, ys_beg_44 G hl H hP hx hM (by omega) (fun fm ac' w => h1 fm ap ac' (Or.inr ⟨by omega, w⟩)) (fun fm ac' w => h0 fm ap ac' fun y => ?_) (yk_mc ac + 1) 1 ac (by omega) (fun y hy => Or.inl (hz y (by omega))) (fun n a hn ha w => absurd (hz _ (by omega)) w) (fun z => absurd z (by decide))⟩) (fun z => absurd z (by omega))
        rcases y with y | y
        · exact e y.1
        · exact w y.2
      | succ d ih =>
        intro c ac hc hz
        rw [wY_beginning_20]
        refine pk_le 70 c (fun z => absurd z (by omega)) (fun _ => ?_)
        rw [nI_clamp (show c < 2 ^ 31 by omega), yk_n0]
        refine ⟨vp_in_nI (by omega) (by omega), nm_e (nm_r (nI_1 _) (ih (c + 1) _ (by omega) fun y hy => ?_))⟩
        by_cases e : y = c
        · subst e; exact pk_us
        · rw [pk_un e]; exact hz y (by omega)
    exact lp 70 0 a_covers rfl fun y hy => absurd hy (by omega)
end
section
variable {g : gm_G} {L : Nat} {op : Nat → Nat} {cn : Nat → Int32} {w : SY} {k t : Nat}
theorem yv_isBegT {post : Int32 → SY → Prop} (I : yk_I g op cn L w) (hk : k ≤ L) (ht : t < 6) (h1 : ∀ w', yk_I g op cn L w' → gm_Ex g k t → post 1 w') (h0 : ∀ w', yk_I g op cn L w' → ¬ gm_Ex g k t → post 0 w') : wpY_isBeginning post w (nI k) (nI t) := by
  obtain ⟨f_productions, f_length, f_goal, f_extra, f_measured, f_known, f_more, f_sum, a_left, a_size, a_right, a_text, a_ops, a_constants, a_heights, a_many, a_chosen, a_firstEnd, a_secondEnd, a_values, a_nodes, a_far, a_productive, a_useful, a_covers⟩ := w
  have I0 := I
  obtain ⟨rfl, rfl, G, -⟩ := I0
  have hL := cp_G_L G
  unfold wpY_isBeginning
  refine yv_know I fun w' I' k' => ?_
  obtain ⟨f_productions, f_length, f_goal, f_extra, f_measured, f_known, f_more, f_sum, a_left, a_size, a_right, a_text, a_ops, a_constants, a_heights, a_many, a_chosen, a_firstEnd, a_secondEnd, a_values, a_nodes, a_far, a_productive, a_useful, a_covers⟩ := w'
  have k1 : f_known = 1 := k'
  subst k1
  obtain ⟨rfl, rfl, G', hl, O, hkn, hf⟩ := I'
  refine br_t (nI_pos' (by omega)) ?_
  unfold wY_isBeginning_16
  rw [nI_1]
  have H := yk_Ht_D (cp_G_ok G') hL (hkn (by decide)).2.1
  have I2 : ∀ fm ap ac, yk_I g op cn L (nI (gm_P g), nI L, nI (k + 1), nI t, f_measured, 1, fm, f_sum, a_left, a_size, a_right, a_text, a_ops, a_constants, a_heights, a_many, a_chosen, a_firstEnd, a_secondEnd, a_values, a_nodes, a_far, ap, a_useful, ac) := fun fm ap ac => ⟨rfl, rfl, G', hl, O, hkn, hf⟩
  refine ys_beginning (x := t) G' hl H (Or.inl ⟨rfl, ht⟩) (by omega) (fun fm ap ac y => ⟨rfl, h1 _ (I2 fm ap ac) ?_⟩) (fun fm ap ac y => ⟨rfl, h0 _ (I2 fm ap ac) fun z => y (Or.inr ⟨by omega, (gm_A (by omega)).mpr z⟩)⟩)
  rcases y with y | y
  · omega
  · exact (gm_A (by omega)).mp y.2
theorem yv_isBeg {post : Int32 → SY → Prop} (I : yk_I g op cn L w) (hk : k ≤ L) (h1 : ∀ w', yk_I g op cn L w' → gm_Bg g k → post 1 w') (h0 : ∀ w', yk_I g op cn L w' → ¬ gm_Bg g k → post 0 w') : wpY_isBeginning post w (nI k) (-1) := by
  obtain ⟨f_productions, f_length, f_goal, f_extra, f_measured, f_known, f_more, f_sum, a_left, a_size, a_right, a_text, a_ops, a_constants, a_heights, a_many, a_chosen, a_firstEnd, a_secondEnd, a_values, a_nodes, a_far, a_productive, a_useful, a_covers⟩ := w
  have I0 := I
  obtain ⟨rfl, rfl, G, -⟩ := I0
  have hL := cp_G_L G
  unfold wpY_isBeginning
  refine yv_know I fun w' I' k' => ?_
  obtain ⟨f_productions, f_length, f_goal, f_extra, f_measured, f_known, f_more, f_sum, a_left, a_size, a_right, a_text, a_ops, a_constants, a_heights, a_many, a_chosen, a_firstEnd, a_secondEnd, a_values, a_nodes, a_far, a_productive, a_useful, a_covers⟩ := w'
  have k1 : f_known = 1 := k'
  subst k1
  obtain ⟨rfl, rfl, G', hl, O, hkn, hf⟩ := I'
  refine br_f (by decide) ?_
  unfold wY_isBeginning_16
  have H := yk_Ht_D (cp_G_ok G') hL (hkn (by decide)).2.1
  have I2 : ∀ fm ap ac, yk_I g op cn L (nI (gm_P g), nI L, nI k, -1, f_measured, 1, fm, f_sum, a_left, a_size, a_right, a_text, a_ops, a_constants, a_heights, a_many, a_chosen, a_firstEnd, a_secondEnd, a_values, a_nodes, a_far, ap, a_useful, ac) := fun fm ap ac => ⟨rfl, rfl, G', hl, O, hkn, hf⟩
  exact ys_beginning (x := gm_t g (k - 1)) G' hl H (Or.inr ⟨rfl, rfl⟩) (by omega) (fun fm ap ac y => ⟨rfl, h1 _ (I2 fm ap ac) y⟩) (fun fm ap ac y => ⟨rfl, h0 _ (I2 fm ap ac) y⟩)
end
end
section
/-! Y: errorAt, expected, traits -/
theorem cp_Span_un {L : Nat} {v1 v2 v3 : Int32} {n i j n' i' j' : Nat} (hL : L ≤ 10) (h : cp_Span L v1 v2 v3 n i j) (h' : cp_Span L v1 v2 v3 n' i' j') : n = n' ∧ i = i' ∧ j = j' := by
  obtain ⟨a1, a2, a3, a4, a5, a6⟩ := h
  obtain ⟨b1, b2, b3, b4, b5, b6⟩ := h'
  have e1 := (nI_eq (by omega) (by omega)).mp (a4.symm.trans b4)
  have e2 := (nI_eq (by omega) (by omega)).mp (a5.symm.trans b5)
  have e3 := (nI_eq (by omega) (by omega)).mp (a6.symm.trans b6)
  omega
theorem cp_tr1 : ∀ a c : Bool, ∀ i, i < 32 → bt ((cond a 1 0) + (cond c 4 0)) i = ((decide (i = 0) && a) || (decide (i = 2) && c)) := by decide +kernel
theorem cp_tr2 : ∀ a c : Bool, ∀ i, i < 32 → bt ((cond a 1 0) + (cond c 4 0) + 2) i = ((decide (i = 0) && a) || (decide (i = 1) || (decide (i = 2) && c))) := by decide +kernel
theorem cp_trA {A B C : Prop} {a c : Bool} (ha : a = true ↔ A) (hc : c = true ↔ C) (hB : ¬ B) : cp_St ((cond a 1 0) + (cond c 4 0)) (fun x => (x = 0 ∧ A) ∨ (x = 1 ∧ B) ∨ (x = 2 ∧ C)) := fun i hi => by
  rw [cp_tr1 a c i hi, Bool.or_eq_true, Bool.and_eq_true, Bool.and_eq_true, decide_eq_true_iff, decide_eq_true_iff, ha, hc]
  constructor
  · rintro (w | w)
    · exact Or.inl w
    · exact Or.inr (Or.inr w)
  · rintro (w | w | w)
    · exact Or.inl w
    · exact absurd w.2 hB
    · exact Or.inr w
theorem cp_trB {A B C : Prop} {a c : Bool} (ha : a = true ↔ A) (hc : c = true ↔ C) (hB : B) : cp_St ((cond a 1 0) + (cond c 4 0) + 2) (fun x => (x = 0 ∧ A) ∨ (x = 1 ∧ B) ∨ (x = 2 ∧ C)) := fun i hi => by
  rw [cp_tr2 a c i hi, Bool.or_eq_true, Bool.or_eq_true, Bool.and_eq_true, Bool.and_eq_true, decide_eq_true_iff, decide_eq_true_iff, decide_eq_true_iff, ha, hc]
  constructor
  · rintro (w | w | w)
    · exact Or.inl w
    · exact Or.inr (Or.inl ⟨w, hB⟩)
    · exact Or.inr (Or.inr w)
  · rintro (w | w | w)
    · exact Or.inl w
    · exact Or.inr (Or.inl w.1)
    · exact Or.inr (Or.inr w)
section
variable {g : gm_G} {L : Nat} {op : Nat → Nat} {cn : Nat → Int32} {w : SY} {v1 : Int32}
theorem yv_errorAt {post : Int32 → SY → Prop} (I : yk_I g op cn L w) (h1 : ∀ w' r, yk_I g op cn L w' → cp_ea g L r → post r w') : wpY_errorAt post w := by
  obtain ⟨f_productions, f_length, f_goal, f_extra, f_measured, f_known, f_more, f_sum, a_left, a_size, a_right, a_text, a_ops, a_constants, a_heights, a_many, a_chosen, a_firstEnd, a_secondEnd, a_values, a_nodes, a_far, a_productive, a_useful, a_covers⟩ := w
  have I0 := I
  obtain ⟨rfl, rfl, G, -⟩ := I0
  have hL := cp_G_L G
  have hs0 : cp_Span L 10 0 (nI L) 0 0 L := ⟨by omega, by omega, Nat.le_refl _, rfl, rfl, rfl⟩
  have lp : ¬ gm_D g 0 0 L → ∀ d k1, k1 = d → k1 ≤ L + 1 → (∀ k', k1 ≤ k' → k' ≤ L → ¬ gm_Bg g k') → ∀ {f_goal f_extra f_measured f_known f_more : Int32} {a_left a_size a_right a_text a_ops a_constants a_heights a_chosen a_firstEnd a_secondEnd a_far a_productive a_useful a_covers : Nat → Int32} {a_many a_values a_nodes : Nat → Int64} {f_sum : Int64},
      yk_I g op cn L (nI (gm_P g), nI L, f_goal, f_extra, f_measured, f_known, f_more, f_sum, a_left, a_size, a_right, a_text, a_ops, a_constants, a_heights, a_many, a_chosen, a_firstEnd, a_secondEnd, a_values, a_nodes, a_far, a_productive, a_useful, a_covers) → wY_errorAt_21 post (d + 1) (nI k1 + (-1)) (nI (gm_P g)) (nI L) f_goal f_extra f_measured f_known f_more f_sum a_left a_size a_right a_text a_ops a_constants a_heights a_many a_chosen a_firstEnd a_secondEnd a_values a_nodes a_far a_productive a_useful a_covers := by
    intro hD d
    induction d with
    | zero =>
      intro k1 hk hkL hno
      intros
      rename_i I2
      subst hk
      rw [wY_errorAt_21]
      exact br_t (by decide) (h1 _ _ I2 (Or.inr ⟨hD, Or.inl ⟨rfl, fun k hk => hno k (Nat.zero_le _) hk⟩⟩))
    | succ d ih =>
      intro k1 hk hkL hno
      intros
      rename_i I2
      subst hk
      rw [pk_m1, wY_errorAt_21]
      refine br_f (nI_pos (by omega)) (yv_isBeg I2 (show d ≤ L by omega) (fun w' I3 hB => ?_) (fun w' I3 hB => ?_))
      · obtain ⟨f_productions, f_length, f_goal, f_extra, f_measured, f_known, f_more, f_sum, a_left, a_size, a_right, a_text, a_ops, a_constants, a_heights, a_many, a_chosen, a_firstEnd, a_secondEnd, a_values, a_nodes, a_far, a_productive, a_useful, a_covers⟩ := w'
        exact br_f (by decide) (h1 _ _ I3 (Or.inr ⟨hD, Or.inr ⟨d, rfl, by omega, hB, fun k' q1 q2 => hno k' q1 q2⟩⟩))
      · obtain ⟨f_productions, f_length, f_goal, f_extra, f_measured, f_known, f_more, f_sum, a_left, a_size, a_right, a_text, a_ops, a_constants, a_heights, a_many, a_chosen, a_firstEnd, a_secondEnd, a_values, a_nodes, a_far, a_productive, a_useful, a_covers⟩ := w'
        obtain ⟨rfl, rfl, I4⟩ := I3
        refine br_t rfl (nm_e (ih d rfl (by omega) (fun k' q1 q2 => ?_) ⟨rfl, rfl, I4⟩))
        rcases Nat.lt_or_ge d k' with y | y
        · exact hno k' y q2
        · have : k' = d := by omega
          subst this; exact hB
  unfold wpY_errorAt
  refine yv_derives I (fun hs => absurd hs0 (hs 0 0 L)) (fun n i j w' hs I' k' hD => ?_) (fun n i j w' hs I' k' hD => ?_)
  · obtain ⟨e1, e2, e3⟩ := cp_Span_un hL hs hs0
    rw [e1, e2, e3] at hD
    obtain ⟨f_productions, f_length, f_goal, f_extra, f_measured, f_known, f_more, f_sum, a_left, a_size, a_right, a_text, a_ops, a_constants, a_heights, a_many, a_chosen, a_firstEnd, a_secondEnd, a_values, a_nodes, a_far, a_productive, a_useful, a_covers⟩ := w'
    exact br_f (by decide) (h1 _ _ I' (Or.inl ⟨rfl, hD⟩))
  · obtain ⟨e1, e2, e3⟩ := cp_Span_un hL hs hs0
    rw [e1, e2, e3] at hD
    obtain ⟨f_productions, f_length, f_goal, f_extra, f_measured, f_known, f_more, f_sum, a_left, a_size, a_right, a_text, a_ops, a_constants, a_heights, a_many, a_chosen, a_firstEnd, a_secondEnd, a_values, a_nodes, a_far, a_productive, a_useful, a_covers⟩ := w'
    obtain ⟨rfl, rfl, I4⟩ := I'
    have I5 : yk_I g op cn L (nI (gm_P g), nI L, f_goal, f_extra, f_measured, f_known, f_more, f_sum, a_left, a_size, a_right, a_text, a_ops, a_constants, a_heights, a_many, a_chosen, a_firstEnd, a_secondEnd, a_values, a_nodes, a_far, a_productive, a_useful, a_covers) := ⟨rfl, rfl, I4⟩
    have := lp hD (L + 1) (L + 1) rfl (Nat.le_refl _) (fun k' q1 q2 => absurd q1 (by omega)) I5
    rw [pk_m1] at this
    exact br_t rfl ⟨L + 2, this⟩
theorem yv_expected {post : Int32 → SY → Prop} (I : yk_I g op cn L w) (h0 : (∀ k, k ≤ L → v1 ≠ nI k) → post (-1) w) (h1 : ∀ k w' r, k ≤ L → v1 = nI k → yk_I g op cn L w' → xk_ea g k r → post r w') : wpY_expected post w v1 := by
  obtain ⟨f_productions, f_length, f_goal, f_extra, f_measured, f_known, f_more, f_sum, a_left, a_size, a_right, a_text, a_ops, a_constants, a_heights, a_many, a_chosen, a_firstEnd, a_secondEnd, a_values, a_nodes, a_far, a_productive, a_useful, a_covers⟩ := w
  have I0 := I
  obtain ⟨rfl, rfl, G, -⟩ := I0
  have hL := cp_G_L G
  rcases Classical.em (∃ k, k ≤ L ∧ v1 = nI k) with ⟨k, hk, e⟩ | z
  · subst e
    have hs0 : cp_Span L 10 0 (nI k) 0 0 k := ⟨by omega, by omega, hk, rfl, rfl, rfl⟩
    have lp : ∀ d t r, t + d = 6 → cp_St r (fun x => (x < t ∧ gm_Ex g k x) ∨ (x = 6 ∧ gm_D g 0 0 k)) → ∀ {f_goal f_extra f_measured f_known f_more : Int32} {a_left a_size a_right a_text a_ops a_constants a_heights a_chosen a_firstEnd a_secondEnd a_far a_productive a_useful a_covers : Nat → Int32} {a_many a_values a_nodes : Nat → Int64} {f_sum : Int64}, yk_I g op cn L (nI (gm_P g), nI L, f_goal, f_extra, f_measured, f_known, f_more, f_sum, a_left, a_size, a_right, a_text, a_ops, a_constants, a_heights, a_many, a_chosen, a_firstEnd, a_secondEnd, a_values, a_nodes, a_far, a_productive, a_useful, a_covers) → wY_expected_34 post (nI k) (d + 1) r (nI t) (nI (gm_P g)) (nI L) f_goal f_extra f_measured f_known f_more f_sum a_left a_size a_right a_text a_ops a_constants a_heights a_many a_chosen a_firstEnd a_secondEnd a_values a_nodes a_far a_productive a_useful a_covers := by
      intro d
      induction d with
      | zero =>
        intro t r ht hr
        intros
        rename_i I2
        rw [wY_expected_34]
        have e6 : t = 6 := by omega
        subst e6
        exact pk_le 6 6 (fun _ => h1 k _ r hk rfl I2 hr) (fun z => absurd z (by omega))
      | succ d ih =>
        intro t r ht hr
        intros
        rename_i I2
        rw [wY_expected_34]
        refine pk_le 6 t (fun z => absurd z (by omega)) (fun _ => yv_isBegT I2 hk (show t < 6 by omega) (fun w' I3 hE => ?_) (fun w' I3 hE => ?_))
        · obtain ⟨f_productions, f_length, f_goal, f_extra, f_measured, f_known, f_more, f_sum, a_left, a_size, a_right, a_text, a_ops, a_constants, a_heights, a_many, a_chosen, a_firstEnd, a_secondEnd, a_values, a_nodes, a_far, a_productive, a_useful, a_covers⟩ := w'
          obtain ⟨rfl, rfl, I4⟩ := I3
          refine br_f (by decide) (nm_e (nm_r (nI_1 _) (ih (t + 1) _ (by omega) (cp_St_i (cp_St_or hr (cp_St_1 (n := t) (by omega))) fun x hx => ?_) ⟨rfl, rfl, I4⟩)))
          constructor
          · rintro ((q | q) | q)
            · exact Or.inl ⟨by omega, q.2⟩
            · exact Or.inr q
            · rw [q]; exact Or.inl ⟨by omega, hE⟩
          · rintro (q | q)
            · by_cases y : x = t
              · exact Or.inr y
              · exact Or.inl (Or.inl ⟨by omega, q.2⟩)
            · exact Or.inl (Or.inr q)
        · obtain ⟨f_productions, f_length, f_goal, f_extra, f_measured, f_known, f_more, f_sum, a_left, a_size, a_right, a_text, a_ops, a_constants, a_heights, a_many, a_chosen, a_firstEnd, a_secondEnd, a_values, a_nodes, a_far, a_productive, a_useful, a_covers⟩ := w'
          obtain ⟨rfl, rfl, I4⟩ := I3
          refine br_t rfl (nm_r (nI_1 _) (ih (t + 1) r (by omega) (cp_St_i hr fun x hx => ?_) ⟨rfl, rfl, I4⟩))
          constructor
          · rintro (q | q)
            · exact Or.inl ⟨by omega, q.2⟩
            · exact Or.inr q
          · rintro (q | q)
            · by_cases y : x = t
              · rw [y] at q; exact absurd q.2 hE
              · exact Or.inl ⟨by omega, q.2⟩
            · exact Or.inr q
    unfold wpY_expected
    refine br_f (nI_pos (by omega)) (pk_le k L (fun _ => yv_derives I (fun hs => absurd hs0 (hs 0 0 k)) (fun n i j w' hs I' k' hD => ?_) (fun n i j w' hs I' k' hD => ?_)) (fun z => absurd z (by omega)))
    · obtain ⟨e1, e2, e3⟩ := cp_Span_un hL hs hs0
      rw [e1, e2, e3] at hD
      obtain ⟨f_productions, f_length, f_goal, f_extra, f_measured, f_known, f_more, f_sum, a_left, a_size, a_right, a_text, a_ops, a_constants, a_heights, a_many, a_chosen, a_firstEnd, a_secondEnd, a_values, a_nodes, a_far, a_productive, a_useful, a_covers⟩ := w'
      obtain ⟨rfl, rfl, I4⟩ := I'
      refine br_f (by decide) ⟨7, lp 6 0 64 rfl (fun x hx => ?_) ⟨rfl, rfl, I4⟩⟩
      rw [cp_b64 x hx, decide_eq_true_iff]
      exact ⟨fun q => Or.inr ⟨q, hD⟩, fun q => by rcases q with q | q; omega; exact q.1⟩
    · obtain ⟨e1, e2, e3⟩ := cp_Span_un hL hs hs0
      rw [e1, e2, e3] at hD
      obtain ⟨f_productions, f_length, f_goal, f_extra, f_measured, f_known, f_more, f_sum, a_left, a_size, a_right, a_text, a_ops, a_constants, a_heights, a_many, a_chosen, a_firstEnd, a_secondEnd, a_values, a_nodes, a_far, a_productive, a_useful, a_covers⟩ := w'
      obtain ⟨rfl, rfl, I4⟩ := I'
      refine br_t rfl ⟨7, lp 6 0 0 rfl (cp_St_i cp_St_0 fun x hx => ?_) ⟨rfl, rfl, I4⟩⟩
      exact ⟨fun q => q.elim, fun q => by rcases q with q | q; omega; exact hD q.2⟩
  · have hz : ∀ k, k ≤ L → v1 ≠ nI k := fun k hk e => z ⟨k, hk, e⟩
    unfold wpY_expected
    refine br_c (fun _ => h0 hz) (fun y => br_c (fun w => ?_) (fun _ => h0 hz))
    obtain ⟨k, hk, e⟩ := nI_of y
    subst e
    rw [nI_leI hk (by omega)] at w
    exact absurd rfl (hz k w)
end
section
variable {g : gm_G} {L : Nat} {f_goal f_extra f_measured f_known f_more : Int32} {a_left a_size a_right a_text a_ops a_constants a_heights a_chosen a_firstEnd a_secondEnd a_far a_productive a_useful a_covers : Nat → Int32} {a_many a_values a_nodes : Nat → Int64} {f_sum : Int64} {c i j p n k m a b r u v q : Nat}
theorem ys_spread {post : SY → Prop} (G : cp_G g L a_right a_size a_text) (hp : p < gm_P g)
    (h : ∀ au, (∀ n, au n = a_useful n ∨ (au n = 1 ∧ ∃ k, k < 3 ∧ gm_s g (3 * p + k) = n + 10)) → (∀ k n, k < 3 → gm_s g (3 * p + k) = n + 10 → au n = 1) → post (nI (gm_P g), nI L, f_goal, f_extra, f_measured, f_known, f_more, f_sum, a_left, a_size, a_right, a_text, a_ops, a_constants, a_heights, a_many, a_chosen, a_firstEnd, a_secondEnd, a_values, a_nodes, a_far, a_productive, au, a_covers)) : wpY_spread post (nI (gm_P g), nI L, f_goal, f_extra, f_measured, f_known, f_more, f_sum, a_left, a_size, a_right, a_text, a_ops, a_constants, a_heights, a_many, a_chosen, a_firstEnd, a_secondEnd, a_values, a_nodes, a_far, a_productive, a_useful, a_covers) (nI p) := by
  have h12 := cp_G_P G
  have ok := cp_G_ok G
  have hs3 := gm_sz_le g p
  have lp : ∀ d k au, k + d = 3 → (∀ n, au n = a_useful n ∨ (au n = 1 ∧ ∃ k, k < 3 ∧ gm_s g (3 * p + k) = n + 10)) → (∀ a n, a < k → gm_s g (3 * p + a) = n + 10 → au n = 1) → wY_spread_2 post (nI p) (nI (gm_P g)) (nI L) f_goal f_extra f_measured f_known f_more f_sum (d + 1) (nI k) a_left a_size a_right a_text a_ops a_constants a_heights a_many a_chosen a_firstEnd a_secondEnd a_values a_nodes a_far a_productive au a_covers := by
    intro d
    induction d with
    | zero =>
      intro k au hk hI hy
      rw [wY_spread_2]
      dsimp only
      rw [nI_clamp (show p < 2 ^ 31 by omega), cp_G_sz G hp]
      exact ⟨vp_in_nI (by omega) (by omega), pk_le (gm_sz g p) k (fun _ => h au hI fun a n a2 => hy a n (by omega)) (fun z => absurd z (by omega))⟩
    | succ d ih =>
      intro k au hk hI hy
      have hz := gm_sz_lt ok hp (show k < 3 by omega)
      have c15 := gm_ok_15 ok hp (show k < 3 by omega)
      rw [wY_spread_2]
      dsimp only
      rw [nI_clamp (show p < 2 ^ 31 by omega), cp_G_sz G hp, ix_3k, nI_clamp (show 3 * p + k < 2 ^ 31 by omega), cp_G_rt G hp (show k < 3 by omega)]
      refine ⟨vp_in_nI (by omega) (by omega), pk_le (gm_sz g p) k (fun w => h au hI fun a n a2 a3 => ?_) (fun w => ⟨vp_in_nI (by omega) (by omega), br_i (cp_Sy_lt10 c15) (fun y => nm_r (nI_1 _) (ih (k + 1) au (by omega) hI fun a n a1 a3 => ?_)) (fun y => ⟨vp_in_nI (by omega) (by omega), ?_⟩)⟩)⟩
      · have hz' := gm_sz_lt ok hp a2
        by_cases e : a < k
        · exact hy a n e a3
        · have := hz'.mpr (by omega); omega
      · by_cases e : a = k
        · subst e; omega
        · exact hy a n (by omega) a3
      · rw [ix_S (by omega), nI_clamp (show gm_s g (3 * p + k) - 10 < 2 ^ 31 by omega), yk_n1]
        refine ⟨vp_in_nI (by omega) (by omega), nm_e (nm_r (nI_1 _) (ih (k + 1) _ (by omega) (fun n => ?_) fun a n a1 a3 => ?_))⟩
        · by_cases e : n = gm_s g (3 * p + k) - 10
          · subst e; rw [pk_us]; exact Or.inr ⟨rfl, k, by omega, by omega⟩
          · rw [pk_un e]; exact hI n
        · by_cases e : n = gm_s g (3 * p + k) - 10
          · subst e; exact pk_us
          · rw [pk_un e]
            refine hy a n ?_ a3
            rcases Nat.lt_or_ge a k with t | t
            · exact t
            · have : a = k := by omega
              subst this; omega
  unfold wpY_spread
  exact ⟨4, lp 3 0 a_useful rfl (fun n => Or.inl rfl) fun a n a1 => absurd a1 (by omega)⟩
/-- round r of the useful ones, before production p -/
def yk_us (g : gm_G) (r p : Nat) (au : Nat → Int32) : Prop :=
  (∀ n, n < 5 → (au n = 0 ∨ au n = 1)) ∧ (∀ n, n < 5 → au n ≠ 0 → gm_Us g n) ∧ (∀ n, n < 5 → gm_U g r n → au n ≠ 0) ∧ (∀ q k n, q < p → gm_U g r (gm_l g q) → gm_aQ g q 0 → k < 3 → gm_s g (3 * q + k) = n + 10 → au n ≠ 0)
theorem ys_tr_60 {post : Int32 → SY → Prop} {J : Int32 → Int32 → Int32 → Int32 → Int32 → Int32 → Int32 → Int32 → Int64 → (Nat → Int32) → (Nat → Int32) → (Nat → Int32) → (Nat → Int32) → (Nat → Int32) → (Nat → Int32) → (Nat → Int32) → (Nat → Int64) → (Nat → Int32) → (Nat → Int32) → (Nat → Int32) → (Nat → Int64) → (Nat → Int64) → (Nat → Int32) → (Nat → Int32) → (Nat → Int32) → (Nat → Int32) → Prop} {x1 : Int32} (G : cp_G g L a_right a_size a_text) (hl : yk_L g a_left) (hP : yk_Bo 5 a_productive (gm_Pd g))
    (hJ : ∀ au, yk_us g r (gm_P g) au → J (nI (r + 1)) (nI (gm_P g)) (nI L) f_goal f_extra f_measured f_known f_more f_sum a_left a_size a_right a_text a_ops a_constants a_heights a_many a_chosen a_firstEnd a_secondEnd a_values a_nodes a_far a_productive au a_covers) :
    ∀ d p au, p + d = gm_P g → yk_us g r p au → wY_traits_60 post J x1 (nI r) (d + 1) (nI p) (nI (gm_P g)) (nI L) f_goal f_extra f_measured f_known f_more f_sum a_left a_size a_right a_text a_ops a_constants a_heights a_many a_chosen a_firstEnd a_secondEnd a_values a_nodes a_far a_productive au a_covers := by
  have h12 := cp_G_P G
  have ok := cp_G_ok G
  intro d
  induction d with
  | zero =>
    intro p au hp hI
    rw [wY_traits_60]
    have e : p = gm_P g := by omega
    subst e
    exact pk_le (gm_P g) (gm_P g) (fun _ => nm_r (nI_1 _) (hJ au hI)) (fun z => absurd z (by omega))
  | succ d ih =>
    intro p au hp hI
    have hp' : p < gm_P g := by omega
    have hl5 := gm_ok_l ok hp'
    obtain ⟨i1, i2, i3, i4⟩ := hI
    have stay : (gm_U g r (gm_l g p) → gm_aQ g p 0 → False) → yk_us g r (p + 1) au := fun hs => ⟨i1, i2, i3, fun q k n h1 h2 h3 h4 h5 => by
      by_cases e : q = p
      · subst e; exact (hs h2 h3).elim
      · exact i4 q k n (by omega) h2 h3 h4 h5⟩
    rw [wY_traits_60]
    refine pk_le (gm_P g) p (fun z => absurd z (by omega)) (fun _ => ?_)
    rw [nI_clamp (show p < 2 ^ 31 by omega), hl p hp', ix_N, nI_clamp (show gm_l g p < 2 ^ 31 by omega)]
    refine ⟨vp_in_nI (by omega) (by omega), vp_in_nI (by omega) (by omega), br_c (fun e => nm_r (nI_1 _) (ih (p + 1) au (by omega) (stay fun z _ => i3 _ hl5 z e))) (fun e => ys_allYield (q := 0) G hp' (by omega) (fun y => br_f (by decide) (ys_spread G hp' fun au' hA hS => nm_r (nI_1 _) (ih (p + 1) au' (by omega) ⟨fun n hn => ?_, fun n hn w => ?_, fun n hn w => ?_, fun q k n h1 h2 h3 h4 h5 => ?_⟩))) (fun y => br_t rfl (nm_r (nI_1 _) (ih (p + 1) au (by omega) (stay fun _ z => y ((yk_aQ_Pd ok hP hp').mpr z))))))⟩
    · rcases hA n with z | z
      · rw [z]; exact i1 n hn
      · exact Or.inr z.1
    · rcases hA n with z | ⟨z, k, hk, hs⟩
      · rw [z] at w; exact i2 n hn w
      · obtain ⟨t, ht⟩ := i2 _ hl5 e
        exact ⟨t + 1, Or.inr ⟨p, k, hp', ht, (yk_aQ_Pd ok hP hp').mp y, hk, hs⟩⟩
    · rcases hA n with z | z
      · rw [z]; exact i3 n hn w
      · rw [z.1]; decide
    · by_cases e' : q = p
      · subst e'; rw [hS k n h4 h5]; decide
      · rcases hA n with z | z
        · rw [z]; exact i4 q k n (by omega) h2 h3 h4 h5
        · rw [z.1]; decide
end
section
variable {g : gm_G} {L : Nat} {op : Nat → Nat} {cn : Nat → Int32} {w : SY} {v1 : Int32}
theorem yv_traits {post : Int32 → SY → Prop} (I : yk_I g op cn L w) (h0 : (∀ n, n < 5 → v1 ≠ nI (n + 10)) → post (-1) w) (h1 : ∀ n w' r, n < 5 → v1 = nI (n + 10) → yk_I g op cn L w' → cp_St r (fun x => (x = 0 ∧ gm_Pd g n) ∨ (x = 1 ∧ gm_D g n 0 0) ∨ (x = 2 ∧ gm_Us g n)) → post r w') : wpY_traits post w v1 := by
  obtain ⟨f_productions, f_length, f_goal, f_extra, f_measured, f_known, f_more, f_sum, a_left, a_size, a_right, a_text, a_ops, a_constants, a_heights, a_many, a_chosen, a_firstEnd, a_secondEnd, a_values, a_nodes, a_far, a_productive, a_useful, a_covers⟩ := w
  obtain ⟨rfl, rfl, G, hl, O, hkn, hf⟩ := I
  have h12 := cp_G_P G
  have hL := cp_G_L G
  have ok := cp_G_ok G
  unfold wpY_traits
  refine ys_nonterminal (fun n hn e => br_f (by decide) (ys_findProductive G hl fun ap hP => ⟨6, ?_⟩)) (fun hz => br_t rfl (h0 hz))
  subst e
  have I2 : ∀ au, yk_I g op cn L (nI (gm_P g), nI L, f_goal, f_extra, f_measured, f_known, f_more, f_sum, a_left, a_size, a_right, a_text, a_ops, a_constants, a_heights, a_many, a_chosen, a_firstEnd, a_secondEnd, a_values, a_nodes, a_far, ap, au, a_covers) := fun au => ⟨rfl, rfl, G, hl, O, hkn, hf⟩
  have hs0 : cp_Span L (nI (n + 10)) 0 0 n 0 0 := ⟨hn, Nat.le_refl _, Nat.zero_le _, rfl, rfl, rfl⟩
  have w145 : ∀ au (a c : Bool), (a = true ↔ gm_Pd g n) → (c = true ↔ gm_Us g n) → wY_traits_145 post (nI (n + 10)) (cond c 4 0) (cond a 1 0) (nI (gm_P g)) (nI L) f_goal f_extra f_measured f_known f_more f_sum a_left a_size a_right a_text a_ops a_constants a_heights a_many a_chosen a_firstEnd a_secondEnd a_values a_nodes a_far ap au a_covers := by
    intro au a c ha hc
    unfold wY_traits_145
    refine nm_e (yv_derives (I2 au) (fun hs => absurd hs0 (hs n 0 0)) (fun m i j w' hs I' k' hD => ?_) (fun m i j w' hs I' k' hD => ?_))
    · obtain ⟨e1, e2, e3⟩ := cp_Span_un hL hs hs0
      rw [e1, e2, e3] at hD
      obtain ⟨f_productions, f_length, f_goal, f_extra, f_measured, f_known, f_more, f_sum, a_left, a_size, a_right, a_text, a_ops, a_constants, a_heights, a_many, a_chosen, a_firstEnd, a_secondEnd, a_values, a_nodes, a_far, a_productive, a_useful, a_covers⟩ := w'
      exact br_f (by decide) (h1 n _ _ hn rfl I' (cp_trB ha hc hD))
    · obtain ⟨e1, e2, e3⟩ := cp_Span_un hL hs hs0
      rw [e1, e2, e3] at hD
      obtain ⟨f_productions, f_length, f_goal, f_extra, f_measured, f_known, f_more, f_sum, a_left, a_size, a_right, a_text, a_ops, a_constants, a_heights, a_many, a_chosen, a_firstEnd, a_secondEnd, a_values, a_nodes, a_far, a_productive, a_useful, a_covers⟩ := w'
      exact br_t rfl (h1 n _ _ hn rfl I' (cp_trA ha hc hD))
  have rounds : ∀ d r au, r + d = 5 → yk_us g r 0 au → wY_traits_53 post (nI (n + 10)) (d + 1) (nI r) (nI (gm_P g)) (nI L) f_goal f_extra f_measured f_known f_more f_sum a_left a_size a_right a_text a_ops a_constants a_heights a_many a_chosen a_firstEnd a_secondEnd a_values a_nodes a_far ap au a_covers := by
    intro d
    induction d with
    | zero =>
      intro r au hr hI
      have e : r = 5 := by omega
      subst e
      have w128 : ∀ a : Bool, (a = true ↔ gm_Pd g n) → wY_traits_128 post (nI (n + 10)) (cond a 1 0) (nI (gm_P g)) (nI L) f_goal f_extra f_measured f_known f_more f_sum a_left a_size a_right a_text a_ops a_constants a_heights a_many a_chosen a_firstEnd a_secondEnd a_values a_nodes a_far ap au a_covers := by
        intro a ha
        unfold wY_traits_128
        rw [ix_N, nI_clamp (show n < 2 ^ 31 by omega)]
        refine ⟨vp_in_nI (by omega) (by omega), br_c (fun z => w145 au a false ha ⟨fun q => absurd q (by decide), fun q => absurd z (hI.2.2.1 n hn (gm_Us_5 ok q))⟩) (fun z => w145 au a true ha ⟨fun _ => hI.2.1 n hn z, fun _ => rfl⟩)⟩
      rw [wY_traits_53]
      dsimp only
      rw [ix_N, nI_clamp (show n < 2 ^ 31 by omega)]
      exact pk_le 5 5 (fun _ => ⟨vp_in_nI (by omega) (by omega), br_c (fun z => w128 false ⟨fun q => absurd q (by decide), fun q => absurd z ((yk_Bo_i hP hn).mpr q)⟩) (fun z => w128 true ⟨fun _ => (yk_Bo_i hP hn).mp z, fun _ => rfl⟩)⟩) (fun z => absurd z (by omega))
    | succ d ih =>
      intro r au hr hI
      rw [wY_traits_53]
      refine pk_le 5 r (fun z => absurd z (by omega)) (fun _ => ⟨gm_P g + 1, ys_tr_60 (r := r) G hl hP (fun au' hI' => ih (r + 1) au' (by omega) ⟨hI'.1, hI'.2.1, fun m hm q => ?_, fun q k m hq => absurd hq (by omega)⟩) (gm_P g) 0 au (by omega) hI⟩)
      rcases q with q | ⟨p, k, q1, q2, q3, q4, q5⟩
      · exact hI'.2.2.1 m hm q
      · exact hI'.2.2.2 p k m q1 q2 q3 q4 q5
  have lp : ∀ d c au, c + d = 5 → (∀ m, m < c → (m ≠ 0 → au m = 0) ∧ (m = 0 → (au m = 0 ∧ ¬ gm_Pd g 0) ∨ (au m = 1 ∧ gm_Pd g 0))) → wY_traits_16 post (nI (n + 10)) (nI (gm_P g)) (nI L) f_goal f_extra f_measured f_known f_more f_sum (d + 1) (nI c) a_left a_size a_right a_text a_ops a_constants a_heights a_many a_chosen a_firstEnd a_secondEnd a_values a_nodes a_far ap au a_covers := by
    intro d
    induction d with
    | zero =>
      intro c au hc hz
      rw [wY_traits_16]
      refine pk_le 5 c (fun _ => ⟨6, rounds 5 0 au rfl ⟨fun m hm => ?_, fun m hm q => ?_, fun m hm q => ?_, fun q k m hq => absurd hq (by omega)⟩⟩) (fun z => absurd z (by omega))
      · by_cases e : m = 0
        · rcases (hz m (by omega)).2 e with y | y
          · exact Or.inl y.1
          · exact Or.inr y.1
        · exact Or.inl ((hz m (by omega)).1 e)
      · by_cases e : m = 0
        · rcases (hz m (by omega)).2 e with y | y
          · exact absurd y.1 q
          · exact ⟨0, e, y.2⟩
        · exact absurd ((hz m (by omega)).1 e) q
      · obtain ⟨e, q⟩ := q
        rcases (hz m (by omega)).2 e with y | y
        · exact absurd q y.2
        · rw [y.1]; decide
    | succ d ih =>
      intro c au hc hz
      have nx : ∀ x : Int32, ((c ≠ 0 → x = 0) ∧ (c = 0 → (x = 0 ∧ ¬ gm_Pd g 0) ∨ (x = 1 ∧ gm_Pd g 0))) → wY_traits_16 post (nI (n + 10)) (nI (gm_P g)) (nI L) f_goal f_extra f_measured f_known f_more f_sum (d + 1) (nI (c + 1)) a_left a_size a_right a_text a_ops a_constants a_heights a_many a_chosen a_firstEnd a_secondEnd a_values a_nodes a_far ap (upd au c x) a_covers := fun x hx => ih (c + 1) _ (by omega) fun m hm => by
        by_cases e : m = c
        · subst e; rw [pk_us]; exact hx
        · rw [pk_un e]; exact hz m (by omega)
      rw [wY_traits_16]
      refine pk_le 5 c (fun z => absurd z (by omega)) (fun _ => ?_)
      rw [nI_clamp (show c < 2 ^ 31 by omega), yk_n0, yk_n1]
      refine pk_eq c 0 (fun e => br_c (fun z => ⟨vp_in_nI (by omega) (by omega), nm_e (nm_r (nI_1 _) (nx 0 ⟨fun _ => rfl, fun _ => Or.inl ⟨rfl, fun q => absurd z ((yk_Bo_i hP (by omega)).mpr q)⟩⟩))⟩) (fun z => ⟨vp_in_nI (by omega) (by omega), nm_e (nm_r (nI_1 _) (nx 1 ⟨fun q => absurd e q, fun _ => Or.inr ⟨rfl, (yk_Bo_i hP (by omega)).mp z⟩⟩))⟩)) (fun e => ⟨vp_in_nI (by omega) (by omega), nm_e (nm_r (nI_1 _) (nx 0 ⟨fun _ => rfl, fun q => absurd q e⟩))⟩)
  exact lp 5 0 a_useful rfl fun m hm => absurd hm (by omega)
end
end
section
/-! what is owed -/
def i_Rel (k : Nat) (u : SX) (v : SY) : Prop := ∃ g op cn L, xk_I g op cn L u ∧ yk_I g op cn L v
theorem yk_I_ok {g : gm_G} {op : Nat → Nat} {cn : Nat → Int32} {L : Nat} {v : SY} (h : yk_I g op cn L v) : gm_ok g ∧ L ≤ 10 := by
  obtain ⟨f_productions, f_length, f_goal, f_extra, f_measured, f_known, f_more, f_sum, a_left, a_size, a_right, a_text, a_ops, a_constants, a_heights, a_many, a_chosen, a_firstEnd, a_secondEnd, a_values, a_nodes, a_far, a_productive, a_useful, a_covers⟩ := v
  obtain ⟨-, -, G, -⟩ := h
  exact ⟨cp_G_ok G, cp_G_L G⟩
theorem i_up {k : Nat} {u : SX} {v : SY} (h : i_Rel k u v) : i_Rel (k + 5) u v := h
theorem i_vc0 : wpX_init (fun u => wpY_init (fun v => i_Rel 0 u v)) := xv_init fun u I => yv_init fun v J => ⟨_, _, _, _, I, J⟩
theorem cp_nb_n {g : gm_G} {L : Nat} {v1 : Int32} {k : Nat} (h : cp_nb g L v1) (hk : k < 2 ^ 31) (e : v1 = nI k) (h0 : 0 < gm_Ht g 0 0 L) (h1 : k < gm_N g 0 0 L) (h2 : gm_N g 0 0 L ≤ 1000000000) : False := by
  rcases h with z | z | ⟨k', hk', e', z⟩
  · rw [e] at z; exact nI_pos hk z
  · omega
  · have := (nI_eq hk hk').mp (e.symm.trans e')
    omega
theorem cp_pA_un {v1 v2 v3 v4 : Int32} {n a b c n' a' b' c' : Nat} (h : cp_pA v1 v2 v3 v4 n a b c) (h' : cp_pA v1 v2 v3 v4 n' a' b' c') : n' = n ∧ a' = a ∧ b' = b ∧ c' = c := by
  obtain ⟨p1, p2, p3, p4, p5, p6, p7, p8, -⟩ := h
  obtain ⟨q1, q2, q3, q4, q5, q6, q7, q8, -⟩ := h'
  have hv : ∀ {x}, cp_v x → x < 15 := fun {x} hx => by unfold cp_v at hx; omega
  have e := (nI_eq (by omega) (by omega)).mp (q2.symm.trans p2)
  exact ⟨by omega, (cp_Sy_inj (hv q3) (hv p3)).mp (q4.symm.trans p4), (cp_Sy_inj (hv q5) (hv p5)).mp (q6.symm.trans p6), (cp_Sy_inj (hv q7) (hv p7)).mp (q8.symm.trans p8)⟩
theorem i_vc_produce {k : Nat} {u : SX} {v : SY} (I : i_Rel k u v) (hk : k + 5 ≤ 2560) (v1 : Int32) (v2 : Int32) (v3 : Int32) (v4 : Int32) : wpX_produce (fun r u' => wpY_produce (fun r' v' => r' = r ∧ i_Rel (k + 5) u' v') v v1 v2 v3 v4) u v1 v2 v3 v4 := by
  obtain ⟨g, op, cn, L, X, Y⟩ := I
  refine xv_produce X (fun hz => ?_) (fun n a b c hA hP => ?_) (fun n a b c u' hA hP X' => ?_)
  · exact yv_produce Y (fun _ => ⟨rfl, g, op, cn, L, X, Y⟩) (fun n a b c hA => absurd hA (hz n a b c)) (fun n a b c _ hA => absurd hA (hz n a b c))
  · exact yv_produce Y (fun hz => absurd hA (hz n a b c)) (fun _ _ _ _ _ _ => ⟨rfl, g, op, cn, L, X, Y⟩) (fun _ _ _ _ _ _ hP' => absurd hP (by omega))
  · refine yv_produce Y (fun hz => absurd hA (hz n a b c)) (fun _ _ _ _ _ hP' => absurd hP' (by omega)) (fun n' a' b' c' w' hA' _ Y' => ?_)
    obtain ⟨rfl, rfl, rfl, rfl⟩ := cp_pA_un hA hA'
    exact ⟨rfl, _, _, _, _, X', Y'⟩
theorem i_vc_retract {k : Nat} {u : SX} {v : SY} (I : i_Rel k u v) (hk : k + 5 ≤ 2560) : wpX_retract (fun r u' => wpY_retract (fun r' v' => r' = r ∧ i_Rel (k + 5) u' v') v) u := by
  obtain ⟨g, op, cn, L, X, Y⟩ := I
  refine xv_retract X (fun hz => ?_) (fun u' hz X' => ?_)
  · exact yv_retract Y (fun _ => ⟨rfl, g, op, cn, L, X, Y⟩) (fun _ h => absurd hz h)
  · exact yv_retract Y (fun h => absurd h hz) (fun w' _ Y' => ⟨rfl, _, _, _, _, X', Y'⟩)
theorem i_vc_action {k : Nat} {u : SX} {v : SY} (I : i_Rel k u v) (hk : k + 5 ≤ 2560) (v1 : Int32) (v2 : Int32) (v3 : Int32) : wpX_action (fun r u' => wpY_action (fun r' v' => r' = r ∧ i_Rel (k + 5) u' v') v v1 v2 v3) u v1 v2 v3 := by
  obtain ⟨g, op, cn, L, X, Y⟩ := I
  have ok := (yk_I_ok Y).1
  have h12 : gm_P g ≤ 12 := ok.1
  refine xv_action X (fun hz => ?_) (fun p o u' hA X' => ?_)
  · exact yv_action Y (fun _ => ⟨rfl, g, op, cn, L, X, Y⟩) (fun p o _ hA => absurd hA (hz p o))
  · refine yv_action Y (fun hz => absurd hA (hz p o)) (fun p' o' w' hA' Y' => ?_)
    obtain ⟨a1, a2, a3, a4⟩ := hA
    obtain ⟨b1, b2, b3, b4⟩ := hA'
    have e1 : p' = p := (nI_eq (by omega) (by omega)).mp (b3.symm.trans a3)
    have e2 : o' = o := (nI_eq (by omega) (by omega)).mp (b4.symm.trans a4)
    subst e1 e2
    exact ⟨rfl, _, _, _, _, X', Y'⟩
theorem i_vc_insert {k : Nat} {u : SX} {v : SY} (I : i_Rel k u v) (hk : k + 5 ≤ 2560) (v1 : Int32) (v2 : Int32) : wpX_insert (fun r u' => wpY_insert (fun r' v' => r' = r ∧ i_Rel (k + 5) u' v') v v1 v2) u v1 v2 := by
  obtain ⟨g, op, cn, L, X, Y⟩ := I
  refine xv_insert X (fun hz => ?_) (fun p o u' hA X' => ?_)
  · exact yv_insert Y (fun _ => ⟨rfl, g, op, cn, L, X, Y⟩) (fun p o _ hA => absurd hA (hz p o))
  · refine yv_insert Y (fun hz => absurd hA (hz p o)) (fun p' o' w' hA' Y' => ?_)
    obtain ⟨a1, a0, a2, a3, a4⟩ := hA
    obtain ⟨b1, b0, b2, b3, b4⟩ := hA'
    have e1 : p' = p := (nI_eq (by omega) (by omega)).mp (b3.symm.trans a3)
    have e2 : o' = o := (nI_eq (by omega) (by omega)).mp (b4.symm.trans a4)
    subst e1 e2
    exact ⟨rfl, _, _, _, _, X', Y'⟩
theorem i_vc_erase {k : Nat} {u : SX} {v : SY} (I : i_Rel k u v) (hk : k + 5 ≤ 2560) (v1 : Int32) : wpX_erase (fun r u' => wpY_erase (fun r' v' => r' = r ∧ i_Rel (k + 5) u' v') v v1) u v1 := by
  obtain ⟨g, op, cn, L, X, Y⟩ := I
  have hL := (yk_I_ok Y).2
  refine xv_erase X (fun hz => ?_) (fun p u' hA X' => ?_)
  · exact yv_erase Y (fun _ => ⟨rfl, g, op, cn, L, X, Y⟩) (fun p _ hA => absurd hA (hz p))
  · refine yv_erase Y (fun hz => absurd hA (hz p)) (fun p' w' hA' Y' => ?_)
    obtain ⟨a1, a3⟩ := hA
    obtain ⟨b1, b3⟩ := hA'
    have e1 : p' = p := (nI_eq (by omega) (by omega)).mp (b3.symm.trans a3)
    subst e1
    exact ⟨rfl, _, _, _, _, X', Y'⟩
theorem i_vc_set {k : Nat} {u : SX} {v : SY} (I : i_Rel k u v) (hk : k + 5 ≤ 2560) (v1 : Int32) (v2 : Int32) : wpX_set (fun r u' => wpY_set (fun r' v' => r' = r ∧ i_Rel (k + 5) u' v') v v1 v2) u v1 v2 := by
  obtain ⟨g, op, cn, L, X, Y⟩ := I
  have hL := (yk_I_ok Y).2
  refine xv_set X (fun hz => ?_) (fun p o u' hA X' => ?_)
  · exact yv_set Y (fun _ => ⟨rfl, g, op, cn, L, X, Y⟩) (fun p o _ hA => absurd hA (hz p o))
  · refine yv_set Y (fun hz => absurd hA (hz p o)) (fun p' o' w' hA' Y' => ?_)
    obtain ⟨a1, a2, a3, a4⟩ := hA
    obtain ⟨b1, b2, b3, b4⟩ := hA'
    have e1 : p' = p := (nI_eq (by omega) (by omega)).mp (b3.symm.trans a3)
    have e2 : o' = o := (nI_eq (by omega) (by omega)).mp (b4.symm.trans a4)
    subst e1 e2
    exact ⟨rfl, _, _, _, _, X', Y'⟩
theorem i_vc_derives {k : Nat} {u : SX} {v : SY} (I : i_Rel k u v) (hk : k + 5 ≤ 2560) (v1 : Int32) (v2 : Int32) (v3 : Int32) : wpX_derives (fun r u' => wpY_derives (fun r' v' => r' = r ∧ i_Rel (k + 5) u' v') v v1 v2 v3) u v1 v2 v3 := by
  obtain ⟨g, op, cn, L, X, Y⟩ := I
  have hL := (yk_I_ok Y).2
  refine xv_derives X (fun hz => ?_) (fun n i j u' hA X' hD => ?_) (fun n i j u' hA X' hD => ?_)
  · exact yv_derives Y (fun _ => ⟨rfl, g, op, cn, L, X, Y⟩) (fun n i j _ hA => absurd hA (hz n i j)) (fun n i j _ hA => absurd hA (hz n i j))
  · refine yv_derives Y (fun hz => absurd hA (hz n i j)) (fun n' i' j' w' hA' Y' _ hD' => ⟨rfl, _, _, _, _, X', Y'⟩) (fun n' i' j' w' hA' Y' _ hD' => ?_)
    obtain ⟨rfl, rfl, rfl⟩ := cp_Span_un hL hA hA'
    exact absurd hD hD'
  · refine yv_derives Y (fun hz => absurd hA (hz n i j)) (fun n' i' j' w' hA' Y' _ hD' => ?_) (fun n' i' j' w' hA' Y' _ hD' => ⟨rfl, _, _, _, _, X', Y'⟩)
    obtain ⟨rfl, rfl, rfl⟩ := cp_Span_un hL hA hA'
    exact absurd hD' hD
theorem i_vc_trees {k : Nat} {u : SX} {v : SY} (I : i_Rel k u v) (hk : k + 5 ≤ 2560) (v1 : Int32) (v2 : Int32) (v3 : Int32) : wpX_trees (fun r u' => wpY_trees (fun r' v' => r' = r ∧ i_Rel (k + 5) u' v') v v1 v2 v3) u v1 v2 v3 := by
  obtain ⟨g, op, cn, L, X, Y⟩ := I
  have hL := (yk_I_ok Y).2
  refine xv_trees X (fun hz => ?_) (fun n i j u' hA X' hD => ?_) (fun n i j u' hA X' hD => ?_)
  · exact yv_trees Y (fun _ => ⟨rfl, g, op, cn, L, X, Y⟩) (fun n i j _ hA => absurd hA (hz n i j)) (fun n i j _ hA => absurd hA (hz n i j))
  · refine yv_trees Y (fun hz => absurd hA (hz n i j)) (fun n' i' j' w' hA' Y' hD' => ?_) (fun n' i' j' w' hA' Y' hD' => ?_)
    · obtain ⟨rfl, rfl, rfl⟩ := cp_Span_un hL hA hA'
      exact ⟨rfl, _, _, _, _, X', Y'⟩
    · obtain ⟨rfl, rfl, rfl⟩ := cp_Span_un hL hA hA'
      exact absurd hD hD'
  · refine yv_trees Y (fun hz => absurd hA (hz n i j)) (fun n' i' j' w' hA' Y' hD' => ?_) (fun n' i' j' w' hA' Y' hD' => ⟨rfl, _, _, _, _, X', Y'⟩)
    obtain ⟨rfl, rfl, rfl⟩ := cp_Span_un hL hA hA'
    exact absurd hD' hD
theorem i_vc_height {k : Nat} {u : SX} {v : SY} (I : i_Rel k u v) (hk : k + 5 ≤ 2560) (v1 : Int32) (v2 : Int32) (v3 : Int32) : wpX_height (fun r u' => wpY_height (fun r' v' => r' = r ∧ i_Rel (k + 5) u' v') v v1 v2 v3) u v1 v2 v3 := by
  obtain ⟨g, op, cn, L, X, Y⟩ := I
  have hL := (yk_I_ok Y).2
  refine xv_height X (fun hz => ?_) (fun n i j u' hA X' => ?_)
  · exact yv_height Y (fun _ => ⟨rfl, g, op, cn, L, X, Y⟩) (fun n i j _ hA => absurd hA (hz n i j))
  · refine yv_height Y (fun hz => absurd hA (hz n i j)) (fun n' i' j' w' hA' Y' _ => ?_)
    obtain ⟨rfl, rfl, rfl⟩ := cp_Span_un hL hA hA'
    exact ⟨rfl, _, _, _, _, X', Y'⟩
theorem i_vc_longest {k : Nat} {u : SX} {v : SY} (I : i_Rel k u v) (hk : k + 5 ≤ 2560) (v1 : Int32) (v2 : Int32) : wpX_longest (fun r u' => wpY_longest (fun r' v' => r' = r ∧ i_Rel (k + 5) u' v') v v1 v2) u v1 v2 := by
  obtain ⟨g, op, cn, L, X, Y⟩ := I
  have hL := (yk_I_ok Y).2
  refine xv_longest X (fun hz => ?_) (fun n i u' r hA X' hr => ?_)
  · exact yv_longest Y (fun _ => ⟨rfl, g, op, cn, L, X, Y⟩) (fun n i _ _ hA => absurd hA (hz n i))
  · refine yv_longest Y (fun hz => absurd hA (hz n i)) (fun n' i' w' r' hA' Y' hr' => ?_)
    obtain ⟨a1, a2, a3, a4⟩ := hA
    obtain ⟨b1, b2, b3, b4⟩ := hA'
    have e1 : n' + 10 = n + 10 := (nI_eq (by omega) (by omega)).mp (b3.symm.trans a3)
    have e2 : i' = i := (nI_eq (by omega) (by omega)).mp (b4.symm.trans a4)
    have e3 : n' = n := by omega
    subst e2 e3
    exact ⟨cp_lg_un hr' hr, _, _, _, _, X', Y'⟩
theorem i_vc_value {k : Nat} {u : SX} {v : SY} (I : i_Rel k u v) (hk : k + 5 ≤ 2560) (v1 : Int32) (v2 : Int32) (v3 : Int32) : wpX_value (fun r u' => wpY_value (fun r' v' => r' = r ∧ i_Rel (k + 5) u' v') v v1 v2 v3) u v1 v2 v3 := by
  obtain ⟨g, op, cn, L, X, Y⟩ := I
  have hL := (yk_I_ok Y).2
  refine xv_value X (fun hz => ?_) (fun n i j u' hA X' hD => ?_) (fun n i j u' hA X' hD => ?_)
  · exact yv_value Y (fun _ => ⟨rfl, g, op, cn, L, X, Y⟩) (fun n i j _ hA => absurd hA (hz n i j)) (fun n i j _ hA => absurd hA (hz n i j))
  · refine yv_value Y (fun hz => absurd hA (hz n i j)) (fun n' i' j' w' hA' Y' hD' => ?_) (fun n' i' j' w' hA' Y' hD' => ?_)
    · obtain ⟨rfl, rfl, rfl⟩ := cp_Span_un hL hA hA'
      exact ⟨rfl, _, _, _, _, X', Y'⟩
    · obtain ⟨rfl, rfl, rfl⟩ := cp_Span_un hL hA hA'
      omega
  · refine yv_value Y (fun hz => absurd hA (hz n i j)) (fun n' i' j' w' hA' Y' hD' => ?_) (fun n' i' j' w' hA' Y' hD' => ⟨rfl, _, _, _, _, X', Y'⟩)
    obtain ⟨rfl, rfl, rfl⟩ := cp_Span_un hL hA hA'
    omega
theorem i_vc_node {k : Nat} {u : SX} {v : SY} (I : i_Rel k u v) (hk : k + 5 ≤ 2560) (v1 : Int32) : wpX_node (fun r u' => wpY_node (fun r' v' => r' = r ∧ i_Rel (k + 5) u' v') v v1) u v1 := by
  obtain ⟨g, op, cn, L, X, Y⟩ := I
  refine xv_node X (fun u' X' hb => ?_) (fun k u' h1 h2 h3 h4 h5 X' => ?_)
  · exact yv_node Y (fun w' Y' _ => ⟨rfl, _, _, _, _, X', Y'⟩) (fun k w' h1 h2 h3 h4 h5 Y' => (cp_nb_n hb h1 h2 h3 h4 h5).elim)
  · refine yv_node Y (fun w' Y' hb => (cp_nb_n hb h1 h2 h3 h4 h5).elim) (fun k' w' q1 q2 q3 q4 q5 Y' => ?_)
    have e : k' = k := (nI_eq q1 h1).mp (q2.symm.trans h2)
    subst e
    exact ⟨rfl, _, _, _, _, X', Y'⟩
theorem i_vc_distance {k : Nat} {u : SX} {v : SY} (I : i_Rel k u v) (hk : k + 5 ≤ 2560) (v1 : Int32) (v2 : Int32) (v3 : Int32) : wpX_distance (fun r u' => wpY_distance (fun r' v' => r' = r ∧ i_Rel (k + 5) u' v') v v1 v2 v3) u v1 v2 v3 := by
  obtain ⟨g, op, cn, L, X, Y⟩ := I
  obtain ⟨ok, hL⟩ := yk_I_ok Y
  refine xv_distance X (fun hz => ?_) (fun n i j u' hA X' hD => ?_) (fun n i j u' x hA X' hp hD => ?_)
  · exact yv_distance Y (fun _ => ⟨rfl, g, op, cn, L, X, Y⟩) (fun n i j _ hA => absurd hA (hz n i j)) (fun n i j _ _ hA => absurd hA (hz n i j))
  · refine yv_distance Y (fun hz => absurd hA (hz n i j)) (fun n' i' j' w' hA' Y' hD' => ⟨rfl, _, _, _, _, X', Y'⟩) (fun n' i' j' w' y hA' Y' hD' => ?_)
    obtain ⟨rfl, rfl, rfl⟩ := cp_Span_un hL hA hA'
    exact absurd (gm_Ye_Pd ok hD'.1) hD
  · refine yv_distance Y (fun hz => absurd hA (hz n i j)) (fun n' i' j' w' hA' Y' hD' => ?_) (fun n' i' j' w' y hA' Y' hD' => ?_)
    · obtain ⟨rfl, rfl, rfl⟩ := cp_Span_un hL hA hA'
      obtain ⟨y, hy⟩ := gm_Pd_Ye ok hp hA.2.1
      exact absurd hy (hD' y)
    · obtain ⟨rfl, rfl, rfl⟩ := cp_Span_un hL hA hA'
      have hjL := hA.2.2.1
      exact ⟨congrArg nI (gm_FXY ok hA.2.1 (by omega) hp hD hD').symm, _, _, _, _, X', Y'⟩
theorem i_vc_errorAt {k : Nat} {u : SX} {v : SY} (I : i_Rel k u v) (hk : k + 5 ≤ 2560) : wpX_errorAt (fun r u' => wpY_errorAt (fun r' v' => r' = r ∧ i_Rel (k + 5) u' v') v) u := by
  obtain ⟨g, op, cn, L, X, Y⟩ := I
  exact xv_errorAt X fun u' r X' hr => yv_errorAt Y fun w' r' Y' hr' => ⟨cp_ea_un hr' hr, _, _, _, _, X', Y'⟩
theorem i_vc_expected {k : Nat} {u : SX} {v : SY} (I : i_Rel k u v) (hk : k + 5 ≤ 2560) (v1 : Int32) : wpX_expected (fun r u' => wpY_expected (fun r' v' => r' = r ∧ i_Rel (k + 5) u' v') v v1) u v1 := by
  obtain ⟨g, op, cn, L, X, Y⟩ := I
  have hL := (yk_I_ok Y).2
  refine xv_expected X (fun hz => ?_) (fun n u' r hn hA X' hr => ?_)
  · exact yv_expected Y (fun _ => ⟨rfl, g, op, cn, L, X, Y⟩) (fun n _ _ hn hA => absurd hA (hz n hn))
  · refine yv_expected Y (fun hz => absurd hA (hz n hn)) (fun n' w' r' hn' hA' Y' hr' => ?_)
    have e : n' = n := (nI_eq (by omega) (by omega)).mp (hA'.symm.trans hA)
    subst e
    exact ⟨cp_St_eq hr' hr fun _ _ => Iff.rfl, _, _, _, _, X', Y'⟩
theorem i_vc_traits {k : Nat} {u : SX} {v : SY} (I : i_Rel k u v) (hk : k + 5 ≤ 2560) (v1 : Int32) : wpX_traits (fun r u' => wpY_traits (fun r' v' => r' = r ∧ i_Rel (k + 5) u' v') v v1) u v1 := by
  obtain ⟨g, op, cn, L, X, Y⟩ := I
  refine xv_traits X (fun hz => ?_) (fun n u' r hn hA X' hr => ?_)
  · exact yv_traits Y (fun _ => ⟨rfl, g, op, cn, L, X, Y⟩) (fun n _ _ hn hA => absurd hA (hz n hn))
  · refine yv_traits Y (fun hz => absurd hA (hz n hn)) (fun n' w' r' hn' hA' Y' hr' => ?_)
    have e : n' + 10 = n + 10 := (nI_eq (by omega) (by omega)).mp (hA'.symm.trans hA)
    have e2 : n' = n := by omega
    subst e2
    exact ⟨cp_St_eq hr' hr fun _ _ => Iff.rfl, _, _, _, _, X', Y'⟩
end

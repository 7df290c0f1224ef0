section
/-! pure rows to paste: stores, nI and lN arithmetic, masks, shifts, narrowing, branches by naturals (pk_le, pk_lt, pk_eq), loops (lp1 .. lp16: the measure of the state; rp1 ..: recursion), negatives. Take what you need -/
theorem pk_us {f : Nat → Int32} {k : Nat} {x : Int32} : upd f k x k = x := if_pos rfl
theorem pk_un {f : Nat → Int32} {k j : Nat} {x : Int32} (h : j ≠ k) : upd f k x j = f j := if_neg h
theorem pk_uLs {f : Nat → Int64} {k : Nat} {x : Int64} : vp_updL f k x k = x := if_pos rfl
theorem pk_uLn {f : Nat → Int64} {k j : Nat} {x : Int64} (h : j ≠ k) : vp_updL f k x j = f j := if_neg h
theorem pk_sub {a b : Nat} (h : b ≤ a) : nI a - nI b = nI (a - b) := by
  obtain ⟨c, rfl⟩ : ∃ c, a = c + b := ⟨a - b, by omega⟩
  rw [← nI_add, Int32.add_sub_cancel, Nat.add_sub_cancel]
theorem pk_m1 (n : Nat) : nI (n + 1) + (-1) = nI n := by
  rw [← nI_1, Int32.add_assoc, show (1 : Int32) + (-1) = 0 from rfl, Int32.add_zero]
theorem pk_mul (a b : Nat) : nI a * nI b = nI (a * b) := (Int32.ofNat_mul a b).symm
theorem pk_div {a d : Nat} (ha : a < 2 ^ 31) (h0 : 0 < d) (hd : d < 2 ^ 31) : nI a / nI d = nI (a / d) := by
  apply Int32.toInt_inj.mp
  rw [lg_idiv_nonneg (by rw [nI_toInt ha]; omega) (by rw [nI_toInt hd]; omega), nI_toInt ha, nI_toInt hd, nI_toInt (Nat.lt_of_le_of_lt (Nat.div_le_self a d) ha)]
  first | rfl | exact (Int.natCast_ediv _ _).symm
theorem pk_rem {a d : Nat} (ha : a < 2 ^ 31) (h0 : 0 < d) (hd : d < 2 ^ 31) : nI a - nI a / nI d * nI d = nI (a % d) := by
  rw [pk_div ha h0 hd, pk_mul, pk_sub (Nat.div_mul_le_self a d)]
  exact congrArg nI (by have := Nat.div_add_mod' a d; omega)
theorem pk_sub_toInt {a b : Nat} (ha : a < 2 ^ 30) (hb : b < 2 ^ 30) : (nI a - nI b).toInt = (a : Int) - b := by
  rw [Int32.toInt_sub, nI_toInt (by omega), nI_toInt (by omega)]
  exact Int.bmod_eq_of_le (by omega) (by omega)
theorem pk_sneg {a b : Nat} (hb : b < 2 ^ 30) (h : a < b) : nI a - nI b < 0 := by
  rw [Int32.lt_iff_toInt_lt, pk_sub_toInt (by omega) hb, show (0 : Int32).toInt = 0 from by decide]
  omega
theorem pk_ix (x : Int32) {n : Nat} (hn : n < 2 ^ 31) : x < 0 ∨ nI n ≤ x ∨ ∃ j : Nat, j < n ∧ x = nI j := by
  by_cases h : x < 0
  · exact Or.inl h
  · obtain ⟨j, hj, rfl⟩ := nI_of h
    by_cases h2 : j < n
    · exact Or.inr (Or.inr ⟨j, h2, rfl⟩)
    · exact Or.inr (Or.inl (nI_le (by omega) hj))
theorem pk_le {x y : Int32} {A B : Prop} (a b : Nat) (f : a ≤ b → A) (g : b < a → B) (hx : x = nI a := by rfl) (hy : y = nI b := by rfl) (ha : a < 2 ^ 31 := by omega) (hb : b < 2 ^ 31 := by omega) : (x ≤ y → A) ∧ (¬ x ≤ y → B) := by
  subst hx hy
  rw [nI_leI ha hb]
  exact ⟨f, fun z => g (by omega)⟩
theorem pk_lt {x y : Int32} {A B : Prop} (a b : Nat) (f : a < b → A) (g : b ≤ a → B) (hx : x = nI a := by rfl) (hy : y = nI b := by rfl) (ha : a < 2 ^ 31 := by omega) (hb : b < 2 ^ 31 := by omega) : (x < y → A) ∧ (¬ x < y → B) := by
  subst hx hy
  rw [nI_ltI ha hb]
  exact ⟨f, fun z => g (by omega)⟩
theorem pk_eq {x y : Int32} {A B : Prop} (a b : Nat) (f : a = b → A) (g : a ≠ b → B) (hx : x = nI a := by rfl) (hy : y = nI b := by rfl) (ha : a < 2 ^ 31 := by omega) (hb : b < 2 ^ 31 := by omega) : (x = y → A) ∧ (¬ x = y → B) := by
  subst hx hy
  rw [nI_eq ha hb]
  exact ⟨f, g⟩
theorem pk_in {x : Int32} (n N : Nat) (h : n < N) (hx : x = nI n := by rfl) (hN : N < 2 ^ 31 := by omega) : vp_in x N := by
  subst hx
  exact vp_in_nI h hN
theorem pk_cl {x : Int32} (n : Nat) (hx : x = nI n := by rfl) (h : n < 2 ^ 31 := by omega) : x.toNatClampNeg = n := by
  subst hx
  exact nI_clamp h
theorem pk_tn {n : Nat} (h : n < 2 ^ 32) : (nI n).toBitVec.toNat = n := Nat.mod_eq_of_lt h
theorem pk_and (x : Int32) {m : Int32} (k : Nat) (hm : m.toBitVec.toNat = 2 ^ k - 1) : x &&& m = nI (x.toBitVec.toNat % 2 ^ k) := by
  apply Int32.toBitVec_inj.mp
  apply BitVec.eq_of_toNat_eq
  rw [Int32.toBitVec_and, BitVec.toNat_and, hm, Nat.and_two_pow_sub_one_eq_mod]
  show _ = (BitVec.ofNat 32 _).toNat
  rw [BitVec.toNat_ofNat]
  exact (Nat.mod_eq_of_lt (Nat.lt_of_le_of_lt (Nat.mod_le _ _) x.toBitVec.isLt)).symm
theorem pk_andN {n : Nat} (h : n < 2 ^ 32) {m : Int32} (k : Nat) (hm : m.toBitVec.toNat = 2 ^ k - 1) : nI n &&& m = nI (n % 2 ^ k) := by
  rw [pk_and _ k hm, pk_tn h]
theorem pk_andE (x : Int32) {m : Int32} (k : Nat) (hm : m.toBitVec.toNat = 2 ^ k - 1) : ∃ j : Nat, j < 2 ^ k ∧ x &&& m = nI j := ⟨_, Nat.mod_lt _ (Nat.two_pow_pos k), pk_and x k hm⟩
theorem pk_andIn (x : Int32) {m : Int32} (k : Nat) (hm : m.toBitVec.toNat = 2 ^ k - 1) (hk : k ≤ 30) : vp_in (x &&& m) (2 ^ k) := by
  obtain ⟨j, hj, e⟩ := pk_andE x k hm
  rw [e]
  exact vp_in_nI hj (Nat.lt_of_le_of_lt (Nat.pow_le_pow_right (by decide) hk) (by decide))
theorem pk_shl (a s : Int32) (k : Nat) (hs : (s.toBitVec.smod 32).toNat = k) : (a <<< s).toBitVec.toNat = a.toBitVec.toNat * 2 ^ k % 2 ^ 32 := by
  show (a.toBitVec <<< (s.toBitVec.smod 32).toNat).toNat = _
  rw [hs, BitVec.toNat_shiftLeft, Nat.shiftLeft_eq]
theorem pk_shlN {n : Nat} (s : Int32) (k : Nat) (hs : (s.toBitVec.smod 32).toNat = k) (h : n * 2 ^ k < 2 ^ 32) : nI n <<< s = nI (n * 2 ^ k) := by
  apply Int32.toBitVec_inj.mp
  apply BitVec.eq_of_toNat_eq
  have hn : n < 2 ^ 32 := Nat.lt_of_le_of_lt (Nat.le_mul_of_pos_right n (Nat.two_pow_pos k)) h
  rw [pk_shl _ _ k hs, pk_tn hn, pk_tn h, Nat.mod_eq_of_lt h]
theorem pk_shr (a s : Int32) (k : Nat) (hs : (s.toBitVec.smod 32).toNat = k) : (a >>> s).toInt = a.toInt >>> k := by
  show (a.toBitVec.sshiftRight (s.toBitVec.smod 32).toNat).toInt = _
  rw [hs, BitVec.toInt_sshiftRight]
  rfl
theorem pk_shrN {n : Nat} (h : n < 2 ^ 31) (s : Int32) (k : Nat) (hs : (s.toBitVec.smod 32).toNat = k) : nI n >>> s = nI (n / 2 ^ k) := by
  apply Int32.toInt_inj.mp
  have h2 : n / 2 ^ k ≤ n := Nat.div_le_self _ _
  rw [pk_shr _ _ k hs, nI_toInt h, nI_toInt (by omega), Int.shiftRight_eq_div_pow]
  rfl
theorem pk_ushr (x s : Int32) (k : Nat) (hs : ((s.toUInt32 &&& Int32.toUInt32 31).toBitVec % 32).toNat = k) : (x.toUInt32 >>> (s.toUInt32 &&& Int32.toUInt32 31)).toInt32.toBitVec.toNat = x.toBitVec.toNat / 2 ^ k := by
  have e : (x.toUInt32 >>> (s.toUInt32 &&& Int32.toUInt32 31)).toInt32.toBitVec = x.toBitVec >>> k := by
    rw [← hs]
    exact UInt32.toBitVec_shiftRight _ _
  rw [e, BitVec.toNat_ushiftRight, Nat.shiftRight_eq_div_pow]
theorem pk_ushrN {n : Nat} (hn : n < 2 ^ 32) (s : Int32) (k : Nat) (hs : ((s.toUInt32 &&& Int32.toUInt32 31).toBitVec % 32).toNat = k) : ((nI n).toUInt32 >>> (s.toUInt32 &&& Int32.toUInt32 31)).toInt32 = nI (n / 2 ^ k) := by
  apply Int32.toBitVec_inj.mp
  apply BitVec.eq_of_toNat_eq
  rw [pk_ushr _ s k hs, pk_tn hn, pk_tn (Nat.lt_of_le_of_lt (Nat.div_le_self _ _) hn)]
theorem pk_nb (z : Int32) : narrow .byte (.int z.toInt8.toInt32) = .int z.toInt8.toInt32 := congrArg Value.int (by simp)
theorem pk_ns (z : Int32) : narrow .short (.int z.toInt16.toInt32) = .int z.toInt16.toInt32 := congrArg Value.int (by simp)
theorem pk_fb (r : Int32) : fits .byte (.int r.toInt8.toInt32) = true := by
  have ⟨a, b⟩ := lg_i2b_range r
  have h1 : (-128 : Int32).toInt = -128 := by decide
  have h2 : (127 : Int32).toInt = 127 := by decide
  simp only [fits, Bool.and_eq_true, decide_eq_true_eq, Int32.le_iff_toInt_le, h1, h2]
  omega
theorem pk_fs (r : Int32) : fits .short (.int r.toInt16.toInt32) = true := by
  have ⟨a, b⟩ := lg_i2s_range r
  have h1 : (-32768 : Int32).toInt = -32768 := by decide
  have h2 : (32767 : Int32).toInt = 32767 := by decide
  simp only [fits, Bool.and_eq_true, decide_eq_true_eq, Int32.le_iff_toInt_le, h1, h2]
  omega
theorem pk_charN {q : Nat} (hq : q < 65536) : narrow .char (.int (nI q)) = .int (nI q) ∧ fits .char (.int (nI q)) = true := by
  constructor
  · have e : (nI q).toUInt32.toUInt16.toUInt32.toInt32 = nI q := by
      apply Int32.toBitVec_inj.mp
      apply BitVec.eq_of_toNat_eq
      show (nI q).toUInt32.toUInt16.toUInt32.toNat = q % 2 ^ 32
      rw [UInt16.toNat_toUInt32, UInt32.toNat_toUInt16, show (nI q).toUInt32.toNat = q % 2 ^ 32 from rfl]
      omega
    exact congrArg Value.int e
  · have a : (0 : Int32) ≤ nI q := nI_pos' (by omega)
    have b : nI q ≤ 65535 := nI_le (b := 65535) (by omega) (by decide)
    show (decide ((0 : Int32) ≤ nI q) && decide (nI q ≤ 65535)) = true
    rw [decide_eq_true a, decide_eq_true b]
    rfl
theorem pk_char (x : Int32) : (x.toUInt32 % 65536).toInt32 = nI (x.toBitVec.toNat % 65536) := by
  apply Int32.toBitVec_inj.mp
  apply BitVec.eq_of_toNat_eq
  rw [pk_tn (by omega)]
  show (x.toUInt32 % 65536).toNat = _
  rw [UInt32.toNat_mod]
  rfl
theorem pk_nc (x : Int32) : narrow .char (.int (x.toUInt32 % 65536).toInt32) = .int (x.toUInt32 % 65536).toInt32 := by
  rw [pk_char]
  exact (pk_charN (Nat.mod_lt _ (by decide))).1
theorem pk_fc (x : Int32) : fits .char (.int (x.toUInt32 % 65536).toInt32) = true := by
  rw [pk_char]
  exact (pk_charN (Nat.mod_lt _ (by decide))).2
theorem pk_vb (z : Int32) : vp_nar .byte z.toInt8.toInt32 = z.toInt8.toInt32 := by rw [vp_nar_byte]; simp
theorem pk_vs (z : Int32) : vp_nar .short z.toInt16.toInt32 = z.toInt16.toInt32 := by rw [vp_nar_short]; simp
theorem pk_vc (z : Int32) : vp_nar .char (z.toUInt32 % 65536).toInt32 = (z.toUInt32 % 65536).toInt32 := Value.int.inj (pk_nc z)
theorem pk_lT {n : Nat} (h : n < 2 ^ 63) : (lN n).toInt = (n : Int) := lg_ofNat_toInt h
theorem pk_lLT {a b : Nat} (ha : a < 2 ^ 63) (hb : b < 2 ^ 63) : lN a < lN b ↔ a < b := by
  rw [Int64.lt_iff_toInt_lt, pk_lT ha, pk_lT hb]; omega
theorem pk_lLE {a b : Nat} (ha : a < 2 ^ 63) (hb : b < 2 ^ 63) : lN a ≤ lN b ↔ a ≤ b := by
  rw [Int64.le_iff_toInt_le, pk_lT ha, pk_lT hb]; omega
theorem pk_lEQ {a b : Nat} (ha : a < 2 ^ 63) (hb : b < 2 ^ 63) : lN a = lN b ↔ a = b := by
  rw [← Int64.toInt_inj, pk_lT ha, pk_lT hb]; omega
theorem pk_lOf {x : Int64} (h : ¬ x < 0) : ∃ k : Nat, k < 2 ^ 63 ∧ x = lN k := by
  rw [Int64.lt_iff_toInt_lt] at h
  have h0 : (0 : Int64).toInt = 0 := by decide
  have hx := Int64.toInt_lt x
  refine ⟨x.toInt.toNat, by omega, Int64.toInt_inj.mp ?_⟩
  rw [pk_lT (by omega)]
  omega
theorem pk_lDiv {a b : Nat} (ha : a < 2 ^ 63) (h0 : 0 < b) (hb : b < 2 ^ 63) : lN a / lN b = lN (a / b) := by
  apply Int64.toInt_inj.mp
  rw [lg_ldiv_nonneg (by rw [pk_lT ha]; omega) (by rw [pk_lT hb]; omega), pk_lT ha, pk_lT hb, pk_lT (Nat.lt_of_le_of_lt (Nat.div_le_self a b) ha)]
  rfl
theorem pk_lRem {a b : Nat} (ha : a < 2 ^ 63) (h0 : 0 < b) (hb : b < 2 ^ 63) : lN a - lN a / lN b * lN b = lN (a % b) := by
  rw [pk_lDiv ha h0 hb, lN_mul, lN_sub (Nat.div_mul_le_self a b)]
  exact congrArg lN (by have := Nat.div_add_mod' a b; omega)
theorem pk_loop {σ : Type} (W : Nat → Nat → σ → Prop) (I : Nat → σ → Prop) (e i0 : Nat) (s : σ) (hi : i0 ≤ e) (h0 : I i0 s) (hx : ∀ n s, I e s → W (n + 1) e s)
    (hs : ∀ n i s, i < e → I i s → (∀ s', I (i + 1) s' → W n (i + 1) s') → W (n + 1) i s) : ∃ n, W n i0 s :=
  ⟨e + 1, loop_i W I e hx hs (e + 1) i0 s hi (by omega) h0⟩
theorem pk_loopD {σ : Type} (W : Nat → Nat → σ → Prop) (I : Nat → σ → Prop) (hx : ∀ n s, I 0 s → W (n + 1) 0 s)
    (hs : ∀ n i s, I (i + 1) s → (∀ s', I i s' → W n i s') → W (n + 1) (i + 1) s) : ∀ (e : Nat) (s : σ), I e s → W (e + 1) e s := by
  intro e
  induction e with
  | zero => exact fun s h => hx 0 s h
  | succ e ih => exact fun s h => hs (e + 1) e s h (fun s' h' => ih s' h')
theorem lp1 {A1 : Type} (W : Nat → A1 → Prop) (I : A1 → Prop) (μ : A1 → Nat) (hs : ∀ (n : Nat) (a1 : A1), I a1 → (∀ (b1 : A1), I b1 → μ b1 < μ a1 → W n b1) → W (n + 1) a1) (a1 : A1) (h : I a1) : ∃ n, W n a1 :=
  loop_m (σ := A1) (fun n s => W n s) (fun s => I s) (fun s => μ s) (fun n s hI hk => hs n s hI (fun b1 h9 hm => hk b1 h9 hm)) a1 h
theorem lp2 {A1 A2 : Type} (W : Nat → A1 → A2 → Prop) (I : A1 → A2 → Prop) (μ : A1 → A2 → Nat) (hs : ∀ (n : Nat) (a1 : A1) (a2 : A2), I a1 a2 → (∀ (b1 : A1) (b2 : A2), I b1 b2 → μ b1 b2 < μ a1 a2 → W n b1 b2) → W (n + 1) a1 a2) (a1 : A1) (a2 : A2) (h : I a1 a2) : ∃ n, W n a1 a2 :=
  loop_m (σ := A1 × A2) (fun n s => W n s.1 s.2) (fun s => I s.1 s.2) (fun s => μ s.1 s.2) (fun n s hI hk => hs n s.1 s.2 hI (fun b1 b2 h9 hm => hk (b1, b2) h9 hm)) (a1, a2) h
theorem lp3 {A1 A2 A3 : Type} (W : Nat → A1 → A2 → A3 → Prop) (I : A1 → A2 → A3 → Prop) (μ : A1 → A2 → A3 → Nat) (hs : ∀ (n : Nat) (a1 : A1) (a2 : A2) (a3 : A3), I a1 a2 a3 → (∀ (b1 : A1) (b2 : A2) (b3 : A3), I b1 b2 b3 → μ b1 b2 b3 < μ a1 a2 a3 → W n b1 b2 b3) → W (n + 1) a1 a2 a3) (a1 : A1) (a2 : A2) (a3 : A3) (h : I a1 a2 a3) : ∃ n, W n a1 a2 a3 :=
  loop_m (σ := A1 × A2 × A3) (fun n s => W n s.1 s.2.1 s.2.2) (fun s => I s.1 s.2.1 s.2.2) (fun s => μ s.1 s.2.1 s.2.2) (fun n s hI hk => hs n s.1 s.2.1 s.2.2 hI (fun b1 b2 b3 h9 hm => hk (b1, b2, b3) h9 hm)) (a1, a2, a3) h
theorem lp4 {A1 A2 A3 A4 : Type} (W : Nat → A1 → A2 → A3 → A4 → Prop) (I : A1 → A2 → A3 → A4 → Prop) (μ : A1 → A2 → A3 → A4 → Nat) (hs : ∀ (n : Nat) (a1 : A1) (a2 : A2) (a3 : A3) (a4 : A4), I a1 a2 a3 a4 → (∀ (b1 : A1) (b2 : A2) (b3 : A3) (b4 : A4), I b1 b2 b3 b4 → μ b1 b2 b3 b4 < μ a1 a2 a3 a4 → W n b1 b2 b3 b4) → W (n + 1) a1 a2 a3 a4) (a1 : A1) (a2 : A2) (a3 : A3) (a4 : A4) (h : I a1 a2 a3 a4) : ∃ n, W n a1 a2 a3 a4 :=
  loop_m (σ := A1 × A2 × A3 × A4) (fun n s => W n s.1 s.2.1 s.2.2.1 s.2.2.2) (fun s => I s.1 s.2.1 s.2.2.1 s.2.2.2) (fun s => μ s.1 s.2.1 s.2.2.1 s.2.2.2) (fun n s hI hk => hs n s.1 s.2.1 s.2.2.1 s.2.2.2 hI (fun b1 b2 b3 b4 h9 hm => hk (b1, b2, b3, b4) h9 hm)) (a1, a2, a3, a4) h
theorem lp5 {A1 A2 A3 A4 A5 : Type} (W : Nat → A1 → A2 → A3 → A4 → A5 → Prop) (I : A1 → A2 → A3 → A4 → A5 → Prop) (μ : A1 → A2 → A3 → A4 → A5 → Nat) (hs : ∀ (n : Nat) (a1 : A1) (a2 : A2) (a3 : A3) (a4 : A4) (a5 : A5), I a1 a2 a3 a4 a5 → (∀ (b1 : A1) (b2 : A2) (b3 : A3) (b4 : A4) (b5 : A5), I b1 b2 b3 b4 b5 → μ b1 b2 b3 b4 b5 < μ a1 a2 a3 a4 a5 → W n b1 b2 b3 b4 b5) → W (n + 1) a1 a2 a3 a4 a5) (a1 : A1) (a2 : A2) (a3 : A3) (a4 : A4) (a5 : A5) (h : I a1 a2 a3 a4 a5) : ∃ n, W n a1 a2 a3 a4 a5 :=
  loop_m (σ := A1 × A2 × A3 × A4 × A5) (fun n s => W n s.1 s.2.1 s.2.2.1 s.2.2.2.1 s.2.2.2.2) (fun s => I s.1 s.2.1 s.2.2.1 s.2.2.2.1 s.2.2.2.2) (fun s => μ s.1 s.2.1 s.2.2.1 s.2.2.2.1 s.2.2.2.2) (fun n s hI hk => hs n s.1 s.2.1 s.2.2.1 s.2.2.2.1 s.2.2.2.2 hI (fun b1 b2 b3 b4 b5 h9 hm => hk (b1, b2, b3, b4, b5) h9 hm)) (a1, a2, a3, a4, a5) h
theorem lp6 {A1 A2 A3 A4 A5 A6 : Type} (W : Nat → A1 → A2 → A3 → A4 → A5 → A6 → Prop) (I : A1 → A2 → A3 → A4 → A5 → A6 → Prop) (μ : A1 → A2 → A3 → A4 → A5 → A6 → Nat) (hs : ∀ (n : Nat) (a1 : A1) (a2 : A2) (a3 : A3) (a4 : A4) (a5 : A5) (a6 : A6), I a1 a2 a3 a4 a5 a6 → (∀ (b1 : A1) (b2 : A2) (b3 : A3) (b4 : A4) (b5 : A5) (b6 : A6), I b1 b2 b3 b4 b5 b6 → μ b1 b2 b3 b4 b5 b6 < μ a1 a2 a3 a4 a5 a6 → W n b1 b2 b3 b4 b5 b6) → W (n + 1) a1 a2 a3 a4 a5 a6) (a1 : A1) (a2 : A2) (a3 : A3) (a4 : A4) (a5 : A5) (a6 : A6) (h : I a1 a2 a3 a4 a5 a6) : ∃ n, W n a1 a2 a3 a4 a5 a6 :=
  loop_m (σ := A1 × A2 × A3 × A4 × A5 × A6) (fun n s => W n s.1 s.2.1 s.2.2.1 s.2.2.2.1 s.2.2.2.2.1 s.2.2.2.2.2) (fun s => I s.1 s.2.1 s.2.2.1 s.2.2.2.1 s.2.2.2.2.1 s.2.2.2.2.2) (fun s => μ s.1 s.2.1 s.2.2.1 s.2.2.2.1 s.2.2.2.2.1 s.2.2.2.2.2) (fun n s hI hk => hs n s.1 s.2.1 s.2.2.1 s.2.2.2.1 s.2.2.2.2.1 s.2.2.2.2.2 hI (fun b1 b2 b3 b4 b5 b6 h9 hm => hk (b1, b2, b3, b4, b5, b6) h9 hm)) (a1, a2, a3, a4, a5, a6) h
theorem lp7 {A1 A2 A3 A4 A5 A6 A7 : Type} (W : Nat → A1 → A2 → A3 → A4 → A5 → A6 → A7 → Prop) (I : A1 → A2 → A3 → A4 → A5 → A6 → A7 → Prop) (μ : A1 → A2 → A3 → A4 → A5 → A6 → A7 → Nat) (hs : ∀ (n : Nat) (a1 : A1) (a2 : A2) (a3 : A3) (a4 : A4) (a5 : A5) (a6 : A6) (a7 : A7), I a1 a2 a3 a4 a5 a6 a7 → (∀ (b1 : A1) (b2 : A2) (b3 : A3) (b4 : A4) (b5 : A5) (b6 : A6) (b7 : A7), I b1 b2 b3 b4 b5 b6 b7 → μ b1 b2 b3 b4 b5 b6 b7 < μ a1 a2 a3 a4 a5 a6 a7 → W n b1 b2 b3 b4 b5 b6 b7) → W (n + 1) a1 a2 a3 a4 a5 a6 a7) (a1 : A1) (a2 : A2) (a3 : A3) (a4 : A4) (a5 : A5) (a6 : A6) (a7 : A7) (h : I a1 a2 a3 a4 a5 a6 a7) : ∃ n, W n a1 a2 a3 a4 a5 a6 a7 :=
  loop_m (σ := A1 × A2 × A3 × A4 × A5 × A6 × A7) (fun n s => W n s.1 s.2.1 s.2.2.1 s.2.2.2.1 s.2.2.2.2.1 s.2.2.2.2.2.1 s.2.2.2.2.2.2) (fun s => I s.1 s.2.1 s.2.2.1 s.2.2.2.1 s.2.2.2.2.1 s.2.2.2.2.2.1 s.2.2.2.2.2.2) (fun s => μ s.1 s.2.1 s.2.2.1 s.2.2.2.1 s.2.2.2.2.1 s.2.2.2.2.2.1 s.2.2.2.2.2.2) (fun n s hI hk => hs n s.1 s.2.1 s.2.2.1 s.2.2.2.1 s.2.2.2.2.1 s.2.2.2.2.2.1 s.2.2.2.2.2.2 hI (fun b1 b2 b3 b4 b5 b6 b7 h9 hm => hk (b1, b2, b3, b4, b5, b6, b7) h9 hm)) (a1, a2, a3, a4, a5, a6, a7) h
theorem lp8 {A1 A2 A3 A4 A5 A6 A7 A8 : Type} (W : Nat → A1 → A2 → A3 → A4 → A5 → A6 → A7 → A8 → Prop) (I : A1 → A2 → A3 → A4 → A5 → A6 → A7 → A8 → Prop) (μ : A1 → A2 → A3 → A4 → A5 → A6 → A7 → A8 → Nat) (hs : ∀ (n : Nat) (a1 : A1) (a2 : A2) (a3 : A3) (a4 : A4) (a5 : A5) (a6 : A6) (a7 : A7) (a8 : A8), I a1 a2 a3 a4 a5 a6 a7 a8 → (∀ (b1 : A1) (b2 : A2) (b3 : A3) (b4 : A4) (b5 : A5) (b6 : A6) (b7 : A7) (b8 : A8), I b1 b2 b3 b4 b5 b6 b7 b8 → μ b1 b2 b3 b4 b5 b6 b7 b8 < μ a1 a2 a3 a4 a5 a6 a7 a8 → W n b1 b2 b3 b4 b5 b6 b7 b8) → W (n + 1) a1 a2 a3 a4 a5 a6 a7 a8) (a1 : A1) (a2 : A2) (a3 : A3) (a4 : A4) (a5 : A5) (a6 : A6) (a7 : A7) (a8 : A8) (h : I a1 a2 a3 a4 a5 a6 a7 a8) : ∃ n, W n a1 a2 a3 a4 a5 a6 a7 a8 :=
  loop_m (σ := A1 × A2 × A3 × A4 × A5 × A6 × A7 × A8) (fun n s => W n s.1 s.2.1 s.2.2.1 s.2.2.2.1 s.2.2.2.2.1 s.2.2.2.2.2.1 s.2.2.2.2.2.2.1 s.2.2.2.2.2.2.2) (fun s => I s.1 s.2.1 s.2.2.1 s.2.2.2.1 s.2.2.2.2.1 s.2.2.2.2.2.1 s.2.2.2.2.2.2.1 s.2.2.2.2.2.2.2) (fun s => μ s.1 s.2.1 s.2.2.1 s.2.2.2.1 s.2.2.2.2.1 s.2.2.2.2.2.1 s.2.2.2.2.2.2.1 s.2.2.2.2.2.2.2) (fun n s hI hk => hs n s.1 s.2.1 s.2.2.1 s.2.2.2.1 s.2.2.2.2.1 s.2.2.2.2.2.1 s.2.2.2.2.2.2.1 s.2.2.2.2.2.2.2 hI (fun b1 b2 b3 b4 b5 b6 b7 b8 h9 hm => hk (b1, b2, b3, b4, b5, b6, b7, b8) h9 hm)) (a1, a2, a3, a4, a5, a6, a7, a8) h
theorem lp9 {A1 A2 A3 A4 A5 A6 A7 A8 A9 : Type} (W : Nat → A1 → A2 → A3 → A4 → A5 → A6 → A7 → A8 → A9 → Prop) (I : A1 → A2 → A3 → A4 → A5 → A6 → A7 → A8 → A9 → Prop) (μ : A1 → A2 → A3 → A4 → A5 → A6 → A7 → A8 → A9 → Nat) (hs : ∀ (n : Nat) (a1 : A1) (a2 : A2) (a3 : A3) (a4 : A4) (a5 : A5) (a6 : A6) (a7 : A7) (a8 : A8) (a9 : A9), I a1 a2 a3 a4 a5 a6 a7 a8 a9 → (∀ (b1 : A1) (b2 : A2) (b3 : A3) (b4 : A4) (b5 : A5) (b6 : A6) (b7 : A7) (b8 : A8) (b9 : A9), I b1 b2 b3 b4 b5 b6 b7 b8 b9 → μ b1 b2 b3 b4 b5 b6 b7 b8 b9 < μ a1 a2 a3 a4 a5 a6 a7 a8 a9 → W n b1 b2 b3 b4 b5 b6 b7 b8 b9) → W (n + 1) a1 a2 a3 a4 a5 a6 a7 a8 a9) (a1 : A1) (a2 : A2) (a3 : A3) (a4 : A4) (a5 : A5) (a6 : A6) (a7 : A7) (a8 : A8) (a9 : A9) (h : I a1 a2 a3 a4 a5 a6 a7 a8 a9) : ∃ n, W n a1 a2 a3 a4 a5 a6 a7 a8 a9 :=
  loop_m (σ := A1 × A2 × A3 × A4 × A5 × A6 × A7 × A8 × A9) (fun n s => W n s.1 s.2.1 s.2.2.1 s.2.2.2.1 s.2.2.2.2.1 s.2.2.2.2.2.1 s.2.2.2.2.2.2.1 s.2.2.2.2.2.2.2.1 s.2.2.2.2.2.2.2.2) (fun s => I s.1 s.2.1 s.2.2.1 s.2.2.2.1 s.2.2.2.2.1 s.2.2.2.2.2.1 s.2.2.2.2.2.2.1 s.2.2.2.2.2.2.2.1 s.2.2.2.2.2.2.2.2) (fun s => μ s.1 s.2.1 s.2.2.1 s.2.2.2.1 s.2.2.2.2.1 s.2.2.2.2.2.1 s.2.2.2.2.2.2.1 s.2.2.2.2.2.2.2.1 s.2.2.2.2.2.2.2.2) (fun n s hI hk => hs n s.1 s.2.1 s.2.2.1 s.2.2.2.1 s.2.2.2.2.1 s.2.2.2.2.2.1 s.2.2.2.2.2.2.1 s.2.2.2.2.2.2.2.1 s.2.2.2.2.2.2.2.2 hI (fun b1 b2 b3 b4 b5 b6 b7 b8 b9 h9 hm => hk (b1, b2, b3, b4, b5, b6, b7, b8, b9) h9 hm)) (a1, a2, a3, a4, a5, a6, a7, a8, a9) h
theorem lp10 {A1 A2 A3 A4 A5 A6 A7 A8 A9 A10 : Type} (W : Nat → A1 → A2 → A3 → A4 → A5 → A6 → A7 → A8 → A9 → A10 → Prop) (I : A1 → A2 → A3 → A4 → A5 → A6 → A7 → A8 → A9 → A10 → Prop) (μ : A1 → A2 → A3 → A4 → A5 → A6 → A7 → A8 → A9 → A10 → Nat) (hs : ∀ (n : Nat) (a1 : A1) (a2 : A2) (a3 : A3) (a4 : A4) (a5 : A5) (a6 : A6) (a7 : A7) (a8 : A8) (a9 : A9) (a10 : A10), I a1 a2 a3 a4 a5 a6 a7 a8 a9 a10 → (∀ (b1 : A1) (b2 : A2) (b3 : A3) (b4 : A4) (b5 : A5) (b6 : A6) (b7 : A7) (b8 : A8) (b9 : A9) (b10 : A10), I b1 b2 b3 b4 b5 b6 b7 b8 b9 b10 → μ b1 b2 b3 b4 b5 b6 b7 b8 b9 b10 < μ a1 a2 a3 a4 a5 a6 a7 a8 a9 a10 → W n b1 b2 b3 b4 b5 b6 b7 b8 b9 b10) → W (n + 1) a1 a2 a3 a4 a5 a6 a7 a8 a9 a10) (a1 : A1) (a2 : A2) (a3 : A3) (a4 : A4) (a5 : A5) (a6 : A6) (a7 : A7) (a8 : A8) (a9 : A9) (a10 : A10) (h : I a1 a2 a3 a4 a5 a6 a7 a8 a9 a10) : ∃ n, W n a1 a2 a3 a4 a5 a6 a7 a8 a9 a10 :=
  loop_m (σ := A1 × A2 × A3 × A4 × A5 × A6 × A7 × A8 × A9 × A10) (fun n s => W n s.1 s.2.1 s.2.2.1 s.2.2.2.1 s.2.2.2.2.1 s.2.2.2.2.2.1 s.2.2.2.2.2.2.1 s.2.2.2.2.2.2.2.1 s.2.2.2.2.2.2.2.2.1 s.2.2.2.2.2.2.2.2.2) (fun s => I s.1 s.2.1 s.2.2.1 s.2.2.2.1 s.2.2.2.2.1 s.2.2.2.2.2.1 s.2.2.2.2.2.2.1 s.2.2.2.2.2.2.2.1 s.2.2.2.2.2.2.2.2.1 s.2.2.2.2.2.2.2.2.2) (fun s => μ s.1 s.2.1 s.2.2.1 s.2.2.2.1 s.2.2.2.2.1 s.2.2.2.2.2.1 s.2.2.2.2.2.2.1 s.2.2.2.2.2.2.2.1 s.2.2.2.2.2.2.2.2.1 s.2.2.2.2.2.2.2.2.2) (fun n s hI hk => hs n s.1 s.2.1 s.2.2.1 s.2.2.2.1 s.2.2.2.2.1 s.2.2.2.2.2.1 s.2.2.2.2.2.2.1 s.2.2.2.2.2.2.2.1 s.2.2.2.2.2.2.2.2.1 s.2.2.2.2.2.2.2.2.2 hI (fun b1 b2 b3 b4 b5 b6 b7 b8 b9 b10 h9 hm => hk (b1, b2, b3, b4, b5, b6, b7, b8, b9, b10) h9 hm)) (a1, a2, a3, a4, a5, a6, a7, a8, a9, a10) h
theorem lp11 {A1 A2 A3 A4 A5 A6 A7 A8 A9 A10 A11 : Type} (W : Nat → A1 → A2 → A3 → A4 → A5 → A6 → A7 → A8 → A9 → A10 → A11 → Prop) (I : A1 → A2 → A3 → A4 → A5 → A6 → A7 → A8 → A9 → A10 → A11 → Prop) (μ : A1 → A2 → A3 → A4 → A5 → A6 → A7 → A8 → A9 → A10 → A11 → Nat) (hs : ∀ (n : Nat) (a1 : A1) (a2 : A2) (a3 : A3) (a4 : A4) (a5 : A5) (a6 : A6) (a7 : A7) (a8 : A8) (a9 : A9) (a10 : A10) (a11 : A11), I a1 a2 a3 a4 a5 a6 a7 a8 a9 a10 a11 → (∀ (b1 : A1) (b2 : A2) (b3 : A3) (b4 : A4) (b5 : A5) (b6 : A6) (b7 : A7) (b8 : A8) (b9 : A9) (b10 : A10) (b11 : A11), I b1 b2 b3 b4 b5 b6 b7 b8 b9 b10 b11 → μ b1 b2 b3 b4 b5 b6 b7 b8 b9 b10 b11 < μ a1 a2 a3 a4 a5 a6 a7 a8 a9 a10 a11 → W n b1 b2 b3 b4 b5 b6 b7 b8 b9 b10 b11) → W (n + 1) a1 a2 a3 a4 a5 a6 a7 a8 a9 a10 a11) (a1 : A1) (a2 : A2) (a3 : A3) (a4 : A4) (a5 : A5) (a6 : A6) (a7 : A7) (a8 : A8) (a9 : A9) (a10 : A10) (a11 : A11) (h : I a1 a2 a3 a4 a5 a6 a7 a8 a9 a10 a11) : ∃ n, W n a1 a2 a3 a4 a5 a6 a7 a8 a9 a10 a11 :=
  loop_m (σ := A1 × A2 × A3 × A4 × A5 × A6 × A7 × A8 × A9 × A10 × A11) (fun n s => W n s.1 s.2.1 s.2.2.1 s.2.2.2.1 s.2.2.2.2.1 s.2.2.2.2.2.1 s.2.2.2.2.2.2.1 s.2.2.2.2.2.2.2.1 s.2.2.2.2.2.2.2.2.1 s.2.2.2.2.2.2.2.2.2.1 s.2.2.2.2.2.2.2.2.2.2) (fun s => I s.1 s.2.1 s.2.2.1 s.2.2.2.1 s.2.2.2.2.1 s.2.2.2.2.2.1 s.2.2.2.2.2.2.1 s.2.2.2.2.2.2.2.1 s.2.2.2.2.2.2.2.2.1 s.2.2.2.2.2.2.2.2.2.1 s.2.2.2.2.2.2.2.2.2.2) (fun s => μ s.1 s.2.1 s.2.2.1 s.2.2.2.1 s.2.2.2.2.1 s.2.2.2.2.2.1 s.2.2.2.2.2.2.1 s.2.2.2.2.2.2.2.1 s.2.2.2.2.2.2.2.2.1 s.2.2.2.2.2.2.2.2.2.1 s.2.2.2.2.2.2.2.2.2.2) (fun n s hI hk => hs n s.1 s.2.1 s.2.2.1 s.2.2.2.1 s.2.2.2.2.1 s.2.2.2.2.2.1 s.2.2.2.2.2.2.1 s.2.2.2.2.2.2.2.1 s.2.2.2.2.2.2.2.2.1 s.2.2.2.2.2.2.2.2.2.1 s.2.2.2.2.2.2.2.2.2.2 hI (fun b1 b2 b3 b4 b5 b6 b7 b8 b9 b10 b11 h9 hm => hk (b1, b2, b3, b4, b5, b6, b7, b8, b9, b10, b11) h9 hm)) (a1, a2, a3, a4, a5, a6, a7, a8, a9, a10, a11) h
theorem lp12 {A1 A2 A3 A4 A5 A6 A7 A8 A9 A10 A11 A12 : Type} (W : Nat → A1 → A2 → A3 → A4 → A5 → A6 → A7 → A8 → A9 → A10 → A11 → A12 → Prop) (I : A1 → A2 → A3 → A4 → A5 → A6 → A7 → A8 → A9 → A10 → A11 → A12 → Prop) (μ : A1 → A2 → A3 → A4 → A5 → A6 → A7 → A8 → A9 → A10 → A11 → A12 → Nat) (hs : ∀ (n : Nat) (a1 : A1) (a2 : A2) (a3 : A3) (a4 : A4) (a5 : A5) (a6 : A6) (a7 : A7) (a8 : A8) (a9 : A9) (a10 : A10) (a11 : A11) (a12 : A12), I a1 a2 a3 a4 a5 a6 a7 a8 a9 a10 a11 a12 → (∀ (b1 : A1) (b2 : A2) (b3 : A3) (b4 : A4) (b5 : A5) (b6 : A6) (b7 : A7) (b8 : A8) (b9 : A9) (b10 : A10) (b11 : A11) (b12 : A12), I b1 b2 b3 b4 b5 b6 b7 b8 b9 b10 b11 b12 → μ b1 b2 b3 b4 b5 b6 b7 b8 b9 b10 b11 b12 < μ a1 a2 a3 a4 a5 a6 a7 a8 a9 a10 a11 a12 → W n b1 b2 b3 b4 b5 b6 b7 b8 b9 b10 b11 b12) → W (n + 1) a1 a2 a3 a4 a5 a6 a7 a8 a9 a10 a11 a12) (a1 : A1) (a2 : A2) (a3 : A3) (a4 : A4) (a5 : A5) (a6 : A6) (a7 : A7) (a8 : A8) (a9 : A9) (a10 : A10) (a11 : A11) (a12 : A12) (h : I a1 a2 a3 a4 a5 a6 a7 a8 a9 a10 a11 a12) : ∃ n, W n a1 a2 a3 a4 a5 a6 a7 a8 a9 a10 a11 a12 :=
  loop_m (σ := A1 × A2 × A3 × A4 × A5 × A6 × A7 × A8 × A9 × A10 × A11 × A12) (fun n s => W n s.1 s.2.1 s.2.2.1 s.2.2.2.1 s.2.2.2.2.1 s.2.2.2.2.2.1 s.2.2.2.2.2.2.1 s.2.2.2.2.2.2.2.1 s.2.2.2.2.2.2.2.2.1 s.2.2.2.2.2.2.2.2.2.1 s.2.2.2.2.2.2.2.2.2.2.1 s.2.2.2.2.2.2.2.2.2.2.2) (fun s => I s.1 s.2.1 s.2.2.1 s.2.2.2.1 s.2.2.2.2.1 s.2.2.2.2.2.1 s.2.2.2.2.2.2.1 s.2.2.2.2.2.2.2.1 s.2.2.2.2.2.2.2.2.1 s.2.2.2.2.2.2.2.2.2.1 s.2.2.2.2.2.2.2.2.2.2.1 s.2.2.2.2.2.2.2.2.2.2.2) (fun s => μ s.1 s.2.1 s.2.2.1 s.2.2.2.1 s.2.2.2.2.1 s.2.2.2.2.2.1 s.2.2.2.2.2.2.1 s.2.2.2.2.2.2.2.1 s.2.2.2.2.2.2.2.2.1 s.2.2.2.2.2.2.2.2.2.1 s.2.2.2.2.2.2.2.2.2.2.1 s.2.2.2.2.2.2.2.2.2.2.2) (fun n s hI hk => hs n s.1 s.2.1 s.2.2.1 s.2.2.2.1 s.2.2.2.2.1 s.2.2.2.2.2.1 s.2.2.2.2.2.2.1 s.2.2.2.2.2.2.2.1 s.2.2.2.2.2.2.2.2.1 s.2.2.2.2.2.2.2.2.2.1 s.2.2.2.2.2.2.2.2.2.2.1 s.2.2.2.2.2.2.2.2.2.2.2 hI (fun b1 b2 b3 b4 b5 b6 b7 b8 b9 b10 b11 b12 h9 hm => hk (b1, b2, b3, b4, b5, b6, b7, b8, b9, b10, b11, b12) h9 hm)) (a1, a2, a3, a4, a5, a6, a7, a8, a9, a10, a11, a12) h
theorem lp13 {A1 A2 A3 A4 A5 A6 A7 A8 A9 A10 A11 A12 A13 : Type} (W : Nat → A1 → A2 → A3 → A4 → A5 → A6 → A7 → A8 → A9 → A10 → A11 → A12 → A13 → Prop) (I : A1 → A2 → A3 → A4 → A5 → A6 → A7 → A8 → A9 → A10 → A11 → A12 → A13 → Prop) (μ : A1 → A2 → A3 → A4 → A5 → A6 → A7 → A8 → A9 → A10 → A11 → A12 → A13 → Nat) (hs : ∀ (n : Nat) (a1 : A1) (a2 : A2) (a3 : A3) (a4 : A4) (a5 : A5) (a6 : A6) (a7 : A7) (a8 : A8) (a9 : A9) (a10 : A10) (a11 : A11) (a12 : A12) (a13 : A13), I a1 a2 a3 a4 a5 a6 a7 a8 a9 a10 a11 a12 a13 → (∀ (b1 : A1) (b2 : A2) (b3 : A3) (b4 : A4) (b5 : A5) (b6 : A6) (b7 : A7) (b8 : A8) (b9 : A9) (b10 : A10) (b11 : A11) (b12 : A12) (b13 : A13), I b1 b2 b3 b4 b5 b6 b7 b8 b9 b10 b11 b12 b13 → μ b1 b2 b3 b4 b5 b6 b7 b8 b9 b10 b11 b12 b13 < μ a1 a2 a3 a4 a5 a6 a7 a8 a9 a10 a11 a12 a13 → W n b1 b2 b3 b4 b5 b6 b7 b8 b9 b10 b11 b12 b13) → W (n + 1) a1 a2 a3 a4 a5 a6 a7 a8 a9 a10 a11 a12 a13) (a1 : A1) (a2 : A2) (a3 : A3) (a4 : A4) (a5 : A5) (a6 : A6) (a7 : A7) (a8 : A8) (a9 : A9) (a10 : A10) (a11 : A11) (a12 : A12) (a13 : A13) (h : I a1 a2 a3 a4 a5 a6 a7 a8 a9 a10 a11 a12 a13) : ∃ n, W n a1 a2 a3 a4 a5 a6 a7 a8 a9 a10 a11 a12 a13 :=
  loop_m (σ := A1 × A2 × A3 × A4 × A5 × A6 × A7 × A8 × A9 × A10 × A11 × A12 × A13) (fun n s => W n s.1 s.2.1 s.2.2.1 s.2.2.2.1 s.2.2.2.2.1 s.2.2.2.2.2.1 s.2.2.2.2.2.2.1 s.2.2.2.2.2.2.2.1 s.2.2.2.2.2.2.2.2.1 s.2.2.2.2.2.2.2.2.2.1 s.2.2.2.2.2.2.2.2.2.2.1 s.2.2.2.2.2.2.2.2.2.2.2.1 s.2.2.2.2.2.2.2.2.2.2.2.2) (fun s => I s.1 s.2.1 s.2.2.1 s.2.2.2.1 s.2.2.2.2.1 s.2.2.2.2.2.1 s.2.2.2.2.2.2.1 s.2.2.2.2.2.2.2.1 s.2.2.2.2.2.2.2.2.1 s.2.2.2.2.2.2.2.2.2.1 s.2.2.2.2.2.2.2.2.2.2.1 s.2.2.2.2.2.2.2.2.2.2.2.1 s.2.2.2.2.2.2.2.2.2.2.2.2) (fun s => μ s.1 s.2.1 s.2.2.1 s.2.2.2.1 s.2.2.2.2.1 s.2.2.2.2.2.1 s.2.2.2.2.2.2.1 s.2.2.2.2.2.2.2.1 s.2.2.2.2.2.2.2.2.1 s.2.2.2.2.2.2.2.2.2.1 s.2.2.2.2.2.2.2.2.2.2.1 s.2.2.2.2.2.2.2.2.2.2.2.1 s.2.2.2.2.2.2.2.2.2.2.2.2) (fun n s hI hk => hs n s.1 s.2.1 s.2.2.1 s.2.2.2.1 s.2.2.2.2.1 s.2.2.2.2.2.1 s.2.2.2.2.2.2.1 s.2.2.2.2.2.2.2.1 s.2.2.2.2.2.2.2.2.1 s.2.2.2.2.2.2.2.2.2.1 s.2.2.2.2.2.2.2.2.2.2.1 s.2.2.2.2.2.2.2.2.2.2.2.1 s.2.2.2.2.2.2.2.2.2.2.2.2 hI (fun b1 b2 b3 b4 b5 b6 b7 b8 b9 b10 b11 b12 b13 h9 hm => hk (b1, b2, b3, b4, b5, b6, b7, b8, b9, b10, b11, b12, b13) h9 hm)) (a1, a2, a3, a4, a5, a6, a7, a8, a9, a10, a11, a12, a13) h
theorem lp14 {A1 A2 A3 A4 A5 A6 A7 A8 A9 A10 A11 A12 A13 A14 : Type} (W : Nat → A1 → A2 → A3 → A4 → A5 → A6 → A7 → A8 → A9 → A10 → A11 → A12 → A13 → A14 → Prop) (I : A1 → A2 → A3 → A4 → A5 → A6 → A7 → A8 → A9 → A10 → A11 → A12 → A13 → A14 → Prop) (μ : A1 → A2 → A3 → A4 → A5 → A6 → A7 → A8 → A9 → A10 → A11 → A12 → A13 → A14 → Nat) (hs : ∀ (n : Nat) (a1 : A1) (a2 : A2) (a3 : A3) (a4 : A4) (a5 : A5) (a6 : A6) (a7 : A7) (a8 : A8) (a9 : A9) (a10 : A10) (a11 : A11) (a12 : A12) (a13 : A13) (a14 : A14), I a1 a2 a3 a4 a5 a6 a7 a8 a9 a10 a11 a12 a13 a14 → (∀ (b1 : A1) (b2 : A2) (b3 : A3) (b4 : A4) (b5 : A5) (b6 : A6) (b7 : A7) (b8 : A8) (b9 : A9) (b10 : A10) (b11 : A11) (b12 : A12) (b13 : A13) (b14 : A14), I b1 b2 b3 b4 b5 b6 b7 b8 b9 b10 b11 b12 b13 b14 → μ b1 b2 b3 b4 b5 b6 b7 b8 b9 b10 b11 b12 b13 b14 < μ a1 a2 a3 a4 a5 a6 a7 a8 a9 a10 a11 a12 a13 a14 → W n b1 b2 b3 b4 b5 b6 b7 b8 b9 b10 b11 b12 b13 b14) → W (n + 1) a1 a2 a3 a4 a5 a6 a7 a8 a9 a10 a11 a12 a13 a14) (a1 : A1) (a2 : A2) (a3 : A3) (a4 : A4) (a5 : A5) (a6 : A6) (a7 : A7) (a8 : A8) (a9 : A9) (a10 : A10) (a11 : A11) (a12 : A12) (a13 : A13) (a14 : A14) (h : I a1 a2 a3 a4 a5 a6 a7 a8 a9 a10 a11 a12 a13 a14) : ∃ n, W n a1 a2 a3 a4 a5 a6 a7 a8 a9 a10 a11 a12 a13 a14 :=
  loop_m (σ := A1 × A2 × A3 × A4 × A5 × A6 × A7 × A8 × A9 × A10 × A11 × A12 × A13 × A14) (fun n s => W n s.1 s.2.1 s.2.2.1 s.2.2.2.1 s.2.2.2.2.1 s.2.2.2.2.2.1 s.2.2.2.2.2.2.1 s.2.2.2.2.2.2.2.1 s.2.2.2.2.2.2.2.2.1 s.2.2.2.2.2.2.2.2.2.1 s.2.2.2.2.2.2.2.2.2.2.1 s.2.2.2.2.2.2.2.2.2.2.2.1 s.2.2.2.2.2.2.2.2.2.2.2.2.1 s.2.2.2.2.2.2.2.2.2.2.2.2.2) (fun s => I s.1 s.2.1 s.2.2.1 s.2.2.2.1 s.2.2.2.2.1 s.2.2.2.2.2.1 s.2.2.2.2.2.2.1 s.2.2.2.2.2.2.2.1 s.2.2.2.2.2.2.2.2.1 s.2.2.2.2.2.2.2.2.2.1 s.2.2.2.2.2.2.2.2.2.2.1 s.2.2.2.2.2.2.2.2.2.2.2.1 s.2.2.2.2.2.2.2.2.2.2.2.2.1 s.2.2.2.2.2.2.2.2.2.2.2.2.2) (fun s => μ s.1 s.2.1 s.2.2.1 s.2.2.2.1 s.2.2.2.2.1 s.2.2.2.2.2.1 s.2.2.2.2.2.2.1 s.2.2.2.2.2.2.2.1 s.2.2.2.2.2.2.2.2.1 s.2.2.2.2.2.2.2.2.2.1 s.2.2.2.2.2.2.2.2.2.2.1 s.2.2.2.2.2.2.2.2.2.2.2.1 s.2.2.2.2.2.2.2.2.2.2.2.2.1 s.2.2.2.2.2.2.2.2.2.2.2.2.2) (fun n s hI hk => hs n s.1 s.2.1 s.2.2.1 s.2.2.2.1 s.2.2.2.2.1 s.2.2.2.2.2.1 s.2.2.2.2.2.2.1 s.2.2.2.2.2.2.2.1 s.2.2.2.2.2.2.2.2.1 s.2.2.2.2.2.2.2.2.2.1 s.2.2.2.2.2.2.2.2.2.2.1 s.2.2.2.2.2.2.2.2.2.2.2.1 s.2.2.2.2.2.2.2.2.2.2.2.2.1 s.2.2.2.2.2.2.2.2.2.2.2.2.2 hI (fun b1 b2 b3 b4 b5 b6 b7 b8 b9 b10 b11 b12 b13 b14 h9 hm => hk (b1, b2, b3, b4, b5, b6, b7, b8, b9, b10, b11, b12, b13, b14) h9 hm)) (a1, a2, a3, a4, a5, a6, a7, a8, a9, a10, a11, a12, a13, a14) h
theorem lp15 {A1 A2 A3 A4 A5 A6 A7 A8 A9 A10 A11 A12 A13 A14 A15 : Type} (W : Nat → A1 → A2 → A3 → A4 → A5 → A6 → A7 → A8 → A9 → A10 → A11 → A12 → A13 → A14 → A15 → Prop) (I : A1 → A2 → A3 → A4 → A5 → A6 → A7 → A8 → A9 → A10 → A11 → A12 → A13 → A14 → A15 → Prop) (μ : A1 → A2 → A3 → A4 → A5 → A6 → A7 → A8 → A9 → A10 → A11 → A12 → A13 → A14 → A15 → Nat) (hs : ∀ (n : Nat) (a1 : A1) (a2 : A2) (a3 : A3) (a4 : A4) (a5 : A5) (a6 : A6) (a7 : A7) (a8 : A8) (a9 : A9) (a10 : A10) (a11 : A11) (a12 : A12) (a13 : A13) (a14 : A14) (a15 : A15), I a1 a2 a3 a4 a5 a6 a7 a8 a9 a10 a11 a12 a13 a14 a15 → (∀ (b1 : A1) (b2 : A2) (b3 : A3) (b4 : A4) (b5 : A5) (b6 : A6) (b7 : A7) (b8 : A8) (b9 : A9) (b10 : A10) (b11 : A11) (b12 : A12) (b13 : A13) (b14 : A14) (b15 : A15), I b1 b2 b3 b4 b5 b6 b7 b8 b9 b10 b11 b12 b13 b14 b15 → μ b1 b2 b3 b4 b5 b6 b7 b8 b9 b10 b11 b12 b13 b14 b15 < μ a1 a2 a3 a4 a5 a6 a7 a8 a9 a10 a11 a12 a13 a14 a15 → W n b1 b2 b3 b4 b5 b6 b7 b8 b9 b10 b11 b12 b13 b14 b15) → W (n + 1) a1 a2 a3 a4 a5 a6 a7 a8 a9 a10 a11 a12 a13 a14 a15) (a1 : A1) (a2 : A2) (a3 : A3) (a4 : A4) (a5 : A5) (a6 : A6) (a7 : A7) (a8 : A8) (a9 : A9) (a10 : A10) (a11 : A11) (a12 : A12) (a13 : A13) (a14 : A14) (a15 : A15) (h : I a1 a2 a3 a4 a5 a6 a7 a8 a9 a10 a11 a12 a13 a14 a15) : ∃ n, W n a1 a2 a3 a4 a5 a6 a7 a8 a9 a10 a11 a12 a13 a14 a15 :=
  loop_m (σ := A1 × A2 × A3 × A4 × A5 × A6 × A7 × A8 × A9 × A10 × A11 × A12 × A13 × A14 × A15) (fun n s => W n s.1 s.2.1 s.2.2.1 s.2.2.2.1 s.2.2.2.2.1 s.2.2.2.2.2.1 s.2.2.2.2.2.2.1 s.2.2.2.2.2.2.2.1 s.2.2.2.2.2.2.2.2.1 s.2.2.2.2.2.2.2.2.2.1 s.2.2.2.2.2.2.2.2.2.2.1 s.2.2.2.2.2.2.2.2.2.2.2.1 s.2.2.2.2.2.2.2.2.2.2.2.2.1 s.2.2.2.2.2.2.2.2.2.2.2.2.2.1 s.2.2.2.2.2.2.2.2.2.2.2.2.2.2) (fun s => I s.1 s.2.1 s.2.2.1 s.2.2.2.1 s.2.2.2.2.1 s.2.2.2.2.2.1 s.2.2.2.2.2.2.1 s.2.2.2.2.2.2.2.1 s.2.2.2.2.2.2.2.2.1 s.2.2.2.2.2.2.2.2.2.1 s.2.2.2.2.2.2.2.2.2.2.1 s.2.2.2.2.2.2.2.2.2.2.2.1 s.2.2.2.2.2.2.2.2.2.2.2.2.1 s.2.2.2.2.2.2.2.2.2.2.2.2.2.1 s.2.2.2.2.2.2.2.2.2.2.2.2.2.2) (fun s => μ s.1 s.2.1 s.2.2.1 s.2.2.2.1 s.2.2.2.2.1 s.2.2.2.2.2.1 s.2.2.2.2.2.2.1 s.2.2.2.2.2.2.2.1 s.2.2.2.2.2.2.2.2.1 s.2.2.2.2.2.2.2.2.2.1 s.2.2.2.2.2.2.2.2.2.2.1 s.2.2.2.2.2.2.2.2.2.2.2.1 s.2.2.2.2.2.2.2.2.2.2.2.2.1 s.2.2.2.2.2.2.2.2.2.2.2.2.2.1 s.2.2.2.2.2.2.2.2.2.2.2.2.2.2) (fun n s hI hk => hs n s.1 s.2.1 s.2.2.1 s.2.2.2.1 s.2.2.2.2.1 s.2.2.2.2.2.1 s.2.2.2.2.2.2.1 s.2.2.2.2.2.2.2.1 s.2.2.2.2.2.2.2.2.1 s.2.2.2.2.2.2.2.2.2.1 s.2.2.2.2.2.2.2.2.2.2.1 s.2.2.2.2.2.2.2.2.2.2.2.1 s.2.2.2.2.2.2.2.2.2.2.2.2.1 s.2.2.2.2.2.2.2.2.2.2.2.2.2.1 s.2.2.2.2.2.2.2.2.2.2.2.2.2.2 hI (fun b1 b2 b3 b4 b5 b6 b7 b8 b9 b10 b11 b12 b13 b14 b15 h9 hm => hk (b1, b2, b3, b4, b5, b6, b7, b8, b9, b10, b11, b12, b13, b14, b15) h9 hm)) (a1, a2, a3, a4, a5, a6, a7, a8, a9, a10, a11, a12, a13, a14, a15) h
theorem lp16 {A1 A2 A3 A4 A5 A6 A7 A8 A9 A10 A11 A12 A13 A14 A15 A16 : Type} (W : Nat → A1 → A2 → A3 → A4 → A5 → A6 → A7 → A8 → A9 → A10 → A11 → A12 → A13 → A14 → A15 → A16 → Prop) (I : A1 → A2 → A3 → A4 → A5 → A6 → A7 → A8 → A9 → A10 → A11 → A12 → A13 → A14 → A15 → A16 → Prop) (μ : A1 → A2 → A3 → A4 → A5 → A6 → A7 → A8 → A9 → A10 → A11 → A12 → A13 → A14 → A15 → A16 → Nat) (hs : ∀ (n : Nat) (a1 : A1) (a2 : A2) (a3 : A3) (a4 : A4) (a5 : A5) (a6 : A6) (a7 : A7) (a8 : A8) (a9 : A9) (a10 : A10) (a11 : A11) (a12 : A12) (a13 : A13) (a14 : A14) (a15 : A15) (a16 : A16), I a1 a2 a3 a4 a5 a6 a7 a8 a9 a10 a11 a12 a13 a14 a15 a16 → (∀ (b1 : A1) (b2 : A2) (b3 : A3) (b4 : A4) (b5 : A5) (b6 : A6) (b7 : A7) (b8 : A8) (b9 : A9) (b10 : A10) (b11 : A11) (b12 : A12) (b13 : A13) (b14 : A14) (b15 : A15) (b16 : A16), I b1 b2 b3 b4 b5 b6 b7 b8 b9 b10 b11 b12 b13 b14 b15 b16 → μ b1 b2 b3 b4 b5 b6 b7 b8 b9 b10 b11 b12 b13 b14 b15 b16 < μ a1 a2 a3 a4 a5 a6 a7 a8 a9 a10 a11 a12 a13 a14 a15 a16 → W n b1 b2 b3 b4 b5 b6 b7 b8 b9 b10 b11 b12 b13 b14 b15 b16) → W (n + 1) a1 a2 a3 a4 a5 a6 a7 a8 a9 a10 a11 a12 a13 a14 a15 a16) (a1 : A1) (a2 : A2) (a3 : A3) (a4 : A4) (a5 : A5) (a6 : A6) (a7 : A7) (a8 : A8) (a9 : A9) (a10 : A10) (a11 : A11) (a12 : A12) (a13 : A13) (a14 : A14) (a15 : A15) (a16 : A16) (h : I a1 a2 a3 a4 a5 a6 a7 a8 a9 a10 a11 a12 a13 a14 a15 a16) : ∃ n, W n a1 a2 a3 a4 a5 a6 a7 a8 a9 a10 a11 a12 a13 a14 a15 a16 :=
  loop_m (σ := A1 × A2 × A3 × A4 × A5 × A6 × A7 × A8 × A9 × A10 × A11 × A12 × A13 × A14 × A15 × A16) (fun n s => W n s.1 s.2.1 s.2.2.1 s.2.2.2.1 s.2.2.2.2.1 s.2.2.2.2.2.1 s.2.2.2.2.2.2.1 s.2.2.2.2.2.2.2.1 s.2.2.2.2.2.2.2.2.1 s.2.2.2.2.2.2.2.2.2.1 s.2.2.2.2.2.2.2.2.2.2.1 s.2.2.2.2.2.2.2.2.2.2.2.1 s.2.2.2.2.2.2.2.2.2.2.2.2.1 s.2.2.2.2.2.2.2.2.2.2.2.2.2.1 s.2.2.2.2.2.2.2.2.2.2.2.2.2.2.1 s.2.2.2.2.2.2.2.2.2.2.2.2.2.2.2) (fun s => I s.1 s.2.1 s.2.2.1 s.2.2.2.1 s.2.2.2.2.1 s.2.2.2.2.2.1 s.2.2.2.2.2.2.1 s.2.2.2.2.2.2.2.1 s.2.2.2.2.2.2.2.2.1 s.2.2.2.2.2.2.2.2.2.1 s.2.2.2.2.2.2.2.2.2.2.1 s.2.2.2.2.2.2.2.2.2.2.2.1 s.2.2.2.2.2.2.2.2.2.2.2.2.1 s.2.2.2.2.2.2.2.2.2.2.2.2.2.1 s.2.2.2.2.2.2.2.2.2.2.2.2.2.2.1 s.2.2.2.2.2.2.2.2.2.2.2.2.2.2.2) (fun s => μ s.1 s.2.1 s.2.2.1 s.2.2.2.1 s.2.2.2.2.1 s.2.2.2.2.2.1 s.2.2.2.2.2.2.1 s.2.2.2.2.2.2.2.1 s.2.2.2.2.2.2.2.2.1 s.2.2.2.2.2.2.2.2.2.1 s.2.2.2.2.2.2.2.2.2.2.1 s.2.2.2.2.2.2.2.2.2.2.2.1 s.2.2.2.2.2.2.2.2.2.2.2.2.1 s.2.2.2.2.2.2.2.2.2.2.2.2.2.1 s.2.2.2.2.2.2.2.2.2.2.2.2.2.2.1 s.2.2.2.2.2.2.2.2.2.2.2.2.2.2.2) (fun n s hI hk => hs n s.1 s.2.1 s.2.2.1 s.2.2.2.1 s.2.2.2.2.1 s.2.2.2.2.2.1 s.2.2.2.2.2.2.1 s.2.2.2.2.2.2.2.1 s.2.2.2.2.2.2.2.2.1 s.2.2.2.2.2.2.2.2.2.1 s.2.2.2.2.2.2.2.2.2.2.1 s.2.2.2.2.2.2.2.2.2.2.2.1 s.2.2.2.2.2.2.2.2.2.2.2.2.1 s.2.2.2.2.2.2.2.2.2.2.2.2.2.1 s.2.2.2.2.2.2.2.2.2.2.2.2.2.2.1 s.2.2.2.2.2.2.2.2.2.2.2.2.2.2.2 hI (fun b1 b2 b3 b4 b5 b6 b7 b8 b9 b10 b11 b12 b13 b14 b15 b16 h9 hm => hk (b1, b2, b3, b4, b5, b6, b7, b8, b9, b10, b11, b12, b13, b14, b15, b16) h9 hm)) (a1, a2, a3, a4, a5, a6, a7, a8, a9, a10, a11, a12, a13, a14, a15, a16) h
theorem pk_least (P : Nat → Prop) (h : ∃ k, P k) : ∃ k, P k ∧ ∀ j, j < k → ¬ P j := by
  obtain ⟨k, hk⟩ := h
  induction k using Nat.strongRecOn with
  | ind k ih =>
    by_cases e : ∃ j, j < k ∧ P j
    · obtain ⟨j, hj, pj⟩ := e
      exact ih j hj pj
    · exact ⟨k, hk, fun j hj pj => e ⟨j, hj, pj⟩⟩
theorem rp1 {ρ A1 : Type} (W : Nat → (ρ → Prop) → A1 → Prop) (ok : A1 → Prop) (μ : A1 → Nat) (val : A1 → ρ)
    (hs : ∀ (d : Nat) (post : ρ → Prop) (a1 : A1), ok a1 → post (val a1) → (∀ (post' : ρ → Prop) (b1 : A1), ok b1 → μ b1 < μ a1 → post' (val b1) → W d post' b1) → W (d + 1) post a1) :
    ∀ (d : Nat) (post : ρ → Prop) (a1 : A1), ok a1 → μ a1 < d → post (val a1) → W d post a1 := by
  intro d
  induction d with
  | zero => intro post a1 _ h; omega
  | succ d ih =>
    intro post a1 ho hm hp
    exact hs d post a1 ho hp (fun post' b1 ho' hm' hp' => ih post' b1 ho' (by omega) hp')
theorem rp2 {ρ A1 A2 : Type} (W : Nat → (ρ → Prop) → A1 → A2 → Prop) (ok : A1 → A2 → Prop) (μ : A1 → A2 → Nat) (val : A1 → A2 → ρ)
    (hs : ∀ (d : Nat) (post : ρ → Prop) (a1 : A1) (a2 : A2), ok a1 a2 → post (val a1 a2) → (∀ (post' : ρ → Prop) (b1 : A1) (b2 : A2), ok b1 b2 → μ b1 b2 < μ a1 a2 → post' (val b1 b2) → W d post' b1 b2) → W (d + 1) post a1 a2) :
    ∀ (d : Nat) (post : ρ → Prop) (a1 : A1) (a2 : A2), ok a1 a2 → μ a1 a2 < d → post (val a1 a2) → W d post a1 a2 := by
  intro d
  induction d with
  | zero => intro post a1 a2 _ h; omega
  | succ d ih =>
    intro post a1 a2 ho hm hp
    exact hs d post a1 a2 ho hp (fun post' b1 b2 ho' hm' hp' => ih post' b1 b2 ho' (by omega) hp')
theorem rp3 {ρ A1 A2 A3 : Type} (W : Nat → (ρ → Prop) → A1 → A2 → A3 → Prop) (ok : A1 → A2 → A3 → Prop) (μ : A1 → A2 → A3 → Nat) (val : A1 → A2 → A3 → ρ)
    (hs : ∀ (d : Nat) (post : ρ → Prop) (a1 : A1) (a2 : A2) (a3 : A3), ok a1 a2 a3 → post (val a1 a2 a3) → (∀ (post' : ρ → Prop) (b1 : A1) (b2 : A2) (b3 : A3), ok b1 b2 b3 → μ b1 b2 b3 < μ a1 a2 a3 → post' (val b1 b2 b3) → W d post' b1 b2 b3) → W (d + 1) post a1 a2 a3) :
    ∀ (d : Nat) (post : ρ → Prop) (a1 : A1) (a2 : A2) (a3 : A3), ok a1 a2 a3 → μ a1 a2 a3 < d → post (val a1 a2 a3) → W d post a1 a2 a3 := by
  intro d
  induction d with
  | zero => intro post a1 a2 a3 _ h; omega
  | succ d ih =>
    intro post a1 a2 a3 ho hm hp
    exact hs d post a1 a2 a3 ho hp (fun post' b1 b2 b3 ho' hm' hp' => ih post' b1 b2 b3 ho' (by omega) hp')
theorem rp4 {ρ A1 A2 A3 A4 : Type} (W : Nat → (ρ → Prop) → A1 → A2 → A3 → A4 → Prop) (ok : A1 → A2 → A3 → A4 → Prop) (μ : A1 → A2 → A3 → A4 → Nat) (val : A1 → A2 → A3 → A4 → ρ)
    (hs : ∀ (d : Nat) (post : ρ → Prop) (a1 : A1) (a2 : A2) (a3 : A3) (a4 : A4), ok a1 a2 a3 a4 → post (val a1 a2 a3 a4) → (∀ (post' : ρ → Prop) (b1 : A1) (b2 : A2) (b3 : A3) (b4 : A4), ok b1 b2 b3 b4 → μ b1 b2 b3 b4 < μ a1 a2 a3 a4 → post' (val b1 b2 b3 b4) → W d post' b1 b2 b3 b4) → W (d + 1) post a1 a2 a3 a4) :
    ∀ (d : Nat) (post : ρ → Prop) (a1 : A1) (a2 : A2) (a3 : A3) (a4 : A4), ok a1 a2 a3 a4 → μ a1 a2 a3 a4 < d → post (val a1 a2 a3 a4) → W d post a1 a2 a3 a4 := by
  intro d
  induction d with
  | zero => intro post a1 a2 a3 a4 _ h; omega
  | succ d ih =>
    intro post a1 a2 a3 a4 ho hm hp
    exact hs d post a1 a2 a3 a4 ho hp (fun post' b1 b2 b3 b4 ho' hm' hp' => ih post' b1 b2 b3 b4 ho' (by omega) hp')
theorem rp5 {ρ A1 A2 A3 A4 A5 : Type} (W : Nat → (ρ → Prop) → A1 → A2 → A3 → A4 → A5 → Prop) (ok : A1 → A2 → A3 → A4 → A5 → Prop) (μ : A1 → A2 → A3 → A4 → A5 → Nat) (val : A1 → A2 → A3 → A4 → A5 → ρ)
    (hs : ∀ (d : Nat) (post : ρ → Prop) (a1 : A1) (a2 : A2) (a3 : A3) (a4 : A4) (a5 : A5), ok a1 a2 a3 a4 a5 → post (val a1 a2 a3 a4 a5) → (∀ (post' : ρ → Prop) (b1 : A1) (b2 : A2) (b3 : A3) (b4 : A4) (b5 : A5), ok b1 b2 b3 b4 b5 → μ b1 b2 b3 b4 b5 < μ a1 a2 a3 a4 a5 → post' (val b1 b2 b3 b4 b5) → W d post' b1 b2 b3 b4 b5) → W (d + 1) post a1 a2 a3 a4 a5) :
    ∀ (d : Nat) (post : ρ → Prop) (a1 : A1) (a2 : A2) (a3 : A3) (a4 : A4) (a5 : A5), ok a1 a2 a3 a4 a5 → μ a1 a2 a3 a4 a5 < d → post (val a1 a2 a3 a4 a5) → W d post a1 a2 a3 a4 a5 := by
  intro d
  induction d with
  | zero => intro post a1 a2 a3 a4 a5 _ h; omega
  | succ d ih =>
    intro post a1 a2 a3 a4 a5 ho hm hp
    exact hs d post a1 a2 a3 a4 a5 ho hp (fun post' b1 b2 b3 b4 b5 ho' hm' hp' => ih post' b1 b2 b3 b4 b5 ho' (by omega) hp')
theorem rp6 {ρ A1 A2 A3 A4 A5 A6 : Type} (W : Nat → (ρ → Prop) → A1 → A2 → A3 → A4 → A5 → A6 → Prop) (ok : A1 → A2 → A3 → A4 → A5 → A6 → Prop) (μ : A1 → A2 → A3 → A4 → A5 → A6 → Nat) (val : A1 → A2 → A3 → A4 → A5 → A6 → ρ)
    (hs : ∀ (d : Nat) (post : ρ → Prop) (a1 : A1) (a2 : A2) (a3 : A3) (a4 : A4) (a5 : A5) (a6 : A6), ok a1 a2 a3 a4 a5 a6 → post (val a1 a2 a3 a4 a5 a6) → (∀ (post' : ρ → Prop) (b1 : A1) (b2 : A2) (b3 : A3) (b4 : A4) (b5 : A5) (b6 : A6), ok b1 b2 b3 b4 b5 b6 → μ b1 b2 b3 b4 b5 b6 < μ a1 a2 a3 a4 a5 a6 → post' (val b1 b2 b3 b4 b5 b6) → W d post' b1 b2 b3 b4 b5 b6) → W (d + 1) post a1 a2 a3 a4 a5 a6) :
    ∀ (d : Nat) (post : ρ → Prop) (a1 : A1) (a2 : A2) (a3 : A3) (a4 : A4) (a5 : A5) (a6 : A6), ok a1 a2 a3 a4 a5 a6 → μ a1 a2 a3 a4 a5 a6 < d → post (val a1 a2 a3 a4 a5 a6) → W d post a1 a2 a3 a4 a5 a6 := by
  intro d
  induction d with
  | zero => intro post a1 a2 a3 a4 a5 a6 _ h; omega
  | succ d ih =>
    intro post a1 a2 a3 a4 a5 a6 ho hm hp
    exact hs d post a1 a2 a3 a4 a5 a6 ho hp (fun post' b1 b2 b3 b4 b5 b6 ho' hm' hp' => ih post' b1 b2 b3 b4 b5 b6 ho' (by omega) hp')
theorem rec_p {σ ρ : Type} (W : Nat → (ρ → Prop) → σ → Prop) (ok : σ → Prop) (μ : σ → Nat) (val : σ → ρ)
    (hs : ∀ d s post, ok s → post (val s) → (∀ s' post', ok s' → μ s' < μ s → post' (val s') → W d post' s') → W (d + 1) post s) :
    ∀ d s post, ok s → μ s < d → post (val s) → W d post s := by
  intro d
  induction d with
  | zero => intro s post _ h; omega
  | succ d ih =>
    intro s post ho hm hp
    exact hs d s post ho hp (fun s' post' ho' hm' hp' => ih s' post' ho' (by omega) hp')
theorem rec_q {σ ρ : Type} (W : Nat → (ρ → Prop) → σ → Prop) (ok : σ → Prop) (μ : σ → Nat) (Q : σ → ρ → Prop)
    (hs : ∀ d s post, ok s → (∀ r, Q s r → post r) → (∀ s' post', ok s' → μ s' < μ s → (∀ r, Q s' r → post' r) → W d post' s') → W (d + 1) post s) :
    ∀ d s post, ok s → μ s < d → (∀ r, Q s r → post r) → W d post s := by
  intro d
  induction d with
  | zero => intro s post _ h; omega
  | succ d ih =>
    intro s post ho hm hp
    exact hs d s post ho hp (fun s' post' ho' hm' hp' => ih s' post' ho' (by omega) hp')
def bx_sum (f : Nat → Int32) : Nat → Int32
  | 0 => 0
  | n + 1 => bx_sum f n + f n
theorem ek_u {A : Prop} {B : Nat → Prop} {k N : Nat} (hk : k < N) (h : B k) : (some k = none → A) ∧ (∀ y : Nat, some k = some y → (y < N ∧ B y)) :=
  ⟨fun z => absurd z (Option.some_ne_none k), fun _ e => (by cases e; exact ⟨hk, h⟩)⟩
theorem ek_nu {A : Prop} {B : Nat → Prop} (h : A) : ((none : Option Nat) = none → A) ∧ (∀ y : Nat, (none : Option Nat) = some y → B y) :=
  ⟨fun _ => h, fun _ e => (by cases e)⟩
theorem ek_if {c d A B : Prop} (e : c ↔ d) (f : d → A) (g : ¬ d → B) : (c → A) ∧ (¬ c → B) :=
  ⟨fun z => f (e.mp z), fun z => g (fun y => z (e.mpr y))⟩
theorem ek_v {α : Sort _} {P : α → Prop} {a b : α} (e : a = b) (h : P b) : P a := e ▸ h
theorem co_some {x : Option Nat} {A : Prop} {B : Nat → Prop} (i : Nat) (h : B i) (hx : x = some i := by rfl) : (x = none → A) ∧ (∀ y : Nat, x = some y → B y) := by
  subst hx
  exact ⟨fun e => (nomatch e), fun y e => Option.some.inj e ▸ h⟩
theorem co_none {x : Option Nat} {A : Prop} {B : Nat → Prop} (h : A) (hx : x = none := by rfl) : (x = none → A) ∧ (∀ y : Nat, x = some y → B y) := by
  subst hx
  exact ⟨fun _ => h, fun y e => (nomatch e)⟩
theorem co_any {x : Option Nat} {A : Prop} {B : Nat → Prop} (hn : x = none → A) (hs : ∀ i : Nat, x = some i → B i) : (x = none → A) ∧ (∀ y : Nat, x = some y → B y) := ⟨hn, hs⟩
theorem co_2 {P : Nat → Prop} (h0 : P 0) (h1 : P 1) {i : Nat} (hi : i < 2) : P i :=
  match i, hi with
  | 0, _ => h0
  | 1, _ => h1
theorem co_3 {P : Nat → Prop} (h0 : P 0) (h1 : P 1) (h2 : P 2) {i : Nat} (hi : i < 3) : P i :=
  match i, hi with
  | 0, _ => h0
  | 1, _ => h1
  | 2, _ => h2
theorem co_4 {P : Nat → Prop} (h0 : P 0) (h1 : P 1) (h2 : P 2) (h3 : P 3) {i : Nat} (hi : i < 4) : P i :=
  match i, hi with
  | 0, _ => h0
  | 1, _ => h1
  | 2, _ => h2
  | 3, _ => h3
theorem co_dec {N : Nat} {P : Nat → Prop} [DecidablePred P] (h : (List.range N).all (fun i => decide (P i)) = true) {i : Nat} (hi : i < N) : P i := by
  have := List.all_eq_true.mp h i (List.mem_range.mpr hi)
  exact of_decide_eq_true this
theorem co_tab {α : Type} {l : List α} {d : α} {P : α → Prop} (h : ∀ a, a ∈ l → P a) {i : Nat} (hi : i < l.length) : P (l.getD i d) := by
  rw [List.getD_eq_getElem?_getD, List.getElem?_eq_getElem hi]
  exact h _ (List.getElem_mem hi)
theorem pk_mu {x : Int32} {L : Nat} (h0 : ¬ x < 0) (h : ¬ nI L ≤ x) (hL : L < 2 ^ 31) : ∃ j : Nat, j < L ∧ x = nI j ∧ x + 1 = nI (j + 1) ∧ x.toNatClampNeg = j ∧ L - (x + 1).toNatClampNeg < L - x.toNatClampNeg := by
  obtain ⟨j, hj, rfl⟩ := nI_of h0
  have hl : j < L := Nat.not_le.mp fun q => h (nI_le q hj)
  refine ⟨j, hl, rfl, nI_1 j, nI_clamp hj, ?_⟩
  rw [nI_1, nI_clamp (by omega), nI_clamp hj]
  omega
theorem op_s {α : Type} {r : Option α} {A : Prop} {B : α → Prop} {y : α} (h : r = some y) (b : B y) : (r = none → A) ∧ ∀ z, r = some z → B z :=
  ⟨fun e => (by rw [h] at e; cases e), fun z e => (by rw [h] at e; cases e; exact b)⟩
def l_holds {α : Type} (a : Nat → Option Nat) (LP : List Nat) (p : Nat → α) (c : Nat) (b : Nat → α) : Prop :=
  ∀ j, j < c → ∃ y, a j = some y ∧ y ∈ LP ∧ p y = b j
theorem l_holds_0 {α : Type} {a : Nat → Option Nat} {LP : List Nat} {p b : Nat → α} : l_holds a LP p 0 b := fun j h => absurd h (Nat.not_lt_zero j)
theorem l_in_new (LP : List Nat) (q : Nat) : q ∈ LP ++ [q] := List.mem_append.mpr (Or.inr (List.mem_singleton.mpr rfl))
def l_sum (b : Nat → Int32) : Nat → Int32
  | 0 => 0
  | k + 1 => l_sum b k + b k
theorem sb_shr0 (x : Int32) : x >>> ((0 : Int32) &&& 31) = x := by
  rw [show ((0 : Int32) &&& 31) = 0 by decide]
  simp
theorem sb_shl0 (x : Int32) : x <<< ((0 : Int32) &&& 31) = x := by
  rw [show ((0 : Int32) &&& 31) = 0 by decide]
  simp
theorem sb_cl0 : (0 : Int32).toNatClampNeg = 0 := by decide
theorem sb_m1 {p : Nat} (h : 0 < p) : nI p + (-1) = nI (p - 1) := by
  obtain ⟨q, rfl⟩ : ∃ q, p = q + 1 := ⟨p - 1, by omega⟩
  exact pk_m1 q
def sb_b (c : Nat) : Int32 := (nI c).toInt8.toInt32
theorem sb_byte : ∀ c, c < 256 → sb_b c &&& 255 = nI c ∧ ((nI c).toUInt32 % 65536).toInt32 = nI c ∧ nI c ≤ 255 := by decide +kernel
def sb_Fit (a : Nat → Int32) : Prop := ∀ j, fits .byte (.int (a j)) = true
def sb_Lat (t : Nat → Nat) (n : Nat) (a : Nat → Int32) : Prop := ∀ j, j < n → t j < 256 ∧ a j = sb_b (t j)
theorem sb_fitB (c : Nat) : fits .byte (.int (sb_b c)) = true := pk_fb _
theorem sb_fit0 : sb_Fit (fun _ => 0) := fun _ => by
  show fits .byte (.int 0) = true
  decide
theorem sb_fitU {a : Nat → Int32} {k : Nat} {x : Int32} (h : sb_Fit a) (hx : fits .byte (.int x) = true) : sb_Fit (upd a k x) := by
  intro j
  by_cases e : j = k
  · subst e
    rw [pk_us]
    exact hx
  · rw [pk_un e]
    exact h j
def sb_cat (t : Nat → Nat) (n : Nat) (s : Nat → Nat) : Nat → Nat := fun j => if j < n then t j else s (j - n)
theorem sb_cat_lo {t s : Nat → Nat} {n j : Nat} (h : j < n) : sb_cat t n s j = t j := if_pos h
theorem sb_cat_hi {t s : Nat → Nat} {n j : Nat} : sb_cat t n s (n + j) = s j := by
  show (if n + j < n then t (n + j) else s (n + j - n)) = s j
  rw [if_neg (by omega), Nat.add_sub_cancel_left]
theorem sb_latPut {t s : Nat → Nat} {n w : Nat} {a a' : Nat → Int32} (h : sb_Lat t n a) (hk : ∀ j, j < n → a' j = a j) (hs : ∀ i, i < w → s i < 256 ∧ a' (n + i) = sb_b (s i)) : sb_Lat (sb_cat t n s) (n + w) a' := by
  intro j hj
  by_cases e : j < n
  · rw [sb_cat_lo e, hk j e]
    exact h j e
  · obtain ⟨i, rfl⟩ : ∃ i, j = n + i := ⟨j - n, by omega⟩
    rw [sb_cat_hi]
    exact hs i (by omega)
theorem sb_latKeep {t : Nat → Nat} {n : Nat} {a a' : Nat → Int32} (h : sb_Lat t n a) (hk : ∀ j, j < n → a' j = a j) : sb_Lat t n a' := fun j hj => by
  rw [hk j hj]
  exact h j hj
def sb_cap (q m : Nat) : Nat := if q ≤ m then m else if 2 * m + 2 < q then q else 2 * m + 2
def sb_Room (q m mc ms : Nat) : Prop := q ≤ m ∨ (1 ≤ mc ∧ sb_cap q m ≤ ms ∧ sb_cap q m ≤ 65536)
theorem sb_cap_ge (q m : Nat) : q ≤ sb_cap q m := by
  unfold sb_cap
  split
  · omega
  · split <;> omega
theorem sb_cap_gem (q m : Nat) : m ≤ sb_cap q m := by
  unfold sb_cap
  split
  · omega
  · split <;> omega
theorem sb_cap_le {q m mc ms : Nat} (hm : m ≤ 65536) (hr : sb_Room q m mc ms) : sb_cap q m ≤ 65536 := by
  rcases hr with h | h
  · rw [sb_cap, if_pos h]
    exact hm
  · exact h.2.2
theorem sb_at {P : Int32 → Prop} {x y : Int32} (e : x = y) (h : P y) : P x := e ▸ h
def sb_dg (w : Nat) : Nat := if w < 10 then 1 else if w < 100 then 2 else if w < 1000 then 3 else if w < 10000 then 4 else if w < 100000 then 5 else if w < 1000000 then 6 else if w < 10000000 then 7 else if w < 100000000 then 8 else if w < 1000000000 then 9 else 10
def sb_dec (v : Nat) : Nat → Nat := fun i => 48 + v / 10 ^ (sb_dg v - 1 - i) % 10
theorem sb_dg_in (w : Nat) : 1 ≤ sb_dg w ∧ sb_dg w ≤ 10 := by
  unfold sb_dg
  constructor <;> (repeat' split) <;> omega
theorem sb_dg100 {w : Nat} (h : 100 ≤ w) (hw : w < 2 ^ 31) : sb_dg w = sb_dg (w / 100) + 2 := by
  rw [sb_dg, sb_dg, if_neg (show ¬ w < 10 by omega), if_neg (show ¬ w < 100 by omega)]
  by_cases h3 : w < 1000
  · rw [if_pos h3, if_pos (show w / 100 < 10 by omega)]
  rw [if_neg h3, if_neg (show ¬ w / 100 < 10 by omega)]
  by_cases h4 : w < 10000
  · rw [if_pos h4, if_pos (show w / 100 < 100 by omega)]
  rw [if_neg h4, if_neg (show ¬ w / 100 < 100 by omega)]
  by_cases h5 : w < 100000
  · rw [if_pos h5, if_pos (show w / 100 < 1000 by omega)]
  rw [if_neg h5, if_neg (show ¬ w / 100 < 1000 by omega)]
  by_cases h6 : w < 1000000
  · rw [if_pos h6, if_pos (show w / 100 < 10000 by omega)]
  rw [if_neg h6, if_neg (show ¬ w / 100 < 10000 by omega)]
  by_cases h7 : w < 10000000
  · rw [if_pos h7, if_pos (show w / 100 < 100000 by omega)]
  rw [if_neg h7, if_neg (show ¬ w / 100 < 100000 by omega)]
  by_cases h8 : w < 100000000
  · rw [if_pos h8, if_pos (show w / 100 < 1000000 by omega)]
  rw [if_neg h8, if_neg (show ¬ w / 100 < 1000000 by omega)]
  by_cases h9 : w < 1000000000
  · rw [if_pos h9, if_pos (show w / 100 < 10000000 by omega)]
  rw [if_neg h9, if_neg (show ¬ w / 100 < 10000000 by omega)]
  rw [if_pos (show w / 100 < 100000000 by omega)]
theorem sb_negT {w : Nat} (h : w < 2 ^ 31) : (-nI w).toInt = -(w : Int) := by
  rw [Int32.toInt_neg, nI_toInt h]
  exact Int.bmod_eq_of_le (by omega) (by omega)
theorem sb_nle {a b : Nat} (ha : a < 2 ^ 31) (hb : b < 2 ^ 31) : -nI a ≤ -nI b ↔ b ≤ a := by
  rw [Int32.le_iff_toInt_le, sb_negT ha, sb_negT hb]
  omega
theorem sb_nlt {a b : Nat} (ha : a < 2 ^ 31) (hb : b < 2 ^ 31) : -nI a < -nI b ↔ b < a := by
  rw [Int32.lt_iff_toInt_lt, sb_negT ha, sb_negT hb]
  omega
theorem sb_cmp {A B : Prop} {x : Int32} (v c : Nat) (f : c ≤ v → A) (g : v < c → B) (hv : v < 2 ^ 31) (hx : x = -nI c := by rfl) (hc : c < 2 ^ 31 := by omega) : (-nI v ≤ x → A) ∧ (¬ -nI v ≤ x → B) := by
  subst hx
  rw [sb_nle hv hc]
  exact ⟨f, fun z => g (by omega)⟩
theorem sb_ndiv {w : Nat} (hw : w < 2 ^ 31) : (-nI w) / 100 = -nI (w / 100) := by
  apply Int32.toInt_inj.mp
  have h100 : (100 : Int32).toInt = 100 := by decide
  rw [Int32.toInt_div, sb_negT hw, h100, sb_negT (by omega), Int.neg_tdiv, Int.tdiv_eq_ediv_of_nonneg (by omega), Int.bmod_eq_of_le (by omega) (by omega)]
  omega
theorem sb_nrem {w : Nat} (hw : w < 2 ^ 31) : (-nI (w / 100)) * 100 - (-nI w) = nI (w % 100) := by
  have h := pk_rem (a := w) (d := 100) hw (by decide) (by decide)
  rw [pk_div hw (by decide) (by decide)] at h
  rw [← h]
  show (-nI (w / 100)) * nI 100 - (-nI w) = nI w - nI (w / 100) * nI 100
  rw [Int32.neg_mul, Int32.sub_neg, Int32.add_comm, ← Int32.sub_eq_add_neg]
end
section
/-! sums over the first n numbers, counts over the six events -/
def sp_S (g : Nat → Int) : Nat → Int
  | 0 => 0
  | n + 1 => sp_S g n + g n
theorem sp_congr {g h : Nat → Int} : ∀ n, (∀ j, j < n → g j = h j) → sp_S g n = sp_S h n
  | 0, _ => rfl
  | n + 1, H => by rw [sp_S, sp_S, sp_congr n (fun j hj => H j (by omega)), H n (by omega)]
theorem sp_le {g h : Nat → Int} : ∀ n, (∀ j, j < n → g j ≤ h j) → sp_S g n ≤ sp_S h n
  | 0, _ => Int.le_refl _
  | n + 1, H => by
    have a := sp_le n (fun j hj => H j (by omega))
    have b := H n (by omega)
    rw [sp_S, sp_S]; omega
theorem sp_add (g h : Nat → Int) : ∀ n, sp_S (fun j => g j + h j) n = sp_S g n + sp_S h n
  | 0 => rfl
  | n + 1 => by rw [sp_S, sp_S, sp_S, sp_add g h n]; omega
theorem sp_sub (g h : Nat → Int) : ∀ n, sp_S (fun j => g j - h j) n = sp_S g n - sp_S h n
  | 0 => rfl
  | n + 1 => by rw [sp_S, sp_S, sp_S, sp_sub g h n]; omega
theorem sp_mulc (k : Int) (g : Nat → Int) : ∀ n, sp_S (fun j => g j * k) n = sp_S g n * k
  | 0 => by rw [sp_S, sp_S]; omega
  | n + 1 => by rw [sp_S, sp_S, sp_mulc k g n, Int.add_mul]
theorem sp_const (k : Int) : ∀ n, sp_S (fun _ => k) n = n * k
  | 0 => by rw [sp_S]; omega
  | n + 1 => by rw [sp_S, sp_const k n, Int.natCast_succ, Int.add_mul]; omega
theorem sp_zero {g : Nat → Int} (n : Nat) (h : ∀ j, j < n → g j = 0) : sp_S g n = 0 := by
  rw [sp_congr (h := fun _ => 0) n h, sp_const]; omega
theorem sp_nonneg {g : Nat → Int} (n : Nat) (h : ∀ j, j < n → 0 ≤ g j) : 0 ≤ sp_S g n := by
  have := sp_le (g := fun _ => 0) (h := g) n h
  rw [sp_const] at this; omega
/-- one summand of a sum of nonnegative ones -/
theorem sp_one {g : Nat → Int} : ∀ n i, (∀ j, j < n → 0 ≤ g j) → i < n → g i ≤ sp_S g n
  | 0, _, _, hi => absurd hi (by omega)
  | n + 1, i, h, hi => by
    rw [sp_S]
    by_cases e : i = n
    · have := sp_nonneg n (fun j hj => h j (by omega))
      rw [e]; omega
    · have a := sp_one n i (fun j hj => h j (by omega)) (by omega)
      have b := h n (by omega)
      omega
/-- two by two -/
theorem sp_pair (g : Nat → Int) : ∀ n, sp_S g (2 * n) = sp_S (fun j => g (2 * j) + g (2 * j + 1)) n
  | 0 => rfl
  | n + 1 => by
    rw [sp_S, ← sp_pair g n, show 2 * (n + 1) = 2 * n + 1 + 1 by omega, sp_S, sp_S]; omega
/-- one summand changed -/
theorem sp_chg {g h : Nat → Int} {i : Nat} : ∀ n, i < n → (∀ j, j < n → j ≠ i → h j = g j) → sp_S h n = sp_S g n + (h i - g i)
  | 0, hi, _ => absurd hi (by omega)
  | n + 1, hi, H => by
    rw [sp_S, sp_S]
    by_cases e : i = n
    · rw [sp_congr (g := h) (h := g) n (fun j hj => H j (by omega) (by omega)), e]; omega
    · rw [sp_chg n (by omega) (fun j hj => H j (by omega)), H n (by omega) (by omega)]; omega
/-- how many of the six -/
def cn_6 (p : Nat → Bool) : Nat := (p 0).toNat + (p 1).toNat + (p 2).toNat + (p 3).toNat + (p 4).toNat + (p 5).toNat
theorem cn_b (x : Bool) : x.toNat ≤ 1 := by cases x <;> decide
theorem cn_le6 (p : Nat → Bool) : cn_6 p ≤ 6 := by
  have h0 := cn_b (p 0); have h1 := cn_b (p 1); have h2 := cn_b (p 2)
  have h3 := cn_b (p 3); have h4 := cn_b (p 4); have h5 := cn_b (p 5)
  unfold cn_6; omega
theorem cn_bm {x y : Bool} (h : x = true → y = true) : x.toNat ≤ y.toNat := by
  cases x <;> cases y <;> first | decide | (have := h rfl; contradiction)
theorem cn_mono {p q : Nat → Bool} (h : ∀ v, v < 6 → p v = true → q v = true) : cn_6 p ≤ cn_6 q := by
  have h0 := cn_bm (h 0 (by omega)); have h1 := cn_bm (h 1 (by omega)); have h2 := cn_bm (h 2 (by omega))
  have h3 := cn_bm (h 3 (by omega)); have h4 := cn_bm (h 4 (by omega)); have h5 := cn_bm (h 5 (by omega))
  unfold cn_6; omega
theorem cn_bs {x y : Bool} (hx : x = false) (hy : y = true) : x.toNat + 1 ≤ y.toNat := by
  subst hx hy; decide
theorem cn_strict {p q : Nat → Bool} (h : ∀ v, v < 6 → p v = true → q v = true) {w : Nat} (hw : w < 6) (hp : p w = false) (hq : q w = true) : cn_6 p + 1 ≤ cn_6 q := by
  have h0 := cn_bm (h 0 (by omega)); have h1 := cn_bm (h 1 (by omega)); have h2 := cn_bm (h 2 (by omega))
  have h3 := cn_bm (h 3 (by omega)); have h4 := cn_bm (h 4 (by omega)); have h5 := cn_bm (h 5 (by omega))
  have hs := cn_bs hp hq
  have hc : w = 0 ∨ w = 1 ∨ w = 2 ∨ w = 3 ∨ w = 4 ∨ w = 5 := by omega
  unfold cn_6
  rcases hc with rfl | rfl | rfl | rfl | rfl | rfl <;> omega
theorem cn_lt6 {p : Nat → Bool} {w : Nat} (hw : w < 6) (hp : p w = false) : cn_6 p + 1 ≤ 6 :=
  Nat.le_trans (cn_strict (q := fun _ => true) (fun _ _ _ => rfl) hw hp rfl) (cn_le6 _)
/-- an 'if' over a proposition -/
noncomputable def cn_d (p : Prop) : Bool := @ite _ p (Classical.propDecidable p) true false
theorem cn_dt {p : Prop} (h : p) : cn_d p = true := by unfold cn_d; exact if_pos h
theorem cn_df {p : Prop} (h : ¬ p) : cn_d p = false := by unfold cn_d; exact if_neg h
theorem cn_di {p : Prop} : cn_d p = true ↔ p := ⟨fun h => Classical.byContradiction fun n => by rw [cn_df n] at h; contradiction, cn_dt⟩
end
section
/-! the search for longest ways, over any lines: code c leads from src c to dst c and is ln c long; av c: it has room;
    M codes, looked at in turn; look number t (from 1) is at code (t - 1) % M -/
section
variable {M : Nat} {src dst : Nat → Nat} {ln : Nat → Int} {av : Nat → Prop} {U : Nat → Int} {Rc : Nat → Prop}
variable {s : Nat} {L L' : Nat → Int} {R R' : Nat → Prop} {Q Q' T T' : Nat → Nat} {W W' : Nat → Nat → Bool}
/-- what the lines are: room, bounds, and U a bound of all ways -/
def bf_H (M : Nat) (src dst : Nat → Nat) (ln : Nat → Int) (av : Nat → Prop) (U : Nat → Int) (Rc : Nat → Prop) : Prop :=
  U 0 = 0 ∧ Rc 0 ∧ (∀ v, Rc v → v < 6) ∧
  ∀ c, c < M → av c → Rc (src c) → U (src c) + ln c ≤ U (dst c) ∧ Rc (dst c) ∧ src c ≠ dst c ∧ -9 ≤ ln c ∧ ln c ≤ 9
def bf_P1 (M : Nat) (src dst : Nat → Nat) (ln : Nat → Int) (av : Nat → Prop) (Rc : Nat → Prop) (s : Nat) (L : Nat → Int) (R : Nat → Prop) (Q T : Nat → Nat) : Prop :=
  ∀ v, R v → Rc v ∧ T v ≤ s ∧ (v ≠ 0 → Q v < M ∧ av (Q v) ∧ dst (Q v) = v ∧ R (src (Q v)) ∧ 0 < T v ∧ (T v - 1) % M = Q v ∧
    ((T (src (Q v)) < T v ∧ L v = L (src (Q v)) + ln (Q v)) ∨ L v < L (src (Q v)) + ln (Q v)))
def bf_P2 (M : Nat) (src dst : Nat → Nat) (ln : Nat → Int) (av : Nat → Prop) (s : Nat) (L : Nat → Int) (R : Nat → Prop) (T : Nat → Nat) : Prop :=
  ∀ c, c < M → av c → R (src c) → dst c ≠ 0 → ∀ t, T (src c) < t → t ≤ s → (t - 1) % M = c →
    R (dst c) ∧ (L (src c) + ln c < L (dst c) ∨ (L (src c) + ln c = L (dst c) ∧ T (dst c) ≤ t))
def bf_P3 (M : Nat) (U : Nat → Int) (L : Nat → Int) (R : Nat → Prop) (T : Nat → Nat) (W : Nat → Nat → Bool) : Prop :=
  ∀ v, R v → W v v = true ∧ W v 0 = true ∧ T v + M ≤ M * cn_6 (W v) ∧ 9 - 9 * (cn_6 (W v) : Int) ≤ L v ∧
    ∀ w, W v w = true → R w ∧ L v - U v ≤ L w - U w
def bf_I (M : Nat) (src dst : Nat → Nat) (ln : Nat → Int) (av : Nat → Prop) (U : Nat → Int) (Rc : Nat → Prop) (s : Nat) (L : Nat → Int) (R : Nat → Prop) (Q T : Nat → Nat) (W : Nat → Nat → Bool) : Prop :=
  (R 0 ∧ L 0 = 0 ∧ T 0 = 0) ∧ bf_P1 M src dst ln av Rc s L R Q T ∧ bf_P2 M src dst ln av s L R T ∧ bf_P3 M U L R T W
theorem bf_ub (H : bf_H M src dst ln av U Rc) (I : bf_I M src dst ln av U Rc s L R Q T W) {v : Nat} (h : R v) : L v ≤ U v := by
  obtain ⟨⟨r0, l0, t0⟩, p1, p2, p3⟩ := I
  have := ((p3 v h).2.2.2.2 0 (p3 v h).2.1).2
  have := H.1
  omega
theorem bf_lb (I : bf_I M src dst ln av U Rc s L R Q T W) {v : Nat} (h : R v) : -45 ≤ L v := by
  obtain ⟨⟨r0, l0, t0⟩, p1, p2, p3⟩ := I
  have a := (p3 v h).2.2.2.1
  have b := cn_le6 (W v)
  omega
theorem bf_tb (I : bf_I M src dst ln av U Rc s L R Q T W) {v : Nat} (h : R v) : T v ≤ M * 5 := by
  obtain ⟨⟨r0, l0, t0⟩, p1, p2, p3⟩ := I
  have a := (p3 v h).2.2.1
  have b : M * cn_6 (W v) ≤ M * 6 := Nat.mul_le_mul_left M (cn_le6 (W v))
  omega
/-- the beginning -/
theorem bf_0 (H : bf_H M src dst ln av U Rc) (r : ∀ v, R v ↔ v = 0) (l : L 0 = 0) : bf_I M src dst ln av U Rc 0 L R Q (fun _ => 0) (fun _ w => decide (w = 0)) := by
  have hc : cn_6 (fun w => decide (w = 0)) = 1 := by decide
  refine ⟨⟨(r 0).mpr rfl, l, rfl⟩, ?_, ?_, ?_⟩
  · intro v hv
    have e := (r v).mp hv
    subst e
    exact ⟨H.2.1, Nat.le_refl _, fun z => absurd rfl z⟩
  · intro c hc av rs d0 t h1 h2
    omega
  · intro v hv
    have e := (r v).mp hv
    subst e
    refine ⟨rfl, rfl, ?_, ?_, ?_⟩
    · show 0 + M ≤ M * cn_6 (fun w => decide (w = 0))
      rw [hc]; omega
    · rw [hc, l]; decide
    · intro w hw
      have e : w = 0 := of_decide_eq_true hw
      subst e
      exact ⟨hv, Int.le_refl _⟩
/-- a look that changes nothing -/
theorem bf_keep (I : bf_I M src dst ln av U Rc s L R Q T W) {c : Nat} (hc : s % M = c)
    (h : av c → R (src c) → dst c ≠ 0 → R (dst c) ∧ L (src c) + ln c ≤ L (dst c)) : bf_I M src dst ln av U Rc (s + 1) L R Q T W := by
  obtain ⟨⟨r0, l0, t0⟩, p1, p2, p3⟩ := I
  refine ⟨⟨r0, l0, t0⟩, ?_, ?_, p3⟩
  · intro v hv
    obtain ⟨a, b, d⟩ := p1 v hv
    exact ⟨a, by omega, d⟩
  · intro c' hc' av' rs d0 t h1 h2 h3
    by_cases e : t ≤ s
    · exact p2 c' hc' av' rs d0 t h1 e h3
    · have et : t = s + 1 := by omega
      subst et
      have ec : c' = c := by rw [← h3, ← hc]; rfl
      subst ec
      obtain ⟨a, b⟩ := h av' rs d0
      have := (p1 _ a).2.1
      refine ⟨a, ?_⟩
      by_cases z : L (src c') + ln c' = L (dst c')
      · exact Or.inr ⟨z, by omega⟩
      · exact Or.inl (by omega)
/-- a look that changes the event v -/
theorem bf_chg (H : bf_H M src dst ln av U Rc) (I : bf_I M src dst ln av U Rc s L R Q T W) {c u v : Nat} (hM : 0 < M) (hc : s % M = c) (hu : src c = u) (hv : dst c = v)
    (ha : av c) (hr : R u) (h0 : v ≠ 0) (hn : R v → L v < L u + ln c)
    (lv : L' v = L u + ln c) (lw : ∀ w, w ≠ v → L' w = L w) (rv : R' v) (rw' : ∀ w, w ≠ v → (R' w ↔ R w))
    (qv : Q' v = c) (qw : ∀ w, w ≠ v → Q' w = Q w) :
    bf_I M src dst ln av U Rc (s + 1) L' R' Q' (fun w => if w = v then s + 1 else T w) (fun w => if w = v then fun x => decide (x = v) || W u x else W w) := by
  obtain ⟨⟨r0, l0, t0⟩, p1, p2, p3⟩ := I
  have hcM : c < M := by rw [← hc]; exact Nat.mod_lt _ hM
  obtain ⟨U0, Rc0, Rc6, HU⟩ := H
  obtain ⟨u1, u2, u3, u4, u5⟩ := HU c hcM ha (by rw [hu]; exact (p1 u hr).1)
  rw [hu, hv] at u1 u3
  rw [hv] at u2
  have v6 := Rc6 v u2
  -- v isn't behind u
  have hWv : W u v = false := by
    cases e : W u v with
    | false => rfl
    | true =>
      obtain ⟨a, b⟩ := (p3 u hr).2.2.2.2 v e
      have := hn a
      omega
  -- one round after u at the latest
  have hsT : s + 1 ≤ T u + M := by
    apply Classical.byContradiction
    intro z
    have hs : M ≤ s := by omega
    have e : (s + 1 - M - 1) % M = c := by
      rw [show s + 1 - M - 1 = s - M by omega, ← Nat.mod_eq_sub_mod hs]; exact hc
    obtain ⟨a, b⟩ := p2 c hcM ha (by rw [hu]; exact hr) (by rw [hv]; exact h0) (s + 1 - M) (by rw [hu]; omega) (by omega) e
    rw [hv] at a b
    rw [hu] at b
    have := hn a
    omega
  have huR : R' u := (rw' u u3).mpr hr
  refine ⟨⟨(rw' 0 (Ne.symm h0)).mpr r0, by rw [lw 0 (Ne.symm h0)]; exact l0, by show (if 0 = v then s + 1 else T 0) = 0; rw [if_neg (Ne.symm h0)]; exact t0⟩, ?_, ?_, ?_⟩
  · intro w hw
    by_cases e : w = v
    · subst e
      refine ⟨u2, ?_, fun _ => ?_⟩
      · show (if w = w then s + 1 else T w) ≤ s + 1
        rw [if_pos rfl]; omega
      · rw [qv, hu]
        refine ⟨hcM, ha, hv, huR, ?_, ?_, Or.inl ⟨?_, ?_⟩⟩
        · show 0 < (if w = w then s + 1 else T w)
          rw [if_pos rfl]; omega
        · show ((if w = w then s + 1 else T w) - 1) % M = c
          rw [if_pos rfl]; exact hc
        · show (if u = w then s + 1 else T u) < (if w = w then s + 1 else T w)
          rw [if_neg u3, if_pos rfl]
          have := (p1 u hr).2.1
          omega
        · rw [lv, lw u u3]
    · obtain ⟨a, b, d⟩ := p1 w ((rw' w e).mp hw)
      refine ⟨a, ?_, fun w0 => ?_⟩
      · show (if w = v then s + 1 else T w) ≤ s + 1
        rw [if_neg e]; omega
      · obtain ⟨d1, d2, d3, d4, d5, d6, d7⟩ := d w0
        rw [qw w e]
        have hs' : R' (src (Q w)) := by
          by_cases z : src (Q w) = v
          · rw [z]; exact rv
          · exact (rw' _ z).mpr d4
        refine ⟨d1, d2, d3, hs', ?_, ?_, ?_⟩
        · show 0 < (if w = v then s + 1 else T w)
          rw [if_neg e]; exact d5
        · show ((if w = v then s + 1 else T w) - 1) % M = Q w
          rw [if_neg e]; exact d6
        · show ((if src (Q w) = v then s + 1 else T (src (Q w))) < (if w = v then s + 1 else T w) ∧ _) ∨ _
          rw [if_neg e, lw w e]
          by_cases z : src (Q w) = v
          · rw [if_pos z, z, lv]
            rw [z] at d4 d7
            have := hn d4
            right
            rcases d7 with d7 | d7 <;> omega
          · rw [if_neg z, lw _ z]
            exact d7
  · intro c' hc' av' rs d0 t h1 h2 h3
    by_cases es : src c' = v
    · exfalso
      have h1' : (if src c' = v then s + 1 else T (src c')) < t := h1
      rw [if_pos es] at h1'
      omega
    · have h1' : (if src c' = v then s + 1 else T (src c')) < t := h1
      rw [if_neg es] at h1'
      have rs' := (rw' _ es).mp rs
      show R' (dst c') ∧ (L' (src c') + ln c' < L' (dst c') ∨ (L' (src c') + ln c' = L' (dst c') ∧ (if dst c' = v then s + 1 else T (dst c')) ≤ t))
      rw [lw _ es]
      by_cases et : t ≤ s
      · obtain ⟨a, b⟩ := p2 c' hc' av' rs' d0 t h1' et h3
        by_cases ed : dst c' = v
        · rw [ed] at a b ⊢
          have := hn a
          exact ⟨rv, Or.inl (by rw [lv]; rcases b with b | b <;> omega)⟩
        · rw [if_neg ed, lw _ ed]
          exact ⟨(rw' _ ed).mpr a, b⟩
      · have et : t = s + 1 := by omega
        subst et
        have ec : c' = c := by rw [← h3, ← hc]; rfl
        subst ec
        rw [hv, hu, lv, if_pos rfl]
        exact ⟨rv, Or.inr ⟨rfl, Nat.le_refl _⟩⟩
  · intro w hw
    by_cases e : w = v
    · subst e
      obtain ⟨a1, a2, a3, a4, a5⟩ := p3 u hr
      have hcn : cn_6 (W u) + 1 ≤ cn_6 (fun x => decide (x = w) || W u x) :=
        cn_strict (fun x _ hx => by rw [hx]; exact Bool.or_true _) v6 hWv (by rw [decide_eq_true rfl]; rfl)
      have hmul : M * (cn_6 (W u) + 1) ≤ M * cn_6 (fun x => decide (x = w) || W u x) := Nat.mul_le_mul_left M hcn
      rw [Nat.mul_add, Nat.mul_one] at hmul
      simp only [if_pos]
      refine ⟨by simp, by simp [a2], by omega, by rw [lv]; omega, ?_⟩
      intro x hx
      by_cases ex : x = w
      · subst ex
        exact ⟨rv, Int.le_refl _⟩
      · rw [decide_eq_false ex, Bool.false_or] at hx
        obtain ⟨b1, b2⟩ := a5 x hx
        rw [lv, lw x ex]
        exact ⟨(rw' x ex).mpr b1, by omega⟩
    · obtain ⟨a1, a2, a3, a4, a5⟩ := p3 w ((rw' w e).mp hw)
      simp only [if_neg e]
      refine ⟨a1, a2, a3, by rw [lw w e]; exact a4, ?_⟩
      intro x hx
      obtain ⟨b1, b2⟩ := a5 x hx
      by_cases ex : x = v
      · subst ex
        have := hn b1
        rw [lv, lw w e]
        exact ⟨rv, by omega⟩
      · rw [lw x ex, lw w e]
        exact ⟨(rw' x ex).mpr b1, b2⟩
/-- what the search leaves -/
def bf_D (M : Nat) (src dst : Nat → Nat) (ln : Nat → Int) (av : Nat → Prop) (Rc : Nat → Prop) (L : Nat → Int) (R : Nat → Prop) (Q T : Nat → Nat) : Prop :=
  (R 0 ∧ L 0 = 0 ∧ T 0 = 0) ∧
  (∀ v, R v → Rc v ∧ -45 ≤ L v ∧ (v ≠ 0 → Q v < M ∧ av (Q v) ∧ dst (Q v) = v ∧ R (src (Q v)) ∧ T (src (Q v)) < T v ∧ (T v - 1) % M = Q v ∧ L v = L (src (Q v)) + ln (Q v))) ∧
  (∀ c, c < M → av c → R (src c) → dst c ≠ 0 → R (dst c) ∧
    (L (src c) + ln c < L (dst c) ∨ (L (src c) + ln c = L (dst c) ∧ ∀ t, T (src c) < t → (t - 1) % M = c → T (dst c) ≤ t)))
/-- a whole round without a change -/
theorem bf_end (H : bf_H M src dst ln av U Rc) {q : Nat} (hs : s = M * q + M) (ht : ∀ v, R v → T v ≤ M * q) (I : bf_I M src dst ln av U Rc s L R Q T W) : bf_D M src dst ln av Rc L R Q T := by
  have I0 := I
  obtain ⟨z0, p1, p2, p3⟩ := I
  have st : ∀ c, c < M → av c → R (src c) → dst c ≠ 0 → R (dst c) ∧
    (L (src c) + ln c < L (dst c) ∨ (L (src c) + ln c = L (dst c) ∧ ∀ t, T (src c) < t → (t - 1) % M = c → T (dst c) ≤ t)) := by
    intro c hc hav hr h0
    have hT := ht _ hr
    have e : (M * q + c + 1 - 1) % M = c := by
      rw [Nat.add_sub_cancel, Nat.mul_add_mod, Nat.mod_eq_of_lt hc]
    obtain ⟨a, b⟩ := p2 c hc hav hr h0 (M * q + c + 1) (by omega) (by omega) e
    refine ⟨a, ?_⟩
    rcases b with b | ⟨b, b'⟩
    · exact Or.inl b
    · refine Or.inr ⟨b, fun t h1 h2 => ?_⟩
      by_cases z : t ≤ s
      · obtain ⟨_, d⟩ := p2 c hc hav hr h0 t h1 z h2
        rcases d with d | d
        · omega
        · exact d.2
      · have := ht _ a
        omega
  refine ⟨z0, fun v hv => ⟨(p1 v hv).1, bf_lb I0 hv, fun h0 => ?_⟩, st⟩
  obtain ⟨d1, d2, d3, d4, d5, d6, d7⟩ := (p1 v hv).2.2 h0
  obtain ⟨_, b⟩ := st (Q v) d1 d2 d4 (by rw [d3]; exact h0)
  rw [d3] at b
  rcases d7 with d7 | d7
  · exact ⟨d1, d2, d3, d4, d7.1, d6, d7.2⟩
  · omega
end
end
section
/-! labels (length, look): they never get better from one search to the next; the way as a list of codes, from its end -/
section
variable {M : Nat} {src dst : Nat → Nat} {ln : Nat → Int} {av av' : Nat → Prop} {Rc : Nat → Prop}
variable {U L L' : Nat → Int} {R : Nat → Prop} {Q V T T' : Nat → Nat}
/-- labels that no line with room makes better -/
def lb_F (M : Nat) (src dst : Nat → Nat) (ln : Nat → Int) (av : Nat → Prop) (Rc : Nat → Prop) (U : Nat → Int) (V : Nat → Nat) : Prop :=
  U 0 = 0 ∧ V 0 = 0 ∧ ∀ c, c < M → av c → Rc (src c) →
    U (src c) + ln c < U (dst c) ∨ (U (src c) + ln c = U (dst c) ∧ ∀ t, V (src c) < t → (t - 1) % M = c → V (dst c) ≤ t)
/-- (L, T) is not better than (U, V) at v -/
def lb_le (U : Nat → Int) (V : Nat → Nat) (L : Nat → Int) (T : Nat → Nat) (v : Nat) : Prop := L v < U v ∨ (L v = U v ∧ V v ≤ T v)
theorem lb_mono (F : lb_F M src dst ln av Rc U V) (D : bf_D M src dst ln av Rc L R Q T) : ∀ n v, T v < n → R v → lb_le U V L T v := by
  obtain ⟨u0, v0, hF⟩ := F
  obtain ⟨⟨r0, l0, t0⟩, hp, hc⟩ := D
  intro n
  induction n with
  | zero => intro v h; omega
  | succ n ih =>
    intro v hn hv
    by_cases e : v = 0
    · subst e
      exact Or.inr ⟨by rw [l0, u0], by rw [v0]; omega⟩
    · obtain ⟨_, _, hq⟩ := hp v hv
      obtain ⟨q1, q2, q3, q4, q5, q6, q7⟩ := hq e
      have IH := ih (src (Q v)) (by omega) q4
      have hf := hF (Q v) q1 q2 (hp _ q4).1
      rw [q3] at hf
      unfold lb_le at IH ⊢
      rcases IH with a | ⟨a, a'⟩
      · left; rcases hf with b | b <;> omega
      · rcases hf with b | ⟨b, b'⟩
        · left; omega
        · exact Or.inr ⟨by omega, b' _ (by omega) q6⟩
theorem lb_mono' (F : lb_F M src dst ln av Rc U V) (D : bf_D M src dst ln av Rc L R Q T) {v : Nat} (h : R v) : lb_le U V L T v := lb_mono F D (T v + 1) v (by omega) h
theorem lb_antis {v : Nat} (h : lb_le U V L T v) (h' : lb_le L T U V v) : L v = U v ∧ T v = V v := by
  unfold lb_le at h h'
  rcases h with h | h <;> rcases h' with h' | h' <;> omega
theorem lb_trans {v : Nat} (h : lb_le U V L T v) (h' : lb_le L T L' T' v) : lb_le U V L' T' v := by
  unfold lb_le at h h' ⊢
  rcases h with h | h <;> rcases h' with h' | h'
  · left; omega
  · left; omega
  · left; omega
  · right; omega
theorem lb_refl (v : Nat) : lb_le U V U V v := Or.inr ⟨rfl, Nat.le_refl _⟩
/-- the search's own labels -/
theorem lb_own (hR : ∀ v, Rc v → R v) (F : lb_F M src dst ln av Rc U V) (D : bf_D M src dst ln av Rc L R Q T) : lb_F M src dst ln av Rc L T := by
  have D0 := D
  obtain ⟨⟨r0, l0, t0⟩, hp, hc⟩ := D
  refine ⟨l0, t0, fun c h1 h2 h3 => ?_⟩
  by_cases e : dst c = 0
  · rw [e, l0, t0]
    have m := lb_mono' F D0 (hR _ h3)
    obtain ⟨u0, v0, hF⟩ := F
    have f := hF c h1 h2 h3
    rw [e, u0] at f
    unfold lb_le at m
    by_cases z : L (src c) + ln c < 0
    · exact Or.inl z
    · right
      refine ⟨?_, fun t _ _ => Nat.zero_le _⟩
      rcases m with m | m <;> rcases f with f | f <;> omega
  · exact (hc c h1 h2 (hR _ h3) e).2
/-- a line that got room by sending along the tree: the other direction of a line of the tree -/
def lb_N (M : Nat) (src dst : Nat → Nat) (ln : Nat → Int) (av av' : Nat → Prop) (R : Nat → Prop) (Q : Nat → Nat) : Prop :=
  ∀ c, c < M → av' c → av c ∨ (src c ≠ 0 ∧ R (src c) ∧ src (Q (src c)) = dst c ∧ ln c = - ln (Q (src c)))
theorem lb_next (N : lb_N M src dst ln av av' R Q) (F : lb_F M src dst ln av Rc L T) (D : bf_D M src dst ln av Rc L R Q T) : lb_F M src dst ln av' Rc L T := by
  obtain ⟨u0, v0, hF⟩ := F
  obtain ⟨⟨r0, l0, t0⟩, hp, hc⟩ := D
  refine ⟨u0, v0, fun c h1 h2 h3 => ?_⟩
  rcases N c h1 h2 with n | ⟨n1, n2, n3, n4⟩
  · exact hF c h1 n h3
  · obtain ⟨_, _, hq⟩ := hp _ n2
    obtain ⟨q1, q2, q3, q4, q5, q6, q7⟩ := hq n1
    rw [n3] at q5 q7
    exact Or.inr ⟨by omega, fun t h _ => by omega⟩
/-- the way from 0 to v, from its end -/
def rp_C (src : Nat → Nat) (Q : Nat → Nat) : Nat → List Nat → Prop
  | v, [] => v = 0
  | v, c :: p => v ≠ 0 ∧ c = Q v ∧ rp_C src Q (src c) p
theorem rp_ex (D : bf_D M src dst ln av Rc L R Q T) : ∀ n v, T v < n → R v → ∃ p, rp_C src Q v p := by
  obtain ⟨z0, hp, hc⟩ := D
  intro n
  induction n with
  | zero => intro v h; omega
  | succ n ih =>
    intro v hn hv
    by_cases e : v = 0
    · exact ⟨[], e⟩
    · obtain ⟨q1, q2, q3, q4, q5, q6, q7⟩ := (hp v hv).2.2 e
      obtain ⟨p, hp'⟩ := ih (src (Q v)) (by omega) q4
      exact ⟨Q v :: p, e, rfl, hp'⟩
/-- how many events have smaller looks -/
def rp_r (T : Nat → Nat) (v : Nat) : Nat := cn_6 (fun w => decide (T w < T v))
theorem rp_r5 {v : Nat} (h : v < 6) : rp_r T v ≤ 5 := by
  have := cn_lt6 (p := fun w => decide (T w < T v)) h (decide_eq_false (Nat.lt_irrefl _))
  unfold rp_r; omega
theorem rp_rlt {u v : Nat} (hu : u < 6) (h : T u < T v) : rp_r T u + 1 ≤ rp_r T v :=
  cn_strict (p := fun w => decide (T w < T u)) (q := fun w => decide (T w < T v)) (fun w _ hw => decide_eq_true (by have := of_decide_eq_true hw; omega)) hu (decide_eq_false (Nat.lt_irrefl _)) (decide_eq_true h)
theorem rp_len (h6 : ∀ v, Rc v → v < 6) (D : bf_D M src dst ln av Rc L R Q T) : ∀ p v, R v → rp_C src Q v p → p.length ≤ rp_r T v := by
  obtain ⟨z0, hp, hc⟩ := D
  intro p
  induction p with
  | nil => intro v _ _; exact Nat.zero_le _
  | cons c p ih =>
    intro v hv h
    obtain ⟨h1, h2, h3⟩ := h
    subst h2
    obtain ⟨q1, q2, q3, q4, q5, q6, q7⟩ := (hp v hv).2.2 h1
    have a := ih _ q4 h3
    have b := rp_rlt (h6 _ (hp _ q4).1) q5
    rw [List.length_cons]
    omega
/-- the labels along a way -/
def rp_L (M : Nat) (src dst : Nat → Nat) (ln : Nat → Int) (Rc : Nat → Prop) (L : Nat → Int) (T : Nat → Nat) : Nat → List Nat → Prop
  | v, [] => v = 0 ∧ L 0 = 0 ∧ T 0 = 0
  | v, c :: p => c < M ∧ dst c = v ∧ Rc v ∧ Rc (src c) ∧ L v = L (src c) + ln c ∧ T (src c) < T v ∧ (T v - 1) % M = c ∧
      (∀ t, T (src c) < t → (t - 1) % M = c → T v ≤ t) ∧ rp_L M src dst ln Rc L T (src c) p
theorem rp_lab (D : bf_D M src dst ln av Rc L R Q T) : ∀ p v, R v → rp_C src Q v p → rp_L M src dst ln Rc L T v p := by
  obtain ⟨⟨r0, l0, t0⟩, hp, hc⟩ := D
  intro p
  induction p with
  | nil => intro v _ h; exact ⟨h, l0, t0⟩
  | cons c p ih =>
    intro v hv h
    obtain ⟨h1, h2, h3⟩ := h
    subst h2
    obtain ⟨q1, q2, q3, q4, q5, q6, q7⟩ := (hp v hv).2.2 h1
    refine ⟨q1, q3, (hp v hv).1, (hp _ q4).1, q7, q5, q6, ?_, ih _ q4 h3⟩
    have := (hc (Q v) q1 q2 q4 (by rw [q3]; exact h1)).2
    rw [q3] at this
    rcases this with a | a
    · omega
    · exact a.2
/-- what holds of each code of the tree's way -/
theorem rp_mem (D : bf_D M src dst ln av Rc L R Q T) : ∀ p v, R v → rp_C src Q v p → ∀ c, c ∈ p → c < M ∧ av c ∧ R (dst c) ∧ dst c ≠ 0 ∧ Q (dst c) = c ∧ R (src c) ∧ T (src c) < T (dst c) ∧ L (dst c) = L (src c) + ln c ∧ T (dst c) ≤ T v := by
  obtain ⟨⟨r0, l0, t0⟩, hp, hc⟩ := D
  intro p
  induction p with
  | nil => intro v _ _ c h; cases h
  | cons c p ih =>
    intro v hv h c' hc'
    obtain ⟨h1, h2, h3⟩ := h
    subst h2
    obtain ⟨q1, q2, q3, q4, q5, q6, q7⟩ := (hp v hv).2.2 h1
    rcases List.mem_cons.mp hc' with e | e
    · subst e
      rw [q3]
      exact ⟨q1, q2, hv, h1, rfl, q4, q5, q7, Nat.le_refl _⟩
    · have := ih _ q4 h3 c' e
      obtain ⟨a1, a2, a3, a4, a5, a6, a7, a8, a9⟩ := this
      exact ⟨a1, a2, a3, a4, a5, a6, a7, a8, by omega⟩
theorem rp_same : ∀ p v, rp_L M src dst ln Rc L T v p → rp_L M src dst ln Rc L' T' v p → (L v = L' v ∧ T v = T' v) ∧ ∀ c, c ∈ p → (L (dst c) = L' (dst c) ∧ T (dst c) = T' (dst c)) ∧ (L (src c) = L' (src c) ∧ T (src c) = T' (src c)) := by
  intro p
  induction p with
  | nil =>
    intro v h h'
    obtain ⟨a, b, d⟩ := h
    obtain ⟨a', b', d'⟩ := h'
    subst a
    exact ⟨⟨by rw [b, b'], by rw [d, d']⟩, fun c h => by cases h⟩
  | cons c p ih =>
    intro v h h'
    obtain ⟨a0, a1, _, _, a2, a3, a4, a5, a6⟩ := h
    obtain ⟨b0, b1, _, _, b2, b3, b4, b5, b6⟩ := h'
    obtain ⟨⟨e1, e2⟩, e3⟩ := ih _ a6 b6
    have x1 : L v = L' v := by omega
    have x2 : T v = T' v := by
      have y1 := a5 (T' v) (by omega) b4
      have y2 := b5 (T v) (by omega) a4
      omega
    refine ⟨⟨x1, x2⟩, fun c' hc' => ?_⟩
    rcases List.mem_cons.mp hc' with e | e
    · subst e
      rw [a1]
      exact ⟨⟨x1, x2⟩, e1, e2⟩
    · exact e3 c' e
theorem rp_labm : ∀ p v, rp_L M src dst ln Rc L T v p → ∀ c, c ∈ p → c < M ∧ Rc (dst c) ∧ Rc (src c) ∧ T (src c) < T (dst c) ∧ T (dst c) ≤ T v := by
  intro p
  induction p with
  | nil => intro v _ c h; cases h
  | cons c p ih =>
    intro v h c' hc'
    obtain ⟨a0, a1, a1', a1'', a2, a3, a4, a5, a6⟩ := h
    rcases List.mem_cons.mp hc' with e | e
    · subst e
      rw [a1]
      exact ⟨a0, a1', a1'', a3, Nat.le_refl _⟩
    · obtain ⟨b0, b1, b2, b3, b4⟩ := ih _ a6 c' e
      exact ⟨b0, b1, b2, b3, by omega⟩
/-- a way that was used: its labels are past, or a line of it has no room -/
def rp_E (M : Nat) (src dst : Nat → Nat) (ln : Nat → Int) (av : Nat → Prop) (Rc : Nat → Prop) (U : Nat → Int) (V : Nat → Nat) (p : List Nat) : Prop :=
  ∃ L T, rp_L M src dst ln Rc L T 5 p ∧ (∀ v, Rc v → lb_le L T U V v) ∧
    ((∃ c, c ∈ p ∧ ¬ av c) ∨ ∃ c, c ∈ p ∧ ¬ ((U (dst c) = L (dst c) ∧ V (dst c) = T (dst c)) ∧ (U (src c) = L (src c) ∧ V (src c) = T (src c))))
theorem rp_Enext (hR : ∀ v, Rc v → R v) (N : lb_N M src dst ln av av' R Q) (F : lb_F M src dst ln av Rc U V) (D : bf_D M src dst ln av Rc L R Q T) {p : List Nat} (E : rp_E M src dst ln av Rc U V p) : rp_E M src dst ln av' Rc L T p := by
  obtain ⟨L0, T0, e1, e2, e3⟩ := E
  refine ⟨L0, T0, e1, fun v hv => lb_trans (e2 v hv) (lb_mono' F D (hR v hv)), ?_⟩
  have keep : (∃ c, c ∈ p ∧ ¬ ((U (dst c) = L0 (dst c) ∧ V (dst c) = T0 (dst c)) ∧ (U (src c) = L0 (src c) ∧ V (src c) = T0 (src c)))) → ∃ c, c ∈ p ∧ ¬ ((L (dst c) = L0 (dst c) ∧ T (dst c) = T0 (dst c)) ∧ (L (src c) = L0 (src c) ∧ T (src c) = T0 (src c))) := by
    rintro ⟨c, hc, h⟩
    refine ⟨c, hc, fun z => h ?_⟩
    obtain ⟨⟨z1, z2⟩, z3, z4⟩ := z
    obtain ⟨_, m1, m2, _, _⟩ := rp_labm p 5 e1 c hc
    have a1 := e2 _ m1
    have a2 := e2 _ m2
    have b1 := lb_mono' F D (hR _ m1)
    have b2 := lb_mono' F D (hR _ m2)
    unfold lb_le at a1 a2 b1 b2
    refine ⟨⟨?_, ?_⟩, ?_, ?_⟩ <;> (rcases a1 with a1 | a1 <;> rcases a2 with a2 | a2 <;> rcases b1 with b1 | b1 <;> rcases b2 with b2 | b2 <;> omega)
  rcases e3 with ⟨c, hc, h⟩ | h
  · by_cases z : av' c
    · obtain ⟨m0, m1, m2, m3, _⟩ := rp_labm p 5 e1 c hc
      rcases N c m0 z with n | ⟨n1, n2, n3, n4⟩
      · exact absurd n h
      · refine Or.inr ⟨c, hc, fun w => ?_⟩
        obtain ⟨_, hp, _⟩ := D
        obtain ⟨q1, q2, q3, q4, q5, q6, q7⟩ := (hp _ n2).2.2 n1
        rw [n3] at q5
        omega
    · exact Or.inl ⟨c, hc, z⟩
  · exact Or.inr (keep h)
/-- the new way isn't one of the used ones -/
theorem rp_fresh (hR : ∀ v, Rc v → R v) (F : lb_F M src dst ln av Rc U V) (D : bf_D M src dst ln av Rc L R Q T) {p : List Nat} (h5 : R 5) (hC : rp_C src Q 5 p) : ¬ rp_E M src dst ln av Rc U V p := by
  rintro ⟨L0, T0, e1, e2, e3⟩
  have lab := rp_lab D p 5 h5 hC
  obtain ⟨_, sm⟩ := rp_same p 5 e1 lab
  have mm := rp_mem D p 5 h5 hC
  rcases e3 with ⟨c, hc, h⟩ | ⟨c, hc, h⟩
  · exact h (mm c hc).2.1
  · apply h
    obtain ⟨⟨s1, s2⟩, s3, s4⟩ := sm c hc
    obtain ⟨_, m1, m2, _, _⟩ := rp_labm p 5 e1 c hc
    have a1 := e2 _ m1
    have a2 := e2 _ m2
    have b1 := lb_mono' F D (hR _ m1)
    have b2 := lb_mono' F D (hR _ m2)
    unfold lb_le at a1 a2 b1 b2
    refine ⟨⟨?_, ?_⟩, ?_, ?_⟩ <;> (rcases a1 with a1 | a1 <;> rcases a2 with a2 | a2 <;> rcases b1 with b1 | b1 <;> rcases b2 with b2 | b2 <;> omega)
/-- the way just used -/
theorem rp_Enew (D : bf_D M src dst ln av Rc L R Q T) {p : List Nat} (h5 : R 5) (hC : rp_C src Q 5 p) (h : ∃ c, c ∈ p ∧ ¬ av' c) : rp_E M src dst ln av' Rc L T p :=
  ⟨L, T, rp_lab D p 5 h5 hC, fun v _ => lb_refl v, Or.inl h⟩
end
end
section
/-! the jobs' lines: code c < 4 m is job c / 4, line c / 2 (even: slow, odd: fast), walked back if c is odd; how many ways there are -/
section
variable {m : Nat} {fr to : Nat → Nat} {sl fa pr : Nat → Int}
def cp_Inst (m : Nat) (fr to : Nat → Nat) (sl fa pr : Nat → Int) : Prop :=
  m ≤ 7 ∧ ∀ j, j < m → fr j < to j ∧ to j ≤ 5 ∧ 0 ≤ fa j ∧ fa j ≤ sl j ∧ sl j ≤ 9 ∧ sl j - fa j ≤ 3 ∧ 1 ≤ pr j ∧ pr j ≤ 20
def cp_src (fr to : Nat → Nat) (c : Nat) : Nat := if c % 2 = 1 then to (c / 4) else fr (c / 4)
def cp_dst (fr to : Nat → Nat) (c : Nat) : Nat := if c % 2 = 1 then fr (c / 4) else to (c / 4)
/-- a line's length -/
def cp_bl (sl fa : Nat → Int) (l : Nat) : Int := if l % 2 = 0 then sl (l / 2) else fa (l / 2)
def cp_ln (sl fa : Nat → Int) (c : Nat) : Int := if c % 2 = 1 then - cp_bl sl fa (c / 2) else cp_bl sl fa (c / 2)
def cp_room (pr : Nat → Int) (f : Nat → Int) (c : Nat) : Int := if c % 2 = 1 then f (c / 2) else if c / 2 % 2 = 0 then pr (c / 4) - f (c / 2) else 1000000
def cp_av (pr : Nat → Int) (f : Nat → Int) (c : Nat) : Prop := ¬ cp_room pr f c = 0
/-- the events that can be reached at all -/
def cp_Rc (m : Nat) (fr to : Nat → Nat) (v : Nat) : Prop := ∀ S : Nat → Prop, S 0 → (∀ j, j < m → S (fr j) → S (to j)) → S v
theorem cp_Rc0 : cp_Rc m fr to 0 := fun _ h _ => h
theorem cp_Rcs {j : Nat} (hj : j < m) (h : cp_Rc m fr to (fr j)) : cp_Rc m fr to (to j) := fun S h0 hs => hs j hj (h S h0 hs)
theorem cp_Rc6 (I : cp_Inst m fr to sl fa pr) {v : Nat} (h : cp_Rc m fr to v) : v < 6 :=
  h (fun v => v < 6) (by omega) (fun j hj _ => by have := I.2 j hj; omega)
/-- the ways from 0 to u over the jobs of E, from their end -/
def pl_l (fr to : Nat → Nat) : Nat → List Nat → Nat → List (List Nat)
  | 0, _, u => if u = 0 then [[]] else []
  | k + 1, E, u => if u = 0 then [[]] else
    (E.filter (fun j => decide (fr j = u ∨ to j = u))).flatMap (fun j =>
      (pl_l fr to k (E.filter (fun j => !decide (fr j = u ∨ to j = u))) (if to j = u then fr j else to j)).flatMap (fun p =>
        [(if to j = u then 4 * j else 4 * j + 1) :: p, (if to j = u then 4 * j + 2 else 4 * j + 3) :: p]))
theorem pl_fm {α β : Type} (f : α → List β) (B : Nat) : ∀ l : List α, (∀ a, a ∈ l → (f a).length ≤ B) → (l.flatMap f).length ≤ l.length * B
  | [], _ => by simp
  | a :: l, h => by
    have a1 := pl_fm f B l (fun x hx => h x (List.mem_cons_of_mem _ hx))
    have a2 := h a List.mem_cons_self
    rw [List.flatMap_cons, List.length_append, List.length_cons, Nat.succ_mul]
    omega
theorem pl_2 : ∀ a : Nat, 2 * a ≤ 2 ^ a
  | 0 => by decide
  | 1 => by decide
  | a + 2 => by
    have := pl_2 (a + 1)
    rw [Nat.pow_succ]
    omega
theorem pl_fl (q : Nat → Bool) : ∀ E : List Nat, (E.filter q).length + (E.filter (fun j => !q j)).length = E.length
  | [] => rfl
  | a :: E => by
    have := pl_fl q E
    cases h : q a <;> simp [h] <;> omega
theorem pl_len : ∀ k E u, (pl_l fr to k E u).length ≤ 2 ^ E.length
  | 0, E, u => by
    unfold pl_l
    have := Nat.two_pow_pos E.length
    split <;> simp <;> omega
  | k + 1, E, u => by
    unfold pl_l
    split
    · have := Nat.two_pow_pos E.length
      simp; omega
    · have hs := pl_fl (fun j => decide (fr j = u ∨ to j = u)) E
      have h1 := pl_fm (fun j => (pl_l fr to k (E.filter (fun j => !decide (fr j = u ∨ to j = u))) (if to j = u then fr j else to j)).flatMap (fun p =>
        [(if to j = u then 4 * j else 4 * j + 1) :: p, (if to j = u then 4 * j + 2 else 4 * j + 3) :: p])) (2 ^ (E.filter (fun j => !decide (fr j = u ∨ to j = u))).length * 2) (E.filter (fun j => decide (fr j = u ∨ to j = u))) (by
          intro j _
          refine Nat.le_trans (pl_fm _ 2 _ (fun _ _ => Nat.le_refl _)) ?_
          exact Nat.mul_le_mul_right 2 (pl_len k _ _))
      refine Nat.le_trans h1 ?_
      generalize (E.filter (fun j => decide (fr j = u ∨ to j = u))).length = a at hs ⊢
      generalize (E.filter (fun j => !decide (fr j = u ∨ to j = u))).length = b at hs ⊢
      rw [← hs, Nat.pow_add, Nat.mul_comm (2 ^ b) 2, ← Nat.mul_assoc]
      exact Nat.mul_le_mul_right _ (by have := pl_2 a; omega)
theorem pl_mem (I : cp_Inst m fr to sl fa pr) {L : Nat → Int} {T : Nat → Nat} {Rc : Nat → Prop} : ∀ k p E v, p.length ≤ k → rp_L (4 * m) (cp_src fr to) (cp_dst fr to) (cp_ln sl fa) Rc L T v p → (∀ c, c ∈ p → c / 4 ∈ E) → p ∈ pl_l fr to k E v := by
  intro k
  induction k with
  | zero =>
    intro p E v hk h _
    cases p with
    | nil =>
      obtain ⟨h, _, _⟩ := h
      unfold pl_l
      rw [if_pos h]; exact List.mem_singleton.mpr rfl
    | cons c p => rw [List.length_cons] at hk; omega
  | succ k ih =>
    intro p E v hk h hE
    cases p with
    | nil =>
      obtain ⟨h, _, _⟩ := h
      unfold pl_l
      rw [if_pos h]; exact List.mem_singleton.mpr rfl
    | cons c p =>
      obtain ⟨a0, a1, a1', a1'', a2, a3, a4, a5, a6⟩ := h
      have lm := rp_labm p _ a6
      have t0 : T 0 = 0 := by
        clear ih hE a5 a4 a3 a2 lm hk a1''
        revert a6
        generalize cp_src fr to c = w
        intro a6
        induction p generalizing w with
        | nil => exact a6.2.2
        | cons c' p ih' => exact ih' _ a6.2.2.2.2.2.2.2.2
      have v0 : v ≠ 0 := by intro z; rw [z, t0] at a3; omega
      rw [List.length_cons] at hk
      have hj : c / 4 < m := by omega
      obtain ⟨i1, i2, _⟩ := I.2 _ hj
      unfold pl_l
      rw [if_neg v0]
      rw [List.mem_flatMap]
      have hinc : fr (c / 4) = v ∨ to (c / 4) = v := by
        unfold cp_dst at a1
        split at a1 <;> omega
      have hsrc : cp_src fr to c = if to (c / 4) = v then fr (c / 4) else to (c / 4) := by
        unfold cp_src cp_dst at *
        split at a1
        · rename_i z; rw [if_pos z, if_neg (by omega)]
        · rename_i z; rw [if_neg z, if_pos a1]
      have hcd : c = (if to (c / 4) = v then 4 * (c / 4) else 4 * (c / 4) + 1) ∨ c = (if to (c / 4) = v then 4 * (c / 4) + 2 else 4 * (c / 4) + 3) := by
        unfold cp_dst at a1
        split at a1
        · rw [if_neg (by omega), if_neg (by omega)]; omega
        · rw [if_pos a1, if_pos a1]; omega
      refine ⟨c / 4, List.mem_filter.mpr ⟨hE c List.mem_cons_self, decide_eq_true hinc⟩, ?_⟩
      rw [List.mem_flatMap]
      refine ⟨p, ?_, ?_⟩
      · rw [← hsrc]
        refine ih p _ _ (by omega) a6 (fun c' hc' => ?_)
        refine List.mem_filter.mpr ⟨hE c' (List.mem_cons_of_mem _ hc'), ?_⟩
        obtain ⟨b0, b1, b2, b3, b4⟩ := lm c' hc'
        have : ¬ (fr (c' / 4) = v ∨ to (c' / 4) = v) := by
          intro z
          have zz : cp_src fr to c' = v ∨ cp_dst fr to c' = v := by
            unfold cp_src cp_dst
            split <;> omega
          rcases zz with zz | zz
          · rw [zz] at b3; omega
          · rw [zz] at b4; omega
        rw [decide_eq_false this]; rfl
      · rcases hcd with e | e
        · rw [← e]; exact List.mem_cons_self
        · rw [← e]; exact List.mem_cons_of_mem _ List.mem_cons_self
/-- different members of a list are no more than its length -/
theorem pl_nd {α : Type} [DecidableEq α] : ∀ l l' : List α, l.Nodup → (∀ a, a ∈ l → a ∈ l') → l.length ≤ l'.length
  | [], _, _, _ => Nat.zero_le _
  | a :: l, l', hn, hs => by
    have ha := hs a List.mem_cons_self
    obtain ⟨n1, n2⟩ := List.nodup_cons.mp hn
    have := pl_nd l (l'.erase a) n2 (fun b hb => by
      refine (List.mem_erase_of_ne ?_).mpr (hs b (List.mem_cons_of_mem _ hb))
      intro e; subst e; exact n1 hb)
    rw [List.length_erase_of_mem ha] at this
    have := List.length_pos_of_mem ha
    rw [List.length_cons]
    omega
/-- so many ways at most -/
theorem pl_128 (I : cp_Inst m fr to sl fa pr) (hs : List (List Nat)) (hn : hs.Nodup) (h : ∀ p, p ∈ hs → p ∈ pl_l fr to 5 (List.range m) 5) : hs.length ≤ 128 := by
  have a := pl_nd hs _ hn h
  have b := pl_len (fr := fr) (to := to) 5 (List.range m) 5
  rw [List.length_range] at b
  have c : 2 ^ m ≤ 2 ^ 7 := Nat.pow_le_pow_right (by omega) I.1
  omega
theorem pl_in (I : cp_Inst m fr to sl fa pr) {L : Nat → Int} {T : Nat → Nat} {Rc : Nat → Prop} {p : List Nat} (hp : p.length ≤ 5) (h : rp_L (4 * m) (cp_src fr to) (cp_dst fr to) (cp_ln sl fa) Rc L T 5 p) : p ∈ pl_l fr to 5 (List.range m) 5 :=
  pl_mem I 5 p _ 5 hp h (fun c hc => List.mem_range.mpr (by have := (rp_labm p 5 h c hc).1; omega))
end
end
section
/-! the flow: what is sent along a way -/
section
variable {m : Nat} {fr to : Nat → Nat} {sl fa pr : Nat → Int}
/-- the width: the least room on the way, beginning with w -/
def rp_w (room : Nat → Int) : Int → List Nat → Int
  | w, [] => w
  | w, c :: p => rp_w room (if room c < w then room c else w) p
theorem rp_wle (room : Nat → Int) : ∀ p w, rp_w room w p ≤ w ∧ ∀ c, c ∈ p → rp_w room w p ≤ room c
  | [], w => ⟨Int.le_refl _, fun c h => by cases h⟩
  | c :: p, w => by
    obtain ⟨a, b⟩ := rp_wle room p (if room c < w then room c else w)
    unfold rp_w
    refine ⟨by split at a <;> split <;> omega, fun c' h => ?_⟩
    rcases List.mem_cons.mp h with e | e
    · subst e
      split at a <;> split <;> omega
    · exact b c' e
theorem rp_wat (room : Nat → Int) : ∀ p w, rp_w room w p = w ∨ ∃ c, c ∈ p ∧ rp_w room w p = room c
  | [], w => Or.inl rfl
  | c :: p, w => by
    unfold rp_w
    rcases rp_wat room p (if room c < w then room c else w) with a | ⟨c', h1, h2⟩
    · rw [a]
      split
      · exact Or.inr ⟨c, List.mem_cons_self, rfl⟩
      · exact Or.inl rfl
    · exact Or.inr ⟨c', List.mem_cons_of_mem _ h1, h2⟩
theorem rp_wpos {room : Nat → Int} {k w : Int} {p : List Nat} (h : k ≤ w) (hp : ∀ c, c ∈ p → k ≤ room c) : k ≤ rp_w room w p := by
  rcases rp_wat room p w with a | ⟨c, h1, h2⟩
  · omega
  · have := hp c h1; omega
/-- the flow behind it -/
def rp_f (a : Int) : (Nat → Int) → List Nat → Nat → Int
  | f, [] => f
  | f, c :: p => rp_f a (fun l => if l = c / 2 then f l + (if c % 2 = 1 then -a else a) else f l) p
def rp_t (h : Nat → Int) : List Nat → Int
  | [] => 0
  | c :: p => h c + rp_t h p
theorem rp_tc {h h' : Nat → Int} : ∀ p, (∀ c, c ∈ p → h c = h' c) → rp_t h p = rp_t h' p
  | [], _ => rfl
  | c :: p, H => by rw [rp_t, rp_t, H c List.mem_cons_self, rp_tc p (fun c' hc => H c' (List.mem_cons_of_mem _ hc))]
theorem rp_sum {a : Int} {n : Nat} (w : Nat → Int) : ∀ p f, (∀ c, c ∈ p → c / 2 < n) →
    sp_S (fun l => rp_f a f p l * w l) n = sp_S (fun l => f l * w l) n + a * rp_t (fun c => if c % 2 = 1 then - w (c / 2) else w (c / 2)) p
  | [], f, _ => by rw [rp_t]; simp only [rp_f]; omega
  | c :: p, f, H => by
    rw [rp_t]
    simp only [rp_f]
    rw [rp_sum w p _ (fun c' hc => H c' (List.mem_cons_of_mem _ hc))]
    rw [sp_chg (g := fun l => f l * w l) (i := c / 2) n (H c List.mem_cons_self) (fun j _ hj => by show (if j = c / 2 then _ else f j) * w j = f j * w j; rw [if_neg hj])]
    simp only [if_true]
    rw [Int.mul_add]
    split
    · rw [Int.add_mul, Int.neg_mul, Int.mul_neg]; omega
    · rw [Int.add_mul]; omega
theorem rp_off {a : Int} : ∀ p f l, (∀ c, c ∈ p → c / 2 ≠ l) → rp_f a f p l = f l
  | [], _, _, _ => rfl
  | c :: p, f, l, H => by
    rw [rp_f, rp_off p _ l (fun c' hc => H c' (List.mem_cons_of_mem _ hc)), if_neg (fun e => H c List.mem_cons_self e.symm)]
variable {L U : Nat → Int} {T Q V : Nat → Nat} {R : Nat → Prop} {Rc : Nat → Prop} {f : Nat → Int} {F : Int}
theorem cp_rev {c c' : Nat} (h : c' / 2 = c / 2) (hn : c' ≠ c) : cp_src fr to c' = cp_dst fr to c ∧ cp_dst fr to c' = cp_src fr to c ∧ cp_ln sl fa c' = - cp_ln sl fa c := by
  have e : c' / 4 = c / 4 := by omega
  unfold cp_src cp_dst cp_ln
  rw [e, h]
  by_cases z : c % 2 = 1
  · have z' : ¬ c' % 2 = 1 := by omega
    simp only [z, z', if_true, if_false]
    refine ⟨trivial, trivial, by omega⟩
  · have z' : c' % 2 = 1 := by omega
    simp only [z, z', if_true, if_false]
    refine ⟨trivial, trivial, trivial⟩
theorem rp_dis {c : Nat} {v : Nat} {p : List Nat} (h : rp_L (4 * m) (cp_src fr to) (cp_dst fr to) (cp_ln sl fa) Rc L T v (c :: p)) : ∀ c', c' ∈ p → c' / 2 ≠ c / 2 := by
  obtain ⟨a0, a1, a1', a1'', a2, a3, a4, a5, a6⟩ := h
  intro c' hc' e
  obtain ⟨b0, b1, b2, b3, b4⟩ := rp_labm p _ a6 c' hc'
  by_cases z : c' = c
  · subst z
    omega
  · obtain ⟨e1, e2, _⟩ := cp_rev (fr := fr) (to := to) (sl := sl) (fa := fa) e z
    rw [e1, e2] at b3
    rw [a1] at b3
    omega
theorem rp_on {a : Int} : ∀ p v f, rp_L (4 * m) (cp_src fr to) (cp_dst fr to) (cp_ln sl fa) Rc L T v p → ∀ c, c ∈ p → rp_f a f p (c / 2) = f (c / 2) + (if c % 2 = 1 then -a else a) := by
  intro p
  induction p with
  | nil => intro v f _ c h; cases h
  | cons c p ih =>
    intro v f h c' hc'
    have hd := rp_dis h
    have h6 := h.2.2.2.2.2.2.2.2
    rw [rp_f]
    rcases List.mem_cons.mp hc' with e | e
    · subst e
      rw [rp_off p _ _ hd, if_pos rfl]
    · rw [ih _ _ h6 c' e, if_neg (hd c' e)]
theorem rp_tel (e : Nat → Int) : ∀ p v, rp_L (4 * m) (cp_src fr to) (cp_dst fr to) (cp_ln sl fa) Rc L T v p →
    rp_t (fun c => if c % 2 = 1 then - (e (to (c / 2 / 2)) - e (fr (c / 2 / 2))) else e (to (c / 2 / 2)) - e (fr (c / 2 / 2))) p = e v - e 0 := by
  intro p
  induction p with
  | nil => intro v h; rw [h.1, rp_t]; omega
  | cons c p ih =>
    intro v h
    have h1 := h.2.1
    rw [rp_t, ih _ h.2.2.2.2.2.2.2.2]
    have e4 : c / 2 / 2 = c / 4 := by omega
    rw [e4, ← h1]
    unfold cp_dst cp_src
    split <;> omega
theorem rp_tln : ∀ p v, rp_L (4 * m) (cp_src fr to) (cp_dst fr to) (cp_ln sl fa) Rc L T v p →
    rp_t (fun c => if c % 2 = 1 then - cp_bl sl fa (c / 2) else cp_bl sl fa (c / 2)) p = L v := by
  intro p
  induction p with
  | nil => intro v h; rw [h.1, h.2.1, rp_t]
  | cons c p ih =>
    intro v h
    rw [rp_t, ih _ h.2.2.2.2.2.2.2.2, h.2.2.2.2.1]
    show cp_ln sl fa c + _ = _
    omega
/-- a flow of value F -/
def fl_I (m : Nat) (fr to : Nat → Nat) (pr : Nat → Int) (f : Nat → Int) (F : Int) : Prop :=
  0 ≤ F ∧ (∀ l, l < 2 * m → 0 ≤ f l) ∧ (∀ j, j < m → f (2 * j) ≤ pr j) ∧ (∀ l, l < 2 * m → 0 < f l → cp_Rc m fr to (fr (l / 2))) ∧
  ∀ e : Nat → Int, sp_S (fun l => f l * (e (to (l / 2)) - e (fr (l / 2)))) (2 * m) = F * (e 5 - e 0)
def fl_len (m : Nat) (sl fa : Nat → Int) (f : Nat → Int) : Int := sp_S (fun l => f l * cp_bl sl fa l) (2 * m)
theorem fl_0 (I : cp_Inst m fr to sl fa pr) (h : ∀ l, l < 2 * m → f l = 0) : fl_I m fr to pr f 0 ∧ fl_len m sl fa f = 0 := by
  refine ⟨⟨Int.le_refl _, fun l hl => by rw [h l hl]; exact Int.le_refl _, fun j hj => ?_, fun l hl z => ?_, fun e => ?_⟩, ?_⟩
  · rw [h _ (by omega)]
    have := I.2 j hj
    omega
  · rw [h l hl] at z; omega
  · rw [sp_zero _ (fun l hl => by rw [h l hl, Int.zero_mul]), Int.zero_mul]
  · exact sp_zero _ (fun l hl => by rw [h l hl, Int.zero_mul])
theorem fl_room (H : fl_I m fr to pr f F) {c : Nat} (hc : c < 4 * m) : 0 ≤ cp_room pr f c := by
  obtain ⟨_, h1, h2, _, _⟩ := H
  unfold cp_room
  split
  · exact h1 _ (by omega)
  · split
    · have := h2 (c / 4) (by omega)
      rw [show 2 * (c / 4) = c / 2 by omega] at this
      omega
    · omega
/-- room on the lines of the jobs -/
theorem fl_H (I : cp_Inst m fr to sl fa pr) (H : fl_I m fr to pr f F) (B : lb_F (4 * m) (cp_src fr to) (cp_dst fr to) (cp_ln sl fa) (cp_av pr f) (cp_Rc m fr to) U V) :
    bf_H (4 * m) (cp_src fr to) (cp_dst fr to) (cp_ln sl fa) (cp_av pr f) U (cp_Rc m fr to) := by
  refine ⟨B.1, cp_Rc0, fun v h => cp_Rc6 I h, fun c hc ha hr => ?_⟩
  obtain ⟨i1, i2, i3, i4, i5, i6, i7, i8⟩ := I.2 (c / 4) (by omega)
  refine ⟨?_, ?_, ?_, ?_⟩
  · rcases B.2.2 c hc ha hr with b | b <;> omega
  · unfold cp_dst
    split
    · rename_i z
      unfold cp_av cp_room at ha
      rw [if_pos z] at ha
      have := H.2.1 (c / 2) (by omega)
      have := H.2.2.2.1 (c / 2) (by omega) (by omega)
      rw [show c / 2 / 2 = c / 4 by omega] at this
      exact this
    · rename_i z
      unfold cp_src at hr
      rw [if_neg z] at hr
      exact cp_Rcs (by omega) hr
  · unfold cp_src cp_dst
    split <;> omega
  · unfold cp_ln cp_bl
    rw [show c / 2 / 2 = c / 4 by omega]
    split <;> split <;> omega
/-- the search reaches all that can be reached -/
theorem fl_R (I : cp_Inst m fr to sl fa pr) (D : bf_D (4 * m) (cp_src fr to) (cp_dst fr to) (cp_ln sl fa) (cp_av pr f) (cp_Rc m fr to) L R Q T) : ∀ v, cp_Rc m fr to v → R v ∧ 0 ≤ L v := by
  intro v hv
  obtain ⟨⟨r0, l0, t0⟩, hp, hc⟩ := D
  refine hv (fun v => R v ∧ 0 ≤ L v) ⟨r0, by rw [l0]; exact Int.le_refl _⟩ (fun j hj h => ?_)
  obtain ⟨i1, i2, i3, i4, i5, i6, i7, i8⟩ := I.2 j hj
  have e1 : cp_src fr to (4 * j + 2) = fr j := by
    unfold cp_src; rw [if_neg (by omega), show (4 * j + 2) / 4 = j by omega]
  have e2 : cp_dst fr to (4 * j + 2) = to j := by
    unfold cp_dst; rw [if_neg (by omega), show (4 * j + 2) / 4 = j by omega]
  have e3 : cp_ln sl fa (4 * j + 2) = fa j := by
    unfold cp_ln cp_bl; rw [if_neg (by omega), if_neg (by omega), show (4 * j + 2) / 2 / 2 = j by omega]
  have e4 : cp_av pr f (4 * j + 2) := by
    unfold cp_av cp_room; rw [if_neg (by omega), if_neg (by omega)]; omega
  have := hc (4 * j + 2) (by omega) e4 (by rw [e1]; exact h.1) (by rw [e2]; omega)
  rw [e1, e2, e3] at this
  refine ⟨this.1, ?_⟩
  have h2 := h.2
  rcases this.2 with z | z <;> omega
end
end
section
/-! behind a sending; the events with endless ways; the flow's bound -/
section
variable {m : Nat} {fr to : Nat → Nat} {sl fa pr : Nat → Int}
variable {L U : Nat → Int} {T Q V : Nat → Nat} {R : Nat → Prop} {Rc : Nat → Prop} {f : Nat → Int} {F a : Int} {p : List Nat}
theorem fl_rm {f' : Nat → Int} {c : Nat} (h : f' (c / 2) = f (c / 2)) : cp_room pr f' c = cp_room pr f c := by
  unfold cp_room; rw [h]
/-- the two directions of a line -/
theorem fl_two {P : Nat → Prop} (c : Nat) (hp : ∀ c', c' ∈ p → c' / 2 = c / 2 → P c') (h : ¬ P c) : (∀ c', c' ∈ p → c' / 2 ≠ c / 2) ∨ ∃ c', c' ∈ p ∧ c' / 2 = c / 2 ∧ c' ≠ c := by
  by_cases z : ∃ c', c' ∈ p ∧ c' / 2 = c / 2
  · obtain ⟨c', h1, h2⟩ := z
    exact Or.inr ⟨c', h1, h2, fun e => h (e ▸ hp c' h1 h2)⟩
  · exact Or.inl fun c' h1 h2 => z ⟨c', h1, h2⟩
/-- which lines have room behind a sending -/
theorem fl_N (D : bf_D (4 * m) (cp_src fr to) (cp_dst fr to) (cp_ln sl fa) (cp_av pr f) Rc L R Q T) (h5 : R 5) (hC : rp_C (cp_src fr to) Q 5 p) :
    lb_N (4 * m) (cp_src fr to) (cp_dst fr to) (cp_ln sl fa) (cp_av pr f) (cp_av pr (rp_f a f p)) R Q := by
  intro c hc ha
  by_cases z : cp_av pr f c
  · exact Or.inl z
  · right
    have mm := rp_mem D p 5 h5 hC
    rcases fl_two (P := cp_av pr f) c (fun c' h1 h2 => (mm c' h1).2.1) z with h | ⟨c', h1, h2, h3⟩
    · exact absurd (by unfold cp_av at ha ⊢; rw [fl_rm (rp_off p f (c / 2) h)] at ha; exact ha) z
    · obtain ⟨e1, e2, e3⟩ := cp_rev (fr := fr) (to := to) (sl := sl) (fa := fa) h2 h3
      obtain ⟨q1, q2, q3, q4, q5, q6, q7, q8, q9⟩ := mm c' h1
      rw [e2] at q3 q4 q5
      rw [q5]
      exact ⟨q4, q3, e1, by rw [e3]; omega⟩
/-- the flow behind a sending -/
theorem fl_next (I : cp_Inst m fr to sl fa pr) (H : fl_I m fr to pr f F) (D : bf_D (4 * m) (cp_src fr to) (cp_dst fr to) (cp_ln sl fa) (cp_av pr f) (cp_Rc m fr to) L R Q T) (h5 : R 5) (hC : rp_C (cp_src fr to) Q 5 p)
    (ha : 0 ≤ a) (hr : ∀ c, c ∈ p → a ≤ cp_room pr f c) :
    fl_I m fr to pr (rp_f a f p) (F + a) ∧ fl_len m sl fa (rp_f a f p) = fl_len m sl fa f + a * L 5 := by
  have lab := rp_lab D p 5 h5 hC
  have mm := rp_mem D p 5 h5 hC
  obtain ⟨H0, H1, H2, H3, H4⟩ := H
  have hin : ∀ c, c ∈ p → c / 2 < 2 * m := fun c hc => by have := (mm c hc).1; omega
  -- the value at a line
  have hv : ∀ l, l < 2 * m → (rp_f a f p l = f l) ∨ (2 * l ∈ p ∧ rp_f a f p l = f l + a) ∨ (2 * l + 1 ∈ p ∧ rp_f a f p l = f l - a) := by
    intro l hl
    by_cases z : ∃ c, c ∈ p ∧ c / 2 = l
    · obtain ⟨c, h1, h2⟩ := z
      have e := rp_on (a := a) p 5 f lab c h1
      rw [h2] at e
      right
      by_cases z : c % 2 = 1
      · rw [if_pos z] at e
        exact Or.inr ⟨by rw [show 2 * l + 1 = c by omega]; exact h1, by omega⟩
      · rw [if_neg z] at e
        exact Or.inl ⟨by rw [show 2 * l = c by omega]; exact h1, e⟩
    · exact Or.inl (rp_off p f l (fun c h1 h2 => z ⟨c, h1, h2⟩))
  have hback : ∀ l, 2 * l + 1 ∈ p → a ≤ f l := by
    intro l h
    have := hr _ h
    unfold cp_room at this
    rw [if_pos (by omega), show (2 * l + 1) / 2 = l by omega] at this
    exact this
  refine ⟨⟨by omega, fun l hl => ?_, fun j hj => ?_, fun l hl hpos => ?_, fun e => ?_⟩, ?_⟩
  · have h0 := H1 l hl
    rcases hv l hl with h | ⟨_, h⟩ | ⟨h', h⟩
    · omega
    · omega
    · have := hback l h'; omega
  · have h0 := H2 j hj
    rcases hv (2 * j) (by omega) with h | ⟨h', h⟩ | ⟨h', h⟩
    · omega
    · have := hr _ h'
      unfold cp_room at this
      rw [if_neg (by omega), if_pos (by omega), show 2 * (2 * j) / 2 = 2 * j by omega, show 2 * (2 * j) / 4 = j by omega] at this
      omega
    · omega
  · rcases hv l hl with h | ⟨h', h⟩ | ⟨h', h⟩
    · exact H3 l hl (by omega)
    · obtain ⟨q1, q2, q3, q4, q5, q6, q7, q8, q9⟩ := mm _ h'
      have := (D.2.1 _ q6).1
      unfold cp_src at this
      rw [if_neg (by omega), show 2 * l / 4 = l / 2 by omega] at this
      exact this
    · have := hback l h'
      exact H3 l hl (by omega)
  · rw [rp_sum (fun l => e (to (l / 2)) - e (fr (l / 2))) p f hin, H4 e, rp_tel e p 5 lab, Int.add_mul]
  · unfold fl_len
    rw [rp_sum (cp_bl sl fa) p f hin, rp_tln p 5 lab]
/-- a line whose room was the amount has none behind it -/
theorem fl_crit (D : bf_D (4 * m) (cp_src fr to) (cp_dst fr to) (cp_ln sl fa) (cp_av pr f) Rc L R Q T) (h5 : R 5) (hC : rp_C (cp_src fr to) Q 5 p) (ha : a < 1000000)
    {c : Nat} (hc : c ∈ p) (h : a = cp_room pr f c) : ¬ cp_av pr (rp_f a f p) c := by
  have lab := rp_lab D p 5 h5 hC
  have e := rp_on (a := a) p 5 f lab c hc
  unfold cp_av
  intro z
  apply z
  unfold cp_room at h ⊢
  by_cases z1 : c % 2 = 1
  · rw [if_pos z1] at h e ⊢; omega
  · rw [if_neg z1] at h e ⊢
    by_cases z2 : c / 2 % 2 = 0
    · rw [if_pos z2] at h ⊢; omega
    · rw [if_neg z2] at h; omega
/-- no line has more than all -/
theorem fl_le (I : cp_Inst m fr to sl fa pr) (H : fl_I m fr to pr f F) {l : Nat} (hl : l < 2 * m) : f l ≤ F := by
  obtain ⟨H0, H1, H2, H3, H4⟩ := H
  have h := H4 (fun v => if v ≤ fr (l / 2) then 0 else 1)
  have i0 := I.2 (l / 2) (by omega)
  have nn : ∀ k, k < 2 * m → 0 ≤ f k * ((if to (k / 2) ≤ fr (l / 2) then 0 else 1) - (if fr (k / 2) ≤ fr (l / 2) then 0 else 1) : Int) := by
    intro k hk
    have i := I.2 (k / 2) (by omega)
    refine Int.mul_nonneg (H1 k hk) ?_
    split <;> split <;> omega
  have h1 := sp_one (g := fun k => f k * ((if to (k / 2) ≤ fr (l / 2) then 0 else 1) - (if fr (k / 2) ≤ fr (l / 2) then 0 else 1) : Int)) (2 * m) l nn hl
  rw [h, if_neg (by omega), if_pos (by omega), if_neg (by omega), if_pos (by omega)] at h1
  omega
/-- the events whose way is all fast lines -/
def vi_A (src : Nat → Nat) (R : Nat → Prop) (Q : Nat → Nat) (v : Nat) : Prop := ∀ S : Nat → Prop, S 0 → (∀ y, R y → y ≠ 0 → Q y % 4 = 2 → S (src (Q y)) → S y) → S v
theorem vi_0 {src : Nat → Nat} : vi_A src R Q 0 := fun _ h _ => h
theorem vi_s {src : Nat → Nat} {y : Nat} (h1 : R y) (h2 : y ≠ 0) (h3 : Q y % 4 = 2) (h4 : vi_A src R Q (src (Q y))) : vi_A src R Q y := fun S a b => b y h1 h2 h3 (h4 S a b)
theorem vi_inv {src : Nat → Nat} {y : Nat} (h : vi_A src R Q y) : vi_A src R Q y ∧ (y = 0 ∨ (R y ∧ Q y % 4 = 2 ∧ vi_A src R Q (src (Q y)))) :=
  h (fun y => vi_A src R Q y ∧ (y = 0 ∨ (R y ∧ Q y % 4 = 2 ∧ vi_A src R Q (src (Q y))))) ⟨vi_0, Or.inl rfl⟩ (fun _ h1 h2 h3 h4 => ⟨vi_s h1 h2 h3 h4.1, Or.inr ⟨h1, h3, h4.1⟩⟩)
/-- how many, and the bound -/
noncomputable def vi_n (A : Nat → Prop) : Nat := cn_6 (fun v => cn_d (A v))
def vi_H : Nat → Int
  | 0 => 0
  | k + 1 => 140 + 7 * vi_H k
theorem vi_H0 : ∀ k, 0 ≤ vi_H k
  | 0 => Int.le_refl _
  | k + 1 => by have := vi_H0 k; unfold vi_H; omega
theorem vi_Hm : ∀ k, vi_H k ≤ vi_H (k + 1)
  | 0 => by decide
  | k + 1 => by have := vi_Hm k; rw [vi_H, vi_H]; omega
theorem vi_Hle {k : Nat} : ∀ d, vi_H k ≤ vi_H (k + d)
  | 0 => Int.le_refl _
  | d + 1 => Int.le_trans (vi_Hle d) (vi_Hm (k + d))
theorem vi_Hmm {k n : Nat} (h : k ≤ n) : vi_H k ≤ vi_H n := by
  have := vi_Hle (k := k) (n - k)
  rw [show k + (n - k) = n by omega] at this
  exact this
def vi_I (m : Nat) (fr to : Nat → Nat) (sl fa : Nat → Int) (U : Nat → Int) (V : Nat → Nat) (f : Nat → Int) (A : Nat → Prop) : Prop :=
  A 0 ∧ ¬ A 5 ∧
  (∀ x, A x → x ≠ 0 → ∃ c, c < 4 * m ∧ c % 4 = 2 ∧ cp_dst fr to c = x ∧ A (cp_src fr to c) ∧ cp_Rc m fr to x ∧ U x = U (cp_src fr to c) + cp_ln sl fa c ∧ V (cp_src fr to c) < V x ∧ (V x - 1) % (4 * m) = c) ∧
  ∀ j, j < m → A (fr j) → ¬ A (to j) → f (2 * j + 1) ≤ vi_H (vi_n A - 1)
theorem vi_F (I : cp_Inst m fr to sl fa pr) (H : fl_I m fr to pr f F) {A : Nat → Prop} (J : vi_I m fr to sl fa U V f A) : F ≤ vi_H (vi_n A) ∧ F ≤ 392140 := by
  obtain ⟨A0, A5, _, hb⟩ := J
  obtain ⟨H0, H1, H2, H3, H4⟩ := H
  have h := H4 (fun v => if cn_d (A v) = true then 0 else 1)
  have hH := vi_H0 (vi_n A - 1)
  rw [sp_pair] at h
  have hle := sp_le (g := fun j => f (2 * j) * ((if cn_d (A (to (2 * j / 2))) = true then 0 else 1) - (if cn_d (A (fr (2 * j / 2))) = true then 0 else 1) : Int) + f (2 * j + 1) * ((if cn_d (A (to ((2 * j + 1) / 2))) = true then 0 else 1) - (if cn_d (A (fr ((2 * j + 1) / 2))) = true then 0 else 1) : Int)) (h := fun _ => 20 + vi_H (vi_n A - 1)) m (by
    intro j hj
    show f (2 * j) * _ + f (2 * j + 1) * _ ≤ 20 + vi_H (vi_n A - 1)
    rw [show 2 * j / 2 = j by omega, show (2 * j + 1) / 2 = j by omega]
    have a1 := H1 (2 * j) (by omega)
    have a2 := H1 (2 * j + 1) (by omega)
    have a3 := H2 j hj
    have a4 := (I.2 j hj).2.2.2.2.2.2.2
    by_cases y1 : A (fr j)
    · by_cases y2 : A (to j)
      · rw [cn_dt y1, cn_dt y2]; simp; omega
      · have := hb j hj y1 y2
        rw [cn_dt y1, cn_df y2]; simp; omega
    · by_cases y2 : A (to j)
      · rw [cn_df y1, cn_dt y2]; simp; omega
      · rw [cn_df y1, cn_df y2]; simp; omega)
  rw [h, sp_const, cn_dt A0, cn_df A5] at hle
  simp at hle
  have hm : (m : Int) * (20 + vi_H (vi_n A - 1)) ≤ 7 * (20 + vi_H (vi_n A - 1)) := Int.mul_le_mul_of_nonneg_right (by have := I.1; omega) (by omega)
  have n1 : 1 ≤ vi_n A := by
    have := cn_strict (p := fun _ => false) (q := fun v => cn_d (A v)) (fun _ _ h => by contradiction) (w := 0) (by omega) rfl (cn_dt A0)
    unfold vi_n; omega
  have n5 : vi_n A ≤ 5 := by
    have := cn_lt6 (p := fun v => cn_d (A v)) (w := 5) (by omega) (cn_df A5)
    unfold vi_n; omega
  have e : vi_H (vi_n A) = 140 + 7 * vi_H (vi_n A - 1) := by
    obtain ⟨k, hk⟩ : ∃ k, vi_n A = k + 1 := ⟨vi_n A - 1, by omega⟩
    rw [hk]; rfl
  have e5 : vi_H (vi_n A) ≤ vi_H 5 := vi_Hmm n5
  have e6 : vi_H 5 = 392140 := by decide
  omega
/-- endless events stay so -/
theorem vi_stay (hR : ∀ v, cp_Rc m fr to v → R v) (B : lb_F (4 * m) (cp_src fr to) (cp_dst fr to) (cp_ln sl fa) (cp_av pr f) (cp_Rc m fr to) U V) (D : bf_D (4 * m) (cp_src fr to) (cp_dst fr to) (cp_ln sl fa) (cp_av pr f) (cp_Rc m fr to) L R Q T)
    {A : Nat → Prop} (J : vi_I m fr to sl fa U V f A) : ∀ n x, V x < n → A x → (L x = U x ∧ T x = V x) ∧ vi_A (cp_src fr to) R Q x := by
  obtain ⟨A0, A5, hA, hb⟩ := J
  have D0 := D
  obtain ⟨⟨r0, l0, t0⟩, hp, hc⟩ := D
  intro n
  induction n with
  | zero => intro x h; omega
  | succ n ih =>
    intro x hn hx
    by_cases e : x = 0
    · subst e
      exact ⟨⟨by rw [l0, B.1], by rw [t0, B.2.1]⟩, vi_0⟩
    · obtain ⟨c, c1, c2, c3, c4, c5, c6, c7, c8⟩ := hA x hx e
      obtain ⟨⟨i1, i2⟩, i3⟩ := ih _ (by omega) c4
      have av : cp_av pr f c := by unfold cp_av cp_room; rw [if_neg (by omega), if_neg (by omega)]; omega
      have rs : R (cp_src fr to c) := by
        rcases (vi_inv i3).2 with z | z
        · rw [z]; exact r0
        · exact z.1
      have rx : R x := hR x c5
      have cl := (hc c c1 av rs (by rw [c3]; exact e)).2
      rw [c3] at cl
      have mo := lb_mono' B D0 rx
      unfold lb_le at mo
      have lx : L x = U x := by
        rcases mo with mo | mo <;> rcases cl with cl | cl <;> omega
      have tx : T x = V x := by
        have y1 : V x ≤ T x := by rcases mo with mo | mo <;> omega
        have y2 : T x ≤ V x := by
          rcases cl with cl | cl
          · omega
          · exact cl.2 _ (by omega) c8
        omega
      refine ⟨⟨lx, tx⟩, ?_⟩
      obtain ⟨q1, q2, q3, q4, q5, q6, q7⟩ := (hp x rx).2.2 e
      have hq : Q x = c := by rw [← q6, tx]; exact c8
      exact vi_s rx e (by rw [hq]; exact c2) (by rw [hq]; exact i3)
/-- the invariant with the new endless events -/
theorem vi_next (I : cp_Inst m fr to sl fa pr) (H : fl_I m fr to pr f F) (B : lb_F (4 * m) (cp_src fr to) (cp_dst fr to) (cp_ln sl fa) (cp_av pr f) (cp_Rc m fr to) U V) (D : bf_D (4 * m) (cp_src fr to) (cp_dst fr to) (cp_ln sl fa) (cp_av pr f) (cp_Rc m fr to) L R Q T)
    {A : Nat → Prop} (J : vi_I m fr to sl fa U V f A) (h5 : R 5) (hC : rp_C (cp_src fr to) Q 5 p) (ha : 0 ≤ a) (n5 : ¬ vi_A (cp_src fr to) R Q 5) :
    vi_I m fr to sl fa L T (rp_f a f p) (vi_A (cp_src fr to) R Q) := by
  have hR := fl_R I D
  have st := vi_stay (fun v hv => (hR v hv).1) B D J
  have hF := vi_F I H J
  have lab := rp_lab D p 5 h5 hC
  have mm := rp_mem D p 5 h5 hC
  obtain ⟨A0, A5, hA, hb⟩ := J
  refine ⟨vi_0, n5, fun x hx x0 => ?_, fun j hj j1 j2 => ?_⟩
  · obtain ⟨_, z | ⟨z1, z2, z3⟩⟩ := vi_inv hx
    · exact absurd z x0
    · obtain ⟨k0, _, kk⟩ := D.2.1 x z1
      obtain ⟨q1, q2, q3, q4, q5, q6, q7⟩ := kk x0
      exact ⟨Q x, q1, z2, q3, z3, k0, q7, q5, q6⟩
  · -- nothing more was sent there
    have hle : rp_f a f p (2 * j + 1) ≤ f (2 * j + 1) := by
      by_cases z : ∃ c, c ∈ p ∧ c / 2 = 2 * j + 1
      · obtain ⟨c, z1, z2⟩ := z
        have e := rp_on (a := a) p 5 f lab c z1
        rw [z2] at e
        by_cases z3 : c % 2 = 1
        · rw [if_pos z3] at e; omega
        · exfalso
          obtain ⟨q1, q2, q3, q4, q5, q6, q7, q8, q9⟩ := mm c z1
          have d : cp_dst fr to c = to j := by unfold cp_dst; rw [if_neg z3, show c / 4 = j by omega]
          have s : cp_src fr to c = fr j := by unfold cp_src; rw [if_neg z3, show c / 4 = j by omega]
          rw [d] at q3 q4 q5
          exact j2 (vi_s q3 q4 (by rw [q5]; omega) (by rw [q5, s]; exact j1))
      · rw [rp_off p f _ (fun c h1 h2 => z ⟨c, h1, h2⟩)]
        exact Int.le_refl _
    have sub : ∀ v, v < 6 → cn_d (A v) = true → cn_d (vi_A (cp_src fr to) R Q v) = true := fun v _ hv => cn_dt (st (V v + 1) v (by omega) (cn_di.mp hv)).2
    by_cases z : A (fr j)
    · have z2 : ¬ A (to j) := fun w => j2 (st _ _ (Nat.lt_succ_self _) w).2
      have h1 := hb j hj z z2
      have h2 : vi_n A ≤ vi_n (vi_A (cp_src fr to) R Q) := cn_mono sub
      have h3 : vi_H (vi_n A - 1) ≤ vi_H (vi_n (vi_A (cp_src fr to) R Q) - 1) := vi_Hmm (by omega)
      omega
    · have i := I.2 j hj
      have h2 : vi_n A + 1 ≤ vi_n (vi_A (cp_src fr to) R Q) := cn_strict sub (w := fr j) (by omega) (cn_df z) (cn_dt j1)
      have h3 : vi_H (vi_n A) ≤ vi_H (vi_n (vi_A (cp_src fr to) R Q) - 1) := vi_Hmm (by omega)
      have h4 := fl_le I H (l := 2 * j + 1) (by omega)
      omega
/-- a way of fast lines alone ends at an endless event -/
theorem vi_path (D : bf_D (4 * m) (cp_src fr to) (cp_dst fr to) (cp_ln sl fa) (cp_av pr f) Rc L R Q T) : ∀ p v, R v → rp_C (cp_src fr to) Q v p → (∀ c, c ∈ p → c % 4 = 2) → vi_A (cp_src fr to) R Q v := by
  intro p
  induction p with
  | nil => intro v _ h _; rw [show v = 0 from h]; exact vi_0
  | cons c p ih =>
    intro v hv h hc
    obtain ⟨h1, h2, h3⟩ := h
    subst h2
    obtain ⟨q1, q2, q3, q4, q5, q6, q7⟩ := (D.2.1 v hv).2.2 h1
    exact vi_s hv h1 (hc _ List.mem_cons_self) (ih _ q4 h3 (fun c' h => hc c' (List.mem_cons_of_mem _ h)))
theorem vi_path' (D : bf_D (4 * m) (cp_src fr to) (cp_dst fr to) (cp_ln sl fa) (cp_av pr f) Rc L R Q T) : ∀ p v, R v → rp_C (cp_src fr to) Q v p → vi_A (cp_src fr to) R Q v → ∀ c, c ∈ p → c % 4 = 2 := by
  intro p
  induction p with
  | nil => intro v _ _ _ c h; cases h
  | cons c p ih =>
    intro v hv h hA c' hc'
    obtain ⟨h1, h2, h3⟩ := h
    subst h2
    obtain ⟨_, z | ⟨z1, z2, z3⟩⟩ := vi_inv hA
    · exact absurd z h1
    · obtain ⟨q1, q2, q3, q4, q5, q6, q7⟩ := (D.2.1 v hv).2.2 h1
      rcases List.mem_cons.mp hc' with e | e
      · rw [e]; exact z2
      · exact ih _ q4 h3 z3 c' e
end
end
section
/-! the least cost for a deadline: plans, and the flow as a bound -/
section
variable {m : Nat} {fr to : Nat → Nat} {sl fa pr : Nat → Int}
variable {f : Nat → Int} {F : Int}
/-- a plan: how much less than its slow time each job takes -/
def op_V (m : Nat) (sl fa : Nat → Int) (x : Nat → Int) : Prop := ∀ j, j < m → 0 ≤ x j ∧ x j ≤ sl j - fa j
def op_c (m : Nat) (pr : Nat → Int) (x : Nat → Int) : Int := sp_S (fun j => pr j * x j) m
/-- with the times t the end comes at T at the latest -/
def op_Fit (m : Nat) (fr to : Nat → Nat) (t : Nat → Int) (T : Int) : Prop :=
  ∃ e : Nat → Int, e 0 = 0 ∧ (∀ j, j < m → cp_Rc m fr to (fr j) → e (fr j) + t j ≤ e (to j)) ∧ e 5 ≤ T
/-- r is the answer for the deadline T -/
def op_O (m : Nat) (fr to : Nat → Nat) (sl fa pr : Nat → Int) (T r : Int) : Prop :=
  (r = -1 ∧ ∀ x, op_V m sl fa x → ¬ op_Fit m fr to (fun j => sl j - x j) T) ∨
  (0 ≤ r ∧ (∃ x, op_V m sl fa x ∧ op_Fit m fr to (fun j => sl j - x j) T ∧ op_c m pr x = r) ∧
    ∀ x, op_V m sl fa x → op_Fit m fr to (fun j => sl j - x j) T → r ≤ op_c m pr x)
theorem op_uniq {T r r' : Int} (h : op_O m fr to sl fa pr T r) (h' : op_O m fr to sl fa pr T r') : r = r' := by
  rcases h with ⟨h1, h2⟩ | ⟨h0, ⟨x, h1, h2, h3⟩, h4⟩ <;> rcases h' with ⟨g1, g2⟩ | ⟨g0, ⟨y, g1, g2, g3⟩, g4⟩
  · omega
  · exact absurd g2 (h2 y g1)
  · exact absurd h2 (g2 x h1)
  · have a := h4 y g1 g2
    have b := g4 x h1 h2
    omega
theorem op_cle (I : cp_Inst m fr to sl fa pr) {x : Nat → Int} (h : op_V m sl fa x) : 0 ≤ op_c m pr x ∧ op_c m pr x ≤ 420 := by
  unfold op_c
  have hh : ∀ j, j < m → 0 ≤ pr j * x j ∧ pr j * x j ≤ 60 := by
    intro j hj
    obtain ⟨i1, i2, i3, i4, i5, i6, i7, i8⟩ := I.2 j hj
    obtain ⟨a, b⟩ := h j hj
    refine ⟨Int.mul_nonneg (by omega) a, ?_⟩
    have h1 : pr j * x j ≤ 20 * x j := Int.mul_le_mul_of_nonneg_right i8 a
    omega
  have a := sp_nonneg m (fun j hj => (hh j hj).1)
  have b := sp_le (h := fun _ => 60) m (fun j hj => (hh j hj).2)
  rw [sp_const] at b
  have := I.1
  omega
theorem op_r420 (I : cp_Inst m fr to sl fa pr) {T r : Int} (h : op_O m fr to sl fa pr T r) : -1 ≤ r ∧ r ≤ 420 := by
  rcases h with ⟨h1, h2⟩ | ⟨h0, ⟨x, h1, h2, h3⟩, h4⟩
  · omega
  · have := op_cle I h1
    omega
theorem op_bl0 (j : Nat) : cp_bl sl fa (2 * j) = sl j := by
  unfold cp_bl; rw [if_pos (by omega), show 2 * j / 2 = j by omega]
theorem op_bl1 (j : Nat) : cp_bl sl fa (2 * j + 1) = fa j := by
  unfold cp_bl; rw [if_neg (by omega), show (2 * j + 1) / 2 = j by omega]
/-- length less value, job by job -/
theorem op_split (H : fl_I m fr to pr f F) (e : Nat → Int) : fl_len m sl fa f - F * (e 5 - e 0) = sp_S (fun j => (f (2 * j) * sl j + f (2 * j + 1) * fa j) - (f (2 * j) * (e (to j) - e (fr j)) + f (2 * j + 1) * (e (to j) - e (fr j)))) m := by
  rw [sp_sub, ← H.2.2.2.2 e]
  unfold fl_len
  rw [sp_pair, sp_pair]
  congr 1
  · exact sp_congr m (fun j _ => by show _ * cp_bl sl fa (2 * j) + _ * cp_bl sl fa (2 * j + 1) = _; rw [op_bl0, op_bl1])
  · exact sp_congr m (fun j _ => by show _ * (e (to (2 * j / 2)) - e (fr (2 * j / 2))) + _ * (e (to ((2 * j + 1) / 2)) - e (fr ((2 * j + 1) / 2))) = _; rw [show 2 * j / 2 = j by omega, show (2 * j + 1) / 2 = j by omega])
theorem op_wj {A B P S φ x δ : Int} (hA : 0 ≤ A) (hB : 0 ≤ B) (hP : A ≤ P) (h0 : 0 ≤ x) (h1 : x ≤ S - φ) (h2 : (0 < A ∨ 0 < B) → S - x ≤ δ) : (A * S + B * φ) - (A * δ + B * δ) ≤ P * x := by
  have a1 : A * x ≤ P * x := Int.mul_le_mul_of_nonneg_right hP h0
  have a2 : A * (S - x) ≤ A * δ := by
    by_cases z : A = 0
    · rw [z]; simp
    · exact Int.mul_le_mul_of_nonneg_left (h2 (by omega)) hA
  have a3 : B * φ ≤ B * δ := by
    by_cases z : B = 0
    · rw [z]; simp
    · exact Int.mul_le_mul_of_nonneg_left (by have := h2 (by omega); omega) hB
  rw [Int.mul_sub] at a2
  omega
/-- every plan that fits costs at least so much -/
theorem op_weak (I : cp_Inst m fr to sl fa pr) (H : fl_I m fr to pr f F) {x : Nat → Int} {T : Int} (hV : op_V m sl fa x) (hF : op_Fit m fr to (fun j => sl j - x j) T) : fl_len m sl fa f - F * T ≤ op_c m pr x := by
  obtain ⟨e, e0, e1, e2⟩ := hF
  have h := op_split (sl := sl) (fa := fa) H e
  have hle := sp_le (g := fun j => (f (2 * j) * sl j + f (2 * j + 1) * fa j) - (f (2 * j) * (e (to j) - e (fr j)) + f (2 * j + 1) * (e (to j) - e (fr j)))) (h := fun j => pr j * x j) m (by
    intro j hj
    obtain ⟨H0, H1, H2, H3, H4⟩ := H
    obtain ⟨x0, x1⟩ := hV j hj
    refine op_wj (H1 (2 * j) (by omega)) (H1 (2 * j + 1) (by omega)) (H2 j hj) x0 x1 (fun z => ?_)
    have rc : cp_Rc m fr to (fr j) := by
      rcases z with z | z
      · have := H3 (2 * j) (by omega) z
        rw [show 2 * j / 2 = j by omega] at this
        exact this
      · have := H3 (2 * j + 1) (by omega) z
        rw [show (2 * j + 1) / 2 = j by omega] at this
        exact this
    have := e1 j hj rc
    simp only [] at this
    omega)
  rw [← h, e0] at hle
  have : F * (e 5 - 0) ≤ F * T := Int.mul_le_mul_of_nonneg_left (by omega) H.1
  unfold op_c
  omega
theorem op_sj {A B P S φ δ : Int} (h1 : φ ≤ δ) (h2 : ¬ P - A = 0 → S ≤ δ) (h3 : ¬ A = 0 → δ ≤ S) (h4 : ¬ B = 0 → δ ≤ φ) : P * (if δ < S then S - δ else 0) = (A * S + B * φ) - (A * δ + B * δ) := by
  have b : B * φ = B * δ := by
    by_cases z : B = 0
    · rw [z]; simp
    · rw [show φ = δ by have := h4 z; omega]
  split
  · have : P = A := by
      apply Classical.byContradiction
      intro z
      have := h2 (by omega)
      omega
    rw [this, Int.mul_sub]
    omega
  · have a : A * S = A * δ := by
      by_cases z : A = 0
      · rw [z]; simp
      · rw [show S = δ by have := h3 z; omega]
    rw [Int.mul_zero]
    omega
/-- a plan that costs just so much -/
theorem op_strong (I : cp_Inst m fr to sl fa pr) (H : fl_I m fr to pr f F) {e : Nat → Int} {T : Int} (e0 : e 0 = 0)
    (he : ∀ c, c < 4 * m → cp_av pr f c → cp_Rc m fr to (cp_src fr to c) → e (cp_src fr to c) + cp_ln sl fa c ≤ e (cp_dst fr to c))
    (h5 : e 5 ≤ T) (hT : F * e 5 = F * T) : ∃ x, op_V m sl fa x ∧ op_Fit m fr to (fun j => sl j - x j) T ∧ op_c m pr x = fl_len m sl fa f - F * T := by
  -- the four codes of a job
  have k0 : ∀ j, j < m → cp_Rc m fr to (fr j) → ¬ pr j - f (2 * j) = 0 → e (fr j) + sl j ≤ e (to j) := by
    intro j hj hr ha
    have := he (4 * j) (by omega) (by unfold cp_av cp_room; rw [if_neg (by omega), if_pos (by omega), show 4 * j / 4 = j by omega, show 4 * j / 2 = 2 * j by omega]; exact ha)
    unfold cp_src cp_dst cp_ln at this
    rw [if_neg (by omega), if_neg (by omega), if_neg (by omega), show 4 * j / 4 = j by omega, show 4 * j / 2 = 2 * j by omega, op_bl0] at this
    exact this hr
  have k2 : ∀ j, j < m → cp_Rc m fr to (fr j) → e (fr j) + fa j ≤ e (to j) := by
    intro j hj hr
    have := he (4 * j + 2) (by omega) (by unfold cp_av cp_room; rw [if_neg (by omega), if_neg (by omega)]; omega)
    unfold cp_src cp_dst cp_ln at this
    rw [if_neg (by omega), if_neg (by omega), if_neg (by omega), show (4 * j + 2) / 4 = j by omega, show (4 * j + 2) / 2 = 2 * j + 1 by omega, op_bl1] at this
    exact this hr
  have k1 : ∀ j, j < m → cp_Rc m fr to (fr j) → ¬ f (2 * j) = 0 → e (to j) - e (fr j) ≤ sl j := by
    intro j hj hr ha
    have := he (4 * j + 1) (by omega) (by unfold cp_av cp_room; rw [if_pos (by omega), show (4 * j + 1) / 2 = 2 * j by omega]; exact ha)
    unfold cp_src cp_dst cp_ln at this
    rw [if_pos (by omega), if_pos (by omega), if_pos (by omega), show (4 * j + 1) / 4 = j by omega, show (4 * j + 1) / 2 = 2 * j by omega, op_bl0] at this
    have := this (cp_Rcs hj hr)
    omega
  have k3 : ∀ j, j < m → cp_Rc m fr to (fr j) → ¬ f (2 * j + 1) = 0 → e (to j) - e (fr j) ≤ fa j := by
    intro j hj hr ha
    have := he (4 * j + 3) (by omega) (by unfold cp_av cp_room; rw [if_pos (by omega), show (4 * j + 3) / 2 = 2 * j + 1 by omega]; exact ha)
    unfold cp_src cp_dst cp_ln at this
    rw [if_pos (by omega), if_pos (by omega), if_pos (by omega), show (4 * j + 3) / 4 = j by omega, show (4 * j + 3) / 2 = 2 * j + 1 by omega, op_bl1] at this
    have := this (cp_Rcs hj hr)
    omega
  refine ⟨fun j => if cn_d (cp_Rc m fr to (fr j)) = true then (if e (to j) - e (fr j) < sl j then sl j - (e (to j) - e (fr j)) else 0) else 0, ?_, ⟨e, e0, ?_, h5⟩, ?_⟩
  · intro j hj
    have i := I.2 j hj
    show 0 ≤ (if cn_d (cp_Rc m fr to (fr j)) = true then (if e (to j) - e (fr j) < sl j then sl j - (e (to j) - e (fr j)) else 0) else 0) ∧ (if cn_d (cp_Rc m fr to (fr j)) = true then (if e (to j) - e (fr j) < sl j then sl j - (e (to j) - e (fr j)) else 0) else 0) ≤ sl j - fa j
    by_cases z : cp_Rc m fr to (fr j)
    · have := k2 j hj z
      rw [cn_dt z, if_pos rfl]
      split <;> omega
    · rw [cn_df z, if_neg (by decide)]; omega
  · intro j hj hr
    show e (fr j) + (sl j - (if cn_d (cp_Rc m fr to (fr j)) = true then (if e (to j) - e (fr j) < sl j then sl j - (e (to j) - e (fr j)) else 0) else 0)) ≤ e (to j)
    rw [cn_dt hr, if_pos rfl]
    split <;> omega
  · have h := op_split (sl := sl) (fa := fa) H e
    rw [e0, show e 5 - 0 = e 5 by omega, hT] at h
    rw [h]
    refine sp_congr m (fun j hj => ?_)
    show pr j * (if cn_d (cp_Rc m fr to (fr j)) = true then (if e (to j) - e (fr j) < sl j then sl j - (e (to j) - e (fr j)) else 0) else 0) = _
    by_cases z : cp_Rc m fr to (fr j)
    · rw [cn_dt z, if_pos rfl]
      exact op_sj (by have := k2 j hj z; omega) (fun y => by have := k0 j hj z y; omega) (k1 j hj z) (k3 j hj z)
    · rw [cn_df z, if_neg (by decide)]
      have f0 : f (2 * j) = 0 := by
        apply Classical.byContradiction
        intro y
        have := H.2.1 (2 * j) (by omega)
        have := H.2.2.2.1 (2 * j) (by omega) (by omega)
        rw [show 2 * j / 2 = j by omega] at this
        exact z this
      have f1 : f (2 * j + 1) = 0 := by
        apply Classical.byContradiction
        intro y
        have := H.2.1 (2 * j + 1) (by omega)
        have := H.2.2.2.1 (2 * j + 1) (by omega) (by omega)
        rw [show (2 * j + 1) / 2 = j by omega] at this
        exact z this
      rw [f0, f1]; simp
/-- both together -/
theorem op_both (I : cp_Inst m fr to sl fa pr) (H : fl_I m fr to pr f F) {e : Nat → Int} {T : Int} (e0 : e 0 = 0)
    (he : ∀ c, c < 4 * m → cp_av pr f c → cp_Rc m fr to (cp_src fr to c) → e (cp_src fr to c) + cp_ln sl fa c ≤ e (cp_dst fr to c))
    (h5 : e 5 ≤ T) (hT : F * e 5 = F * T) : op_O m fr to sl fa pr T (fl_len m sl fa f - F * T) := by
  obtain ⟨x, x1, x2, x3⟩ := op_strong I H e0 he h5 hT
  refine Or.inr ⟨?_, ⟨x, x1, x2, x3⟩, fun y y1 y2 => op_weak I H y1 y2⟩
  rw [← x3]
  exact (op_cle I x1).1
/-- between two labellings -/
theorem op_mid (I : cp_Inst m fr to sl fa pr) (H : fl_I m fr to pr f F) {U L : Nat → Int} {V W : Nat → Nat}
    (B : lb_F (4 * m) (cp_src fr to) (cp_dst fr to) (cp_ln sl fa) (cp_av pr f) (cp_Rc m fr to) U V)
    (B' : lb_F (4 * m) (cp_src fr to) (cp_dst fr to) (cp_ln sl fa) (cp_av pr f) (cp_Rc m fr to) L W)
    {T : Int} (h1 : L 5 ≤ T) (h2 : T ≤ U 5) : op_O m fr to sl fa pr T (fl_len m sl fa f - F * T) := by
  refine op_both I H (e := fun v => if U v ≤ L v + (T - L 5) then U v else L v + (T - L 5)) ?_ ?_ ?_ ?_
  · show (if U 0 ≤ L 0 + (T - L 5) then U 0 else L 0 + (T - L 5)) = 0
    rw [B.1, B'.1, if_pos (by omega)]
  · intro c hc ha hr
    have b := B.2.2 c hc ha hr
    have b' := B'.2.2 c hc ha hr
    show (if U (cp_src fr to c) ≤ L (cp_src fr to c) + (T - L 5) then U (cp_src fr to c) else L (cp_src fr to c) + (T - L 5)) + cp_ln sl fa c ≤ (if U (cp_dst fr to c) ≤ L (cp_dst fr to c) + (T - L 5) then U (cp_dst fr to c) else L (cp_dst fr to c) + (T - L 5))
    split <;> split <;> (rcases b with b | b <;> rcases b' with b' | b' <;> omega)
  · show (if U 5 ≤ L 5 + (T - L 5) then U 5 else L 5 + (T - L 5)) ≤ T
    split <;> omega
  · show F * (if U 5 ≤ L 5 + (T - L 5) then U 5 else L 5 + (T - L 5)) = F * T
    congr 1
    split <;> omega
end
end
section
/-! one sending more: what holds of the ways so far -/
section
variable {m : Nat} {fr to : Nat → Nat} {sl fa pr : Nat → Int}
variable {f : Nat → Int} {wl wa wl' wa' : Nat → Int} {n : Nat} {F : Int} {U L : Nat → Int} {V T Q : Nat → Nat} {R : Nat → Prop} {hs : List (List Nat)} {A : Nat → Prop} {p : List Nat}
/-- the cost that the ways say -/
def sa_c (wl wa : Nat → Int) (t : Int) (n : Nat) : Int := sp_S (fun k => if wl k ≤ t then 0 else wa k * (wl k - t)) n
def sa_J (m : Nat) (fr to : Nat → Nat) (sl fa pr : Nat → Int) (f wl wa : Nat → Int) (n : Nat) (F : Int) (U : Nat → Int) (V : Nat → Nat) (hs : List (List Nat)) (A : Nat → Prop) : Prop :=
  (fl_I m fr to pr f F ∧ F = sp_S wa n ∧ fl_len m sl fa f = sp_S (fun k => wa k * wl k) n) ∧
  (lb_F (4 * m) (cp_src fr to) (cp_dst fr to) (cp_ln sl fa) (cp_av pr f) (cp_Rc m fr to) U V ∧ ∀ v, cp_Rc m fr to v → U v ≤ 50) ∧
  (hs.length = n ∧ hs.Nodup ∧ ∀ p, p ∈ hs → p ∈ pl_l fr to 5 (List.range m) 5 ∧ rp_E (4 * m) (cp_src fr to) (cp_dst fr to) (cp_ln sl fa) (cp_av pr f) (cp_Rc m fr to) U V p) ∧
  vi_I m fr to sl fa U V f A ∧
  (∀ k, k < n → U 5 ≤ wl k ∧ wl k ≤ 50 ∧ 1 ≤ wa k ∧ wa k < 1000000) ∧
  (∀ t, U 5 ≤ t → op_O m fr to sl fa pr t (sa_c wl wa t n)) ∧
  (0 < n → cp_Rc m fr to 5 ∧ ∀ t, wl 0 ≤ t ↔ op_Fit m fr to sl t)
def sa_I (m : Nat) (fr to : Nat → Nat) (sl fa pr : Nat → Int) (f wl wa : Nat → Int) (n : Nat) : Prop :=
  ∃ F U V hs A, sa_J m fr to sl fa pr f wl wa n F U V hs A
theorem sa_n (I : cp_Inst m fr to sl fa pr) (h : sa_I m fr to sl fa pr f wl wa n) : n ≤ 128 := by
  obtain ⟨F, U, V, hs, A, _, _, ⟨h1, h2, h3⟩, _⟩ := h
  rw [← h1]
  exact pl_128 I hs h2 (fun p hp => (h3 p hp).1)
/-- an upper bound of the lengths -/
theorem sa_ub (D : bf_D (4 * m) (cp_src fr to) (cp_dst fr to) (cp_ln sl fa) (cp_av pr f) (cp_Rc m fr to) L R Q T) {e : Nat → Int} (e0 : e 0 = 0)
    (he : ∀ c, c < 4 * m → cp_av pr f c → cp_Rc m fr to (cp_src fr to c) → e (cp_src fr to c) + cp_ln sl fa c ≤ e (cp_dst fr to c)) {v : Nat} (hv : R v) : L v ≤ e v := by
  have F : lb_F (4 * m) (cp_src fr to) (cp_dst fr to) (cp_ln sl fa) (cp_av pr f) (cp_Rc m fr to) e (fun _ => 0) := by
    refine ⟨e0, rfl, fun c h1 h2 h3 => ?_⟩
    have := he c h1 h2 h3
    by_cases z : e (cp_src fr to c) + cp_ln sl fa c = e (cp_dst fr to c)
    · exact Or.inr ⟨z, fun _ _ _ => Nat.zero_le _⟩
    · exact Or.inl (by omega)
  have := lb_mono' F D hv
  unfold lb_le at this
  rcases this with h | h <;> omega
/-- the forward codes of a job -/
theorem sa_fw (j : Nat) (hj : j < m) {e : Nat → Int} (B : lb_F (4 * m) (cp_src fr to) (cp_dst fr to) (cp_ln sl fa) (cp_av pr f) (cp_Rc m fr to) e V) (hr : cp_Rc m fr to (fr j)) :
    (¬ pr j - f (2 * j) = 0 → e (fr j) + sl j ≤ e (to j)) ∧ e (fr j) + fa j ≤ e (to j) := by
  constructor
  · intro ha
    have := B.2.2 (4 * j) (by omega) (by unfold cp_av cp_room; rw [if_neg (by omega), if_pos (by omega), show 4 * j / 4 = j by omega, show 4 * j / 2 = 2 * j by omega]; exact ha)
    unfold cp_src cp_dst cp_ln at this
    rw [if_neg (by omega), if_neg (by omega), if_neg (by omega), show 4 * j / 4 = j by omega, show 4 * j / 2 = 2 * j by omega, op_bl0] at this
    rcases this hr with h | h <;> omega
  · have := B.2.2 (4 * j + 2) (by omega) (by unfold cp_av cp_room; rw [if_neg (by omega), if_neg (by omega)]; omega)
    unfold cp_src cp_dst cp_ln at this
    rw [if_neg (by omega), if_neg (by omega), if_neg (by omega), show (4 * j + 2) / 4 = j by omega, show (4 * j + 2) / 2 = 2 * j + 1 by omega, op_bl1] at this
    rcases this hr with h | h <;> omega
/-- the first way is the slow time's -/
theorem sa_slow (I : cp_Inst m fr to sl fa pr) (h0 : ∀ l, l < 2 * m → f l = 0) (B : lb_F (4 * m) (cp_src fr to) (cp_dst fr to) (cp_ln sl fa) (cp_av pr f) (cp_Rc m fr to) L T)
    (D : bf_D (4 * m) (cp_src fr to) (cp_dst fr to) (cp_ln sl fa) (cp_av pr f) (cp_Rc m fr to) L R Q T) (h5 : R 5) (t : Int) : L 5 ≤ t ↔ op_Fit m fr to sl t := by
  constructor
  · intro h
    refine ⟨L, B.1, fun j hj hr => (sa_fw j hj B hr).1 ?_, h⟩
    rw [h0 (2 * j) (by omega)]
    have := I.2 j hj
    omega
  · rintro ⟨e, e0, e1, e2⟩
    have := sa_ub D e0 (fun c hc ha hr => ?_) h5
    · omega
    · have hb : ¬ c % 2 = 1 := by
        intro z
        unfold cp_av cp_room at ha
        rw [if_pos z, h0 (c / 2) (by omega)] at ha
        exact ha rfl
      unfold cp_src at hr
      unfold cp_src cp_dst cp_ln cp_bl
      rw [if_neg hb] at hr
      rw [if_neg hb, if_neg hb, if_neg hb, show c / 2 / 2 = c / 4 by omega]
      have a := e1 (c / 4) (by omega) hr
      have i := I.2 (c / 4) (by omega)
      split <;> omega
/-- the last way is the fast time's -/
theorem sa_fast (I : cp_Inst m fr to sl fa pr) (B : lb_F (4 * m) (cp_src fr to) (cp_dst fr to) (cp_ln sl fa) (cp_av pr f) (cp_Rc m fr to) L T)
    (lab : rp_L (4 * m) (cp_src fr to) (cp_dst fr to) (cp_ln sl fa) (cp_Rc m fr to) L T 5 p) (hp : ∀ c, c ∈ p → c % 4 = 2) (t : Int) : L 5 ≤ t ↔ op_Fit m fr to fa t := by
  constructor
  · intro h
    exact ⟨L, B.1, fun j hj hr => (sa_fw j hj B hr).2, h⟩
  · rintro ⟨e, e0, e1, e2⟩
    have key : ∀ p v, rp_L (4 * m) (cp_src fr to) (cp_dst fr to) (cp_ln sl fa) (cp_Rc m fr to) L T v p → (∀ c, c ∈ p → c % 4 = 2) → L v ≤ e v := by
      intro p
      induction p with
      | nil => intro v h _; rw [h.1, h.2.1, e0]; exact Int.le_refl _
      | cons c p ih =>
        intro v h hc
        obtain ⟨a0, a1, a1', a1'', a2, a3, a4, a5, a6⟩ := h
        have b := ih _ a6 (fun c' h => hc c' (List.mem_cons_of_mem _ h))
        have c2 := hc c List.mem_cons_self
        have es : cp_src fr to c = fr (c / 4) := by unfold cp_src; rw [if_neg (by omega)]
        have ed : cp_dst fr to c = to (c / 4) := by unfold cp_dst; rw [if_neg (by omega)]
        have el : cp_ln sl fa c = fa (c / 4) := by unfold cp_ln cp_bl; rw [if_neg (by omega), if_neg (by omega), show c / 2 / 2 = c / 4 by omega]
        rw [es] at b a1'' a2
        rw [ed] at a1
        rw [el] at a2
        have := e1 (c / 4) (by omega) a1''
        rw [a1] at this
        omega
    have := key p 5 lab hp
    omega
theorem sa_cn {t : Int} (h : ∀ k, k < n → wl' k = wl k ∧ wa' k = wa k) : sa_c wl' wa' t n = sa_c wl wa t n :=
  sp_congr n (fun k hk => by show (if wl' k ≤ t then 0 else wa' k * (wl' k - t)) = _; rw [(h k hk).1, (h k hk).2])
/-- below all ways -/
theorem sa_cb {t : Int} (h : ∀ k, k < n → t < wl k) : sa_c wl wa t n = sp_S (fun k => wa k * wl k) n - sp_S wa n * t := by
  rw [← sp_mulc, ← sp_sub]
  refine sp_congr n (fun k hk => ?_)
  show (if wl k ≤ t then 0 else wa k * (wl k - t)) = _
  rw [if_neg (by have := h k hk; omega), Int.mul_sub]
/-- the answers for deadlines from the new way's length on -/
theorem sa_opt (I : cp_Inst m fr to sl fa pr) (J : sa_J m fr to sl fa pr f wl wa n F U V hs A)
    (B : lb_F (4 * m) (cp_src fr to) (cp_dst fr to) (cp_ln sl fa) (cp_av pr f) (cp_Rc m fr to) L T) {t : Int} (h : L 5 ≤ t) : op_O m fr to sl fa pr t (sa_c wl wa t n) := by
  obtain ⟨⟨j1, j2, j3⟩, ⟨j4, j5⟩, j6, j7, j8, j9, j10⟩ := J
  by_cases z : U 5 ≤ t
  · exact j9 t z
  · rw [sa_cb (fun k hk => by have := (j8 k hk).1; omega), ← j2, ← j3]
    exact op_mid I j1 j4 B h (by omega)
theorem sa_room (I : cp_Inst m fr to sl fa pr) (J : sa_J m fr to sl fa pr f wl wa n F U V hs A) {c : Nat} (hc : c < 4 * m) : (c % 4 = 2 ∧ cp_room pr f c = 1000000) ∨ (c % 4 ≠ 2 ∧ cp_room pr f c < 1000000) := by
  obtain ⟨⟨j1, j2, j3⟩, ⟨j4, j5⟩, j6, j7, j8, j9, j10⟩ := J
  have hF := (vi_F I j1 j7).2
  by_cases z : c % 4 = 2
  · left
    refine ⟨z, ?_⟩
    unfold cp_room; rw [if_neg (by omega), if_neg (by omega)]
  · right
    refine ⟨z, ?_⟩
    unfold cp_room
    have a := fl_le I j1 (l := c / 2) (by omega)
    have b := j1.2.1 (c / 2) (by omega)
    have i := I.2 (c / 4) (by omega)
    split
    · omega
    · rw [if_pos (by omega)]; omega
/-- the amount -/
theorem sa_w (I : cp_Inst m fr to sl fa pr) (J : sa_J m fr to sl fa pr f wl wa n F U V hs A) (D : bf_D (4 * m) (cp_src fr to) (cp_dst fr to) (cp_ln sl fa) (cp_av pr f) (cp_Rc m fr to) L R Q T) (h5 : R 5) (hC : rp_C (cp_src fr to) Q 5 p) :
    1 ≤ rp_w (cp_room pr f) 1000000 p ∧ rp_w (cp_room pr f) 1000000 p ≤ 1000000 := by
  refine ⟨rp_wpos (by omega) (fun c hc => ?_), (rp_wle _ p _).1⟩
  obtain ⟨q1, q2, _⟩ := rp_mem D p 5 h5 hC c hc
  have := fl_room J.1.1 q1
  unfold cp_av at q2
  omega
/-- a finite way more -/
theorem sa_step (I : cp_Inst m fr to sl fa pr) (J : sa_J m fr to sl fa pr f wl wa n F U V hs A) (D : bf_D (4 * m) (cp_src fr to) (cp_dst fr to) (cp_ln sl fa) (cp_av pr f) (cp_Rc m fr to) L R Q T) (h5 : R 5) (hC : rp_C (cp_src fr to) Q 5 p)
    {w : Int} (hw : w = rp_w (cp_room pr f) 1000000 p) (hlt : w < 1000000) (h1 : ∀ k, k < n → wl' k = wl k ∧ wa' k = wa k) (h2 : wl' n = L 5) (h3 : wa' n = w) :
    sa_I m fr to sl fa pr (rp_f w f p) wl' wa' (n + 1) := by
  have hR := fl_R I D
  have hR' : ∀ v, cp_Rc m fr to v → R v := fun v h => (hR v h).1
  obtain ⟨w1, w2⟩ := sa_w I J D h5 hC
  rw [← hw] at w1 w2
  have wr : ∀ c, c ∈ p → w ≤ cp_room pr f c := by rw [hw]; exact (rp_wle _ p _).2
  have rm := fun c (hc : c ∈ p) => sa_room I J (rp_mem D p 5 h5 hC c hc).1
  have lab := rp_lab D p 5 h5 hC
  have J0 := J
  obtain ⟨⟨j1, j2, j3⟩, ⟨j4, j5⟩, ⟨j6, j6', j6''⟩, j7, j8, j9, j10⟩ := J
  have B := lb_own hR' j4 D
  have N := fl_N (a := w) D h5 hC
  have B' := lb_next N B D
  have mo : ∀ v, R v → L v ≤ U v := fun v hv => by
    have := lb_mono' j4 D hv
    unfold lb_le at this
    rcases this with h | h <;> omega
  have rc5 : cp_Rc m fr to 5 := (D.2.1 5 h5).1
  obtain ⟨k1, k2⟩ := fl_next I j1 D h5 hC (by omega) wr
  have n5 : ¬ vi_A (cp_src fr to) R Q 5 := by
    intro z
    have zz := vi_path' D p 5 h5 hC z
    have : 1000000 ≤ rp_w (cp_room pr f) 1000000 p := rp_wpos (Int.le_refl _) (fun c hc => by
      rcases rm c hc with y | y
      · omega
      · exact absurd (zz c hc) y.1)
    omega
  refine ⟨F + w, L, T, p :: hs, vi_A (cp_src fr to) R Q, ⟨k1, ?_, ?_⟩, ⟨B', fun v hv => ?_⟩, ⟨?_, ?_, ?_⟩, vi_next I j1 j4 D j7 h5 hC (by omega) n5, ?_, ?_, ?_⟩
  · rw [sp_S, h3, j2, sp_congr n (fun k hk => (h1 k hk).2)]
  · rw [k2, j3, sp_S, h2, h3]
    congr 1
    exact (sp_congr n (fun k hk => by rw [(h1 k hk).1, (h1 k hk).2]))
  · have := mo v (hR' v hv)
    have := j5 v hv
    omega
  · rw [List.length_cons, j6]
  · exact List.nodup_cons.mpr ⟨fun hm => rp_fresh hR' j4 D h5 hC (j6'' p hm).2, j6'⟩
  · intro q hq
    rcases List.mem_cons.mp hq with e | e
    · subst e
      refine ⟨pl_in I ?_ lab, rp_Enew D h5 hC ?_⟩
      · have a := rp_len (fun v h => cp_Rc6 I h) D q 5 h5 hC
        have b := rp_r5 (T := T) (v := 5) (by omega)
        omega
      · rcases rp_wat (cp_room pr f) q 1000000 with y | ⟨c, y1, y2⟩
        · omega
        · exact ⟨c, y1, fl_crit D h5 hC hlt y1 (by omega)⟩
    · exact ⟨(j6'' q e).1, rp_Enext hR' N j4 D (j6'' q e).2⟩
  · intro k hk
    have m5 := mo 5 h5
    have u5 := j5 5 rc5
    by_cases e : k = n
    · subst e
      rw [h2, h3]; omega
    · obtain ⟨a, b⟩ := h1 k (by omega)
      have := j8 k (by omega)
      rw [a, b]; omega
  · intro t ht
    have : sa_c wl' wa' t (n + 1) = sa_c wl wa t n := by
      rw [← sa_cn h1]
      show sa_c wl' wa' t n + (if wl' n ≤ t then 0 else wa' n * (wl' n - t)) = _
      rw [h2, if_pos ht]; omega
    rw [this]
    exact sa_opt I J0 B ht
  · intro _
    refine ⟨rc5, fun t => ?_⟩
    by_cases e : n = 0
    · subst e
      rw [h2]
      refine sa_slow I (fun l hl => ?_) B D h5 t
      have a := fl_le I j1 hl
      have b := j1.2.1 l hl
      rw [j2, sp_S] at a
      omega
    · rw [(h1 0 (by omega)).1]
      exact (j10 (by omega)).2 t
/-- what the whole leaves -/
def sa_G (m : Nat) (fr to : Nat → Nat) (sl fa pr : Nat → Int) (wl wa : Nat → Int) (n : Nat) : Prop :=
  (n = 0 ∧ ¬ cp_Rc m fr to 5) ∨
  ∃ k, n = k + 1 ∧ k ≤ 128 ∧ (∀ i, i ≤ k → 0 ≤ wl i ∧ wl i ≤ 50 ∧ wl k ≤ wl i) ∧ (∀ i, i < k → 1 ≤ wa i ∧ wa i < 1000000) ∧ wa k = 1000000 ∧ sp_S wa k ≤ 392140 ∧
    (∀ t, wl 0 ≤ t ↔ op_Fit m fr to sl t) ∧ (∀ t, wl k ≤ t ↔ op_Fit m fr to fa t) ∧ ∀ t, wl k ≤ t → op_O m fr to sl fa pr t (sa_c wl wa t k)
theorem sa_none (J : sa_J m fr to sl fa pr f wl wa n F U V hs A) (D : bf_D (4 * m) (cp_src fr to) (cp_dst fr to) (cp_ln sl fa) (cp_av pr f) (cp_Rc m fr to) L R Q T) (I : cp_Inst m fr to sl fa pr) (h5 : ¬ R 5) : sa_G m fr to sl fa pr wl wa n := by
  have hR := fl_R I D
  have h : ¬ cp_Rc m fr to 5 := fun z => h5 (hR 5 z).1
  obtain ⟨_, _, _, _, _, _, j10⟩ := J
  by_cases e : n = 0
  · exact Or.inl ⟨e, h⟩
  · exact absurd (j10 (by omega)).1 h
theorem sa_fin (I : cp_Inst m fr to sl fa pr) (J : sa_J m fr to sl fa pr f wl wa n F U V hs A) (D : bf_D (4 * m) (cp_src fr to) (cp_dst fr to) (cp_ln sl fa) (cp_av pr f) (cp_Rc m fr to) L R Q T) (h5 : R 5) (hC : rp_C (cp_src fr to) Q 5 p)
    {w : Int} (hw : w = rp_w (cp_room pr f) 1000000 p) (hlt : ¬ w < 1000000) (h1 : ∀ k, k < n → wl' k = wl k ∧ wa' k = wa k) (h2 : wl' n = L 5) (h3 : wa' n = w) :
    sa_G m fr to sl fa pr wl' wa' (n + 1) := by
  have hR := fl_R I D
  have hR' : ∀ v, cp_Rc m fr to v → R v := fun v h => (hR v h).1
  obtain ⟨w1, w2⟩ := sa_w I J D h5 hC
  rw [← hw] at w1 w2
  have wr : ∀ c, c ∈ p → w ≤ cp_room pr f c := by rw [hw]; exact (rp_wle _ p _).2
  have rm := fun c (hc : c ∈ p) => sa_room I J (rp_mem D p 5 h5 hC c hc).1
  have lab := rp_lab D p 5 h5 hC
  have hn := sa_n I ⟨_, _, _, _, _, J⟩
  have J0 := J
  obtain ⟨⟨j1, j2, j3⟩, ⟨j4, j5⟩, ⟨j6, j6', j6''⟩, j7, j8, j9, j10⟩ := J
  have B := lb_own hR' j4 D
  have mo : L 5 ≤ U 5 := by
    have := lb_mono' j4 D h5
    unfold lb_le at this
    rcases this with h | h <;> omega
  have rc5 : cp_Rc m fr to 5 := (D.2.1 5 h5).1
  have u5 := j5 5 rc5
  have l5 := (hR 5 rc5).2
  have all2 : ∀ c, c ∈ p → c % 4 = 2 := by
    intro c hc
    have := wr c hc
    rcases rm c hc with y | y
    · exact y.1
    · omega
  refine Or.inr ⟨n, rfl, hn, fun i hi => ?_, fun i hi => ?_, by rw [h3]; omega, ?_, fun t => ?_, fun t => ?_, fun t ht => ?_⟩
  · by_cases e : i = n
    · subst e
      rw [h2]; omega
    · have := j8 i (by omega)
      rw [h2, (h1 i (by omega)).1]; omega
  · have := j8 i hi
    rw [(h1 i hi).2]; omega
  · rw [sp_congr n (fun k hk => (h1 k hk).2), ← j2]
    exact (vi_F I j1 j7).2
  · by_cases e : n = 0
    · subst e
      rw [h2]
      refine sa_slow I (fun l hl => ?_) B D h5 t
      have a := fl_le I j1 hl
      have b := j1.2.1 l hl
      rw [j2, sp_S] at a
      omega
    · rw [(h1 0 (by omega)).1]
      exact (j10 (by omega)).2 t
  · rw [h2]
    exact sa_fast I B lab all2 t
  · rw [sa_cn h1]
    rw [h2] at ht
    exact sa_opt I J0 B ht
/-- the beginning -/
theorem sa_0 (I : cp_Inst m fr to sl fa pr) (h : ∀ l, l < 2 * m → f l = 0) : sa_I m fr to sl fa pr f wl wa 0 := by
  obtain ⟨f1, f2⟩ := fl_0 I h
  have B : lb_F (4 * m) (cp_src fr to) (cp_dst fr to) (cp_ln sl fa) (cp_av pr f) (cp_Rc m fr to) (fun v => 10 * (v : Int)) (fun _ => 0) := by
    refine ⟨rfl, rfl, fun c hc ha hr => Or.inl ?_⟩
    have hb : ¬ c % 2 = 1 := by
      intro z
      unfold cp_av cp_room at ha
      rw [if_pos z, h (c / 2) (by omega)] at ha
      exact ha rfl
    have i := I.2 (c / 4) (by omega)
    unfold cp_src cp_dst cp_ln cp_bl
    rw [if_neg hb, if_neg hb, if_neg hb, show c / 2 / 2 = c / 4 by omega]
    dsimp only
    split <;> omega
  refine ⟨0, fun v => 10 * (v : Int), fun _ => 0, [], fun v => v = 0, ⟨f1, rfl, f2⟩, ⟨B, fun v hv => ?_⟩, ⟨rfl, List.nodup_nil, fun p hp => by cases hp⟩, ⟨rfl, by decide, fun x hx h0 => absurd hx h0, fun j hj _ _ => ?_⟩, fun k hk => absurd hk (by omega), fun t ht => ?_, fun z => absurd z (by omega)⟩
  · have := cp_Rc6 I hv
    show 10 * (v : Int) ≤ 50
    omega
  · rw [h _ (by omega)]; exact vi_H0 _
  · have := op_both I f1 (e := fun v => 10 * (v : Int)) (T := t) rfl (fun c hc ha hr => by have y := B.2.2 c hc ha hr; dsimp only at y ⊢; rcases y with z | z <;> omega) ht (by rw [Int.zero_mul, Int.zero_mul])
    rw [f2, Int.zero_mul] at this
    exact this
end
end
section
/-! X: one look at a line -/
/-- an int array's content as naturals, as integers -/
def xs_n (a : Nat → Int32) (j : Nat) : Nat := (a j).toNatClampNeg
def xs_i (a : Nat → Int32) (j : Nat) : Int := (a j).toInt
def xs_O (m : Nat) (af at' as aF ap : Nat → Int32) : Prop :=
  cp_Inst m (xs_n af) (xs_n at') (xs_i as) (xs_i aF) (xs_i ap) ∧ ∀ j, j < m → af j = nI (xs_n af j) ∧ at' j = nI (xs_n at' j)
theorem xs_add {x y : Int32} (h1 : -2147483648 ≤ x.toInt + y.toInt) (h2 : x.toInt + y.toInt < 2147483648) : (x + y).toInt = x.toInt + y.toInt := by
  rw [Int32.toInt_add]; exact Int.bmod_eq_of_le (by omega) (by omega)
theorem xs_sub {x y : Int32} (h1 : -2147483648 ≤ x.toInt - y.toInt) (h2 : x.toInt - y.toInt < 2147483648) : (x - y).toInt = x.toInt - y.toInt := by
  rw [Int32.toInt_sub]; exact Int.bmod_eq_of_le (by omega) (by omega)
theorem xs_mul {x y : Int32} (h1 : -2147483648 ≤ x.toInt * y.toInt) (h2 : x.toInt * y.toInt < 2147483648) : (x * y).toInt = x.toInt * y.toInt := by
  rw [Int32.toInt_mul]; exact Int.bmod_eq_of_le (by omega) (by omega)
theorem xs_neg {x : Int32} (h1 : -2147483648 < x.toInt) : (-x).toInt = - x.toInt := by
  have := x.toInt_lt
  rw [Int32.toInt_neg]; exact Int.bmod_eq_of_le (by omega) (by omega)
theorem xs_eq0 {x : Int32} : x = 0 ↔ x.toInt = 0 := ⟨fun h => by rw [h]; rfl, fun h => Int32.toInt_inj.mp (by rw [h]; rfl)⟩
theorem xs_lt {x y : Int32} : x < y ↔ x.toInt < y.toInt := Int32.lt_iff_toInt_lt
theorem xs_le {x y : Int32} : x ≤ y ↔ x.toInt ≤ y.toInt := Int32.le_iff_toInt_le
theorem xs_half {l : Nat} (h : l < 100) : nI l / 2 = nI (l / 2) := pk_div (a := l) (d := 2) (by omega) (by omega) (by omega)
theorem xs_par {l : Nat} (h : l < 100) : (nI l &&& 1) = 0 ↔ l % 2 = 0 := by
  rw [pk_andN (n := l) (m := 1) (by omega) 1 (by decide)]
  have := nI_eq (a := l % 2 ^ 1) (b := 0) (by omega) (by omega)
  rw [nI_0] at this
  rw [this]
section
variable {f_jobs f_known f_ways : Int32} {a_from a_to a_slow a_fast a_price a_flow a_longest a_reached a_lastLine a_wayLength a_wayAmount : Nat → Int32}
variable {m : Nat}
/-- the length of a line -/
theorem x_len {post : Int32 → Prop} {l : Nat} (hl : l < 14) (h : ∀ r : Int32, r.toInt = cp_bl (xs_i a_slow) (xs_i a_fast) l → post r) : wpX_lengthOf post (f_jobs, f_known, f_ways, a_from, a_to, a_slow, a_fast, a_price, a_flow, a_longest, a_reached, a_lastLine, a_wayLength, a_wayAmount) (nI l) := by
  unfold wpX_lengthOf
  dsimp only
  rw [xs_half (by omega), nI_clamp (n := l / 2) (by omega)]
  refine ⟨fun z => ⟨by decide, vp_in_nI (by omega) (by omega), h _ ?_⟩, fun z => ⟨by decide, vp_in_nI (by omega) (by omega), h _ ?_⟩⟩
  · rw [xs_par (by omega)] at z
    unfold cp_bl; rw [if_pos z]; rfl
  · rw [xs_par (by omega)] at z
    unfold cp_bl; rw [if_neg z]; rfl
/-- the room on a line -/
theorem x_room {post : Int32 → Prop} {l b : Nat} (hl : l < 14) (hb : b < 2) (hf : 0 ≤ xs_i a_flow l ∧ xs_i a_flow l ≤ 1000000000) (hp : 0 ≤ xs_i a_price (l / 2) ∧ xs_i a_price (l / 2) ≤ 20)
    (h : ∀ r : Int32, r.toInt = cp_room (xs_i a_price) (xs_i a_flow) (2 * l + b) → post r) : wpX_roomOf post (f_jobs, f_known, f_ways, a_from, a_to, a_slow, a_fast, a_price, a_flow, a_longest, a_reached, a_lastLine, a_wayLength, a_wayAmount) (nI l) (nI b) := by
  unfold wpX_roomOf
  dsimp only
  rw [xs_half (by omega), nI_clamp (n := l / 2) (by omega), nI_clamp (n := l) (by omega)]
  have hb0 : nI b = 0 ↔ b = 0 := nI_eq (b := 0) (by omega) (by omega)
  refine ⟨fun z => ?_, fun z => ⟨vp_in_nI (by omega) (by omega), h _ ?_⟩⟩
  · rw [hb0] at z
    refine ⟨fun y => ⟨by decide, vp_in_nI (by omega) (by omega), vp_in_nI (by omega) (by omega), h _ ?_⟩, fun y => h _ ?_⟩
    · rw [xs_par (by omega)] at y
      have e : (a_price (l / 2) - a_flow l).toInt = xs_i a_price (l / 2) - xs_i a_flow l := xs_sub (by unfold xs_i at hf hp; omega) (by unfold xs_i at hf hp; omega)
      rw [e]
      unfold cp_room
      rw [if_neg (by omega), if_pos (by omega), show (2 * l + b) / 4 = l / 2 by omega, show (2 * l + b) / 2 = l by omega]
    · rw [xs_par (by omega)] at y
      unfold cp_room
      rw [if_neg (by omega), if_neg (by omega)]
      decide
  · rw [hb0] at z
    unfold cp_room
    rw [if_pos (by omega), show (2 * l + b) / 2 = l by omega]
    rfl
/-- the number that is kept for a code -/
def xs_ll (c : Nat) : Int32 := nI (c / 2 + 28 * (c % 2))
/-- one look: nothing, or the event dst c is set -/
theorem x_stretch {post : Int32 → SX → Prop} {l b : Nat} (O : xs_O m a_from a_to a_slow a_fast a_price) (hl : l < 2 * m) (hb : b < 2)
    (hf : 0 ≤ xs_i a_flow l ∧ xs_i a_flow l ≤ 1000000000)
    (hL : ∀ v, v < 6 → ¬ a_reached v = 0 → -45 ≤ xs_i a_longest v ∧ xs_i a_longest v ≤ 50)
    (h0 : (cp_av (xs_i a_price) (xs_i a_flow) (2 * l + b) → ¬ a_reached (cp_src (xs_n a_from) (xs_n a_to) (2 * l + b)) = 0 → cp_dst (xs_n a_from) (xs_n a_to) (2 * l + b) ≠ 0 → ¬ a_reached (cp_dst (xs_n a_from) (xs_n a_to) (2 * l + b)) = 0 ∧ xs_i a_longest (cp_src (xs_n a_from) (xs_n a_to) (2 * l + b)) + cp_ln (xs_i a_slow) (xs_i a_fast) (2 * l + b) ≤ xs_i a_longest (cp_dst (xs_n a_from) (xs_n a_to) (2 * l + b))) → post 0 (f_jobs, f_known, f_ways, a_from, a_to, a_slow, a_fast, a_price, a_flow, a_longest, a_reached, a_lastLine, a_wayLength, a_wayAmount))
    (h1 : cp_av (xs_i a_price) (xs_i a_flow) (2 * l + b) → ¬ a_reached (cp_src (xs_n a_from) (xs_n a_to) (2 * l + b)) = 0 → cp_dst (xs_n a_from) (xs_n a_to) (2 * l + b) ≠ 0 → (¬ a_reached (cp_dst (xs_n a_from) (xs_n a_to) (2 * l + b)) = 0 → xs_i a_longest (cp_dst (xs_n a_from) (xs_n a_to) (2 * l + b)) < xs_i a_longest (cp_src (xs_n a_from) (xs_n a_to) (2 * l + b)) + cp_ln (xs_i a_slow) (xs_i a_fast) (2 * l + b)) →
      ∀ x : Int32, x.toInt = xs_i a_longest (cp_src (xs_n a_from) (xs_n a_to) (2 * l + b)) + cp_ln (xs_i a_slow) (xs_i a_fast) (2 * l + b) →
      post 1 (f_jobs, f_known, f_ways, a_from, a_to, a_slow, a_fast, a_price, a_flow, upd a_longest (cp_dst (xs_n a_from) (xs_n a_to) (2 * l + b)) x, upd a_reached (cp_dst (xs_n a_from) (xs_n a_to) (2 * l + b)) 1, upd a_lastLine (cp_dst (xs_n a_from) (xs_n a_to) (2 * l + b)) (xs_ll (2 * l + b)), a_wayLength, a_wayAmount)) :
    wpX_stretch post (f_jobs, f_known, f_ways, a_from, a_to, a_slow, a_fast, a_price, a_flow, a_longest, a_reached, a_lastLine, a_wayLength, a_wayAmount) (nI l) (nI b) := by
  obtain ⟨I, hn⟩ := O
  have m7 := I.1
  obtain ⟨n1, n2⟩ := hn (l / 2) (by omega)
  obtain ⟨i1, i2, i3, i4, i5, i6, i7, i8⟩ := I.2 (l / 2) (by omega)
  have hp : 0 ≤ xs_i a_price (l / 2) ∧ xs_i a_price (l / 2) ≤ 20 := ⟨by omega, i8⟩
  have hb0 : nI b = 0 ↔ b = 0 := nI_eq (b := 0) (by omega) (by omega)
  have hnar : vp_nar .boolean 1 = 1 := by rfl
  have blb : 0 ≤ cp_bl (xs_i a_slow) (xs_i a_fast) l ∧ cp_bl (xs_i a_slow) (xs_i a_fast) l ≤ 9 := by
    unfold cp_bl; split <;> omega
  -- from both ends on: u to w, with the signed length z
  have main : ∀ (u w : Nat) (z : Int32), u < 6 → w < 6 → cp_src (xs_n a_from) (xs_n a_to) (2 * l + b) = u → cp_dst (xs_n a_from) (xs_n a_to) (2 * l + b) = w → z.toInt = cp_ln (xs_i a_slow) (xs_i a_fast) (2 * l + b) →
      wX_stretch_73 post (nI l) (nI b) (nI u) (nI w) z (a_longest u) f_jobs f_known f_ways a_from a_to a_slow a_fast a_price a_flow a_longest a_reached a_lastLine a_wayLength a_wayAmount := by
    intro u w z hu hw eu ew ez
    rw [eu, ew, ← ez] at h0 h1
    have zb : -9 ≤ z.toInt ∧ z.toInt ≤ 9 := by
      rw [ez]; unfold cp_ln
      rw [show (2 * l + b) / 2 = l by omega]
      split <;> omega
    unfold wX_stretch_73
    rw [nI_clamp (n := u) (by omega), nI_clamp (n := w) (by omega)]
    intro x5 e5
    have hx : ¬ a_reached u = 0 → x5.toInt = xs_i a_longest u + z.toInt := by
      intro r
      have := hL u hu r
      rw [e5]
      exact xs_add (by unfold xs_i at this; omega) (by unfold xs_i at this; omega)
    have set : cp_av (xs_i a_price) (xs_i a_flow) (2 * l + b) → ¬ a_reached u = 0 → w ≠ 0 → (¬ a_reached w = 0 → xs_i a_longest w < xs_i a_longest u + z.toInt) → wX_stretch_123 post (nI l) (nI b) (nI w) x5 f_jobs f_known f_ways a_from a_to a_slow a_fast a_price a_flow a_longest a_reached a_lastLine a_wayLength a_wayAmount := by
      intro s1 s2 s3 s4
      have H := h1 s1 s2 s3 s4 x5 (hx s2)
      unfold wX_stretch_123
      rw [nI_clamp (n := w) (by omega), hnar]
      refine ⟨vp_in_nI hw (by omega), nm_e ⟨vp_in_nI hw (by omega), nm_e ⟨fun y => ⟨vp_in_nI hw (by omega), nm_e ?_⟩, fun y => ⟨vp_in_nI hw (by omega), nm_e ?_⟩⟩⟩⟩
      · rw [hb0] at y
        have e : xs_ll (2 * l + b) = nI l := by unfold xs_ll; congr 1; omega
        rw [e] at H
        exact H
      · rw [hb0] at y
        have e : xs_ll (2 * l + b) = nI l + 28 := by
          unfold xs_ll
          rw [show (2 * l + b) / 2 + 28 * ((2 * l + b) % 2) = l + 28 by omega, ← nI_add]; rfl
        rw [e] at H
        exact H
    refine ⟨vp_in_nI hu (by omega), fun r => h0 (fun _ y => absurd r y), fun r => ?_⟩
    refine x_room (by omega) hb hf hp (fun r7 e7 => ?_)
    refine ⟨fun y => h0 (fun y' => absurd (by rw [y] at e7; rw [← e7]; rfl) y'), fun y => ?_⟩
    have av : cp_av (xs_i a_price) (xs_i a_flow) (2 * l + b) := by
      unfold cp_av
      rw [← e7]
      exact fun q => y (xs_eq0.mpr q)
    refine ⟨fun y => h0 (fun _ _ y' => absurd ((nI_eq (b := 0) (by omega) (by omega)).mp y) y'), fun y2 => ?_⟩
    have w0 : w ≠ 0 := fun q => y2 (by rw [q]; rfl)
    refine ⟨vp_in_nI hw (by omega), fun y3 => set av r w0 (fun q => absurd y3 q), fun y3 => ⟨vp_in_nI hw (by omega), fun y4 => set av r w0 (fun _ => ?_), fun y4 => h0 (fun _ _ _ => ⟨y3, ?_⟩)⟩⟩
    · rw [xs_lt, hx r] at y4
      exact y4
    · rw [xs_lt, hx r] at y4
      unfold xs_i at y4 ⊢
      omega
  unfold wpX_stretch
  dsimp only
  rw [xs_half (by omega), nI_clamp (n := l / 2) (by omega), n1, n2]
  refine ⟨fun z => ⟨by decide, vp_in_nI (by omega) (by omega), ?_⟩, fun z => ⟨by decide, vp_in_nI (by omega) (by omega), ?_⟩⟩
  · have zb := hb0.mp z
    unfold wX_stretch_23
    rw [xs_half (by omega), nI_clamp (n := l / 2) (by omega), n1, n2]
    refine br_t z ⟨by decide, vp_in_nI (by omega) (by omega), ?_⟩
    unfold wX_stretch_47
    rw [nI_clamp (n := xs_n a_from (l / 2)) (by omega)]
    refine ⟨vp_in_nI (by omega) (by omega), br_t z (x_len (by omega) (fun r9 e9 => ?_))⟩
    refine main _ _ r9 (by omega) (by omega) ?_ ?_ ?_
    · unfold cp_src; rw [if_neg (by omega), show (2 * l + b) / 4 = l / 2 by omega]
    · unfold cp_dst; rw [if_neg (by omega), show (2 * l + b) / 4 = l / 2 by omega]
    · unfold cp_ln; rw [if_neg (by omega), show (2 * l + b) / 2 = l by omega]; exact e9
  · have zb : ¬ b = 0 := fun q => z (hb0.mpr q)
    unfold wX_stretch_23
    rw [xs_half (by omega), nI_clamp (n := l / 2) (by omega), n1, n2]
    refine br_f z ⟨by decide, vp_in_nI (by omega) (by omega), ?_⟩
    unfold wX_stretch_47
    rw [nI_clamp (n := xs_n a_to (l / 2)) (by omega)]
    refine ⟨vp_in_nI (by omega) (by omega), br_f z (x_len (by omega) (fun r9 e9 => ?_))⟩
    refine main _ _ (-r9) (by omega) (by omega) ?_ ?_ ?_
    · unfold cp_src; rw [if_pos (by omega), show (2 * l + b) / 4 = l / 2 by omega]
    · unfold cp_dst; rw [if_pos (by omega), show (2 * l + b) / 4 = l / 2 by omega]
    · unfold cp_ln; rw [if_pos (by omega), show (2 * l + b) / 2 = l by omega, xs_neg (by omega), e9]
end
end
section
/-! X: the search -/
def xs_R (a : Nat → Int32) (v : Nat) : Prop := v < 6 ∧ ¬ a v = 0
/-- the search's invariant over the arrays -/
def xf_B (m : Nat) (U : Nat → Int) (af at' as aF ap fl : Nat → Int32) (s : Nat) (al ar aL : Nat → Int32) (Q T : Nat → Nat) (W : Nat → Nat → Bool) : Prop :=
  bf_I (4 * m) (cp_src (xs_n af) (xs_n at')) (cp_dst (xs_n af) (xs_n at')) (cp_ln (xs_i as) (xs_i aF)) (cp_av (xs_i ap) (xs_i fl)) U (cp_Rc m (xs_n af) (xs_n at')) s (xs_i al) (xs_R ar) Q T W ∧
  ∀ v, xs_R ar v → v ≠ 0 → aL v = xs_ll (Q v)
/-- what it leaves -/
def xf_D (m : Nat) (af at' as aF ap fl : Nat → Int32) (al ar aL : Nat → Int32) (Q T : Nat → Nat) : Prop :=
  bf_D (4 * m) (cp_src (xs_n af) (xs_n at')) (cp_dst (xs_n af) (xs_n at')) (cp_ln (xs_i as) (xs_i aF)) (cp_av (xs_i ap) (xs_i fl)) (cp_Rc m (xs_n af) (xs_n at')) (xs_i al) (xs_R ar) Q T ∧
  ∀ v, xs_R ar v → v ≠ 0 → aL v = xs_ll (Q v)
/-- what it needs -/
def xf_H (m : Nat) (U : Nat → Int) (af at' as aF ap fl : Nat → Int32) : Prop :=
  bf_H (4 * m) (cp_src (xs_n af) (xs_n at')) (cp_dst (xs_n af) (xs_n at')) (cp_ln (xs_i as) (xs_i aF)) (cp_av (xs_i ap) (xs_i fl)) U (cp_Rc m (xs_n af) (xs_n at')) ∧
  (∀ v, cp_Rc m (xs_n af) (xs_n at') v → U v ≤ 50) ∧ ∀ l, l < 2 * m → 0 ≤ xs_i fl l ∧ xs_i fl l ≤ 1000000000
section
variable {f_jobs f_known f_ways : Int32} {a_from a_to a_slow a_fast a_price a_flow a_longest a_reached a_lastLine a_wayLength a_wayAmount : Nat → Int32}
variable {m : Nat} {U : Nat → Int} {s r : Nat} {Q T : Nat → Nat} {W : Nat → Nat → Bool}
theorem x_look {post : Int32 → SX → Prop} {l b : Nat} (O : xs_O m a_from a_to a_slow a_fast a_price) (H : xf_H m U a_from a_to a_slow a_fast a_price a_flow) (hl : l < 2 * m) (hb : b < 2)
    (B : xf_B m U a_from a_to a_slow a_fast a_price a_flow s a_longest a_reached a_lastLine Q T W) (hs : s % (4 * m) = 2 * l + b)
    (h0 : xf_B m U a_from a_to a_slow a_fast a_price a_flow (s + 1) a_longest a_reached a_lastLine Q T W → post 0 (f_jobs, f_known, f_ways, a_from, a_to, a_slow, a_fast, a_price, a_flow, a_longest, a_reached, a_lastLine, a_wayLength, a_wayAmount))
    (h1 : ∀ al ar aL Q' T' W', xf_B m U a_from a_to a_slow a_fast a_price a_flow (s + 1) al ar aL Q' T' W' → post 1 (f_jobs, f_known, f_ways, a_from, a_to, a_slow, a_fast, a_price, a_flow, al, ar, aL, a_wayLength, a_wayAmount)) :
    wpX_stretch post (f_jobs, f_known, f_ways, a_from, a_to, a_slow, a_fast, a_price, a_flow, a_longest, a_reached, a_lastLine, a_wayLength, a_wayAmount) (nI l) (nI b) := by
  obtain ⟨B1, B2⟩ := B
  obtain ⟨H1, H2, H3⟩ := H
  have hd6 : cp_src (xs_n a_from) (xs_n a_to) (2 * l + b) < 6 ∧ cp_dst (xs_n a_from) (xs_n a_to) (2 * l + b) < 6 := by
    have i := O.1.2 (l / 2) (by omega)
    unfold cp_src cp_dst
    rw [show (2 * l + b) / 4 = l / 2 by omega]
    split <;> omega
  refine x_stretch O hl hb (H3 l hl) (fun v v6 hv => ⟨bf_lb B1 ⟨v6, hv⟩, ?_⟩) (fun hk => h0 ⟨bf_keep B1 hs ?_, B2⟩) ?_
  · have := bf_ub H1 B1 (v := v) ⟨v6, hv⟩
    have := H2 v (B1.2.1 v ⟨v6, hv⟩).1
    omega
  · intro a1 a2 a3
    obtain ⟨k1, k2⟩ := hk a1 a2.2 a3
    exact ⟨⟨hd6.2, k1⟩, k2⟩
  · intro c1 c2 c3 c4 x ex
    refine h1 _ _ _ (fun w => if w = cp_dst (xs_n a_from) (xs_n a_to) (2 * l + b) then 2 * l + b else Q w) _ _ ⟨bf_chg H1 B1 (by omega) hs rfl rfl c1 ⟨hd6.1, c2⟩ c3 (fun z => c4 z.2) ?_ ?_ ?_ ?_ ?_ ?_, ?_⟩
    · unfold xs_i; rw [pk_us]; exact ex
    · intro w hw; unfold xs_i; rw [pk_un hw]
    · exact ⟨hd6.2, by rw [pk_us]; decide⟩
    · intro w hw; unfold xs_R; rw [pk_un hw]
    · exact if_pos rfl
    · intro w hw; exact if_neg hw
    · intro v hv v0
      by_cases e : v = cp_dst (xs_n a_from) (xs_n a_to) (2 * l + b)
      · dsimp only
        rw [e, pk_us, if_pos rfl]
      · have hv' : xs_R a_reached v := by
          unfold xs_R at hv ⊢
          rw [pk_un e] at hv
          exact hv
        dsimp only
        rw [pk_un e, if_neg e]
        exact B2 v hv' v0
/-- one round -/
theorem x_61 {post : SX → Prop} {J : Int32 → Int32 → Int32 → Int32 → Int32 → (Nat → Int32) → (Nat → Int32) → (Nat → Int32) → (Nat → Int32) → (Nat → Int32) → (Nat → Int32) → (Nat → Int32) → (Nat → Int32) → (Nat → Int32) → (Nat → Int32) → (Nat → Int32) → Prop}
    (O : xs_O m a_from a_to a_slow a_fast a_price) (H : xf_H m U a_from a_to a_slow a_fast a_price a_flow)
    (hJ : ∀ x1 al ar aL Q T W, xf_B m U a_from a_to a_slow a_fast a_price a_flow (4 * m * r + 4 * m) al ar aL Q T W → (x1 = 0 → ∀ v, xs_R ar v → T v ≤ 4 * m * r) → J x1 (nI (r + 1)) (nI m) f_known f_ways a_from a_to a_slow a_fast a_price a_flow al ar aL a_wayLength a_wayAmount) :
    ∀ d l x1 al ar aL Q T W, l + d = 2 * m → xf_B m U a_from a_to a_slow a_fast a_price a_flow (4 * m * r + 2 * l) al ar aL Q T W → (x1 = 0 → ∀ v, xs_R ar v → T v ≤ 4 * m * r) →
      wX_findLongest_61 post J (nI r) (d + 1) x1 (nI l) (nI m) f_known f_ways a_from a_to a_slow a_fast a_price a_flow al ar aL a_wayLength a_wayAmount := by
  have m7 := O.1.1
  have e2 : (2 : Int32) * nI m = nI (2 * m) := pk_mul 2 m
  intro d
  induction d with
  | zero =>
    intro l x1 al ar aL Q T W hl B hx
    unfold wX_findLongest_61
    rw [e2]
    refine br_t (nI_le (by omega) (by omega)) (nm_r (nI_1 r) (hJ x1 al ar aL Q T W ?_ hx))
    rw [show 4 * m * r + 4 * m = 4 * m * r + 2 * l by omega]
    exact B
  | succ d ih =>
    intro l x1 al ar aL Q T W hl B hx
    unfold wX_findLongest_61
    rw [e2]
    have hs1 : (4 * m * r + 2 * l) % (4 * m) = 2 * l + 0 := by
      rw [Nat.mul_add_mod, Nat.mod_eq_of_lt (by omega)]; rfl
    have hs2 : (4 * m * r + 2 * l + 1) % (4 * m) = 2 * l + 1 := by
      rw [show 4 * m * r + 2 * l + 1 = 4 * m * r + (2 * l + 1) by omega, Nat.mul_add_mod, Nat.mod_eq_of_lt (by omega)]
    have es : 4 * m * r + 2 * l + 1 + 1 = 4 * m * r + 2 * (l + 1) := by omega
    -- the second look
    have second : ∀ (z0 : Int32) al ar aL Q T W, xf_B m U a_from a_to a_slow a_fast a_price a_flow (4 * m * r + 2 * l + 1) al ar aL Q T W → (z0 = 0 → ∀ v, xs_R ar v → T v ≤ 4 * m * r) →
        wX_findLongest_89 post J (wX_findLongest_61 post J (nI r) (d + 1)) (nI r) (nI l) z0 (nI m) f_known f_ways a_from a_to a_slow a_fast a_price a_flow al ar aL a_wayLength a_wayAmount := by
      intro z0 al ar aL Q T W B hz
      unfold wX_findLongest_89
      refine x_look (b := 1) O H (by omega) (by omega) B hs2 (fun B' => ?_) (fun al' ar' aL' Q' T' W' B' => ?_)
      · rw [es] at B'
        refine br_t rfl ⟨fun y => nm_r (nI_1 l) (ih (l + 1) 0 al ar aL Q T W (by omega) B' (fun _ => hz y)), fun y => nm_r (nI_1 l) (ih (l + 1) 1 al ar aL Q T W (by omega) B' (fun q => absurd q (by decide)))⟩
      · rw [es] at B'
        exact br_f (by decide) (nm_r (nI_1 l) (ih (l + 1) 1 al' ar' aL' Q' T' W' (by omega) B' (fun q => absurd q (by decide))))
    refine br_f (nI_ge (by omega) (by omega)) ?_
    refine x_look (b := 0) O H (by omega) (by omega) B hs1 (fun B' => ?_) (fun al' ar' aL' Q' T' W' B' => ?_)
    · refine br_t rfl ⟨fun y => second 0 al ar aL Q T W B' (fun _ => hx y), fun y => ?_⟩
      unfold wX_findLongest_84
      exact second 1 al ar aL Q T W B' (fun q => absurd q (by decide))
    · refine br_f (by decide) ?_
      unfold wX_findLongest_84
      exact second 1 al' ar' aL' Q' T' W' B' (fun q => absurd q (by decide))
/-- all rounds -/
theorem x_47 {post : SX → Prop} (O : xs_O m a_from a_to a_slow a_fast a_price) (H : xf_H m U a_from a_to a_slow a_fast a_price a_flow)
    (hP : ∀ al ar aL Q T, xf_D m a_from a_to a_slow a_fast a_price a_flow al ar aL Q T → post (nI m, f_known, f_ways, a_from, a_to, a_slow, a_fast, a_price, a_flow, al, ar, aL, a_wayLength, a_wayAmount)) :
    ∀ d r x1 al ar aL Q T W, r + d = 6 → xf_B m U a_from a_to a_slow a_fast a_price a_flow (4 * m * r) al ar aL Q T W → (x1 = 0 → ∃ q, r = q + 1 ∧ ∀ v, xs_R ar v → T v ≤ 4 * m * q) →
      wX_findLongest_47 post (d + 1) x1 (nI r) (nI m) f_known f_ways a_from a_to a_slow a_fast a_price a_flow al ar aL a_wayLength a_wayAmount := by
  intro d
  induction d with
  | zero =>
    intro r x1 al ar aL Q T W hr B hx
    unfold wX_findLongest_47
    refine br_t (nI_le (a := 6) (by omega) (by omega)) (hP al ar aL Q T ⟨bf_end H.1 (q := 5) ?_ (fun v hv => bf_tb B.1 hv) B.1, B.2⟩)
    have : r = 6 := by omega
    rw [this]; omega
  | succ d ih =>
    intro r x1 al ar aL Q T W hr B hx
    unfold wX_findLongest_47
    refine br_f (nI_ge (b := 6) (by omega) (by omega)) ⟨fun y => ?_, fun y => ?_⟩
    · obtain ⟨q, q1, q2⟩ := hx y
      refine hP al ar aL Q T ⟨bf_end H.1 (q := q) ?_ q2 B.1, B.2⟩
      rw [q1, Nat.mul_add, Nat.mul_one]
    · refine ⟨2 * m + 1, ?_⟩
      refine x_61 O H (fun x1' al' ar' aL' Q' T' W' B' hx' => ih (r + 1) x1' al' ar' aL' Q' T' W' (by omega) (by rw [Nat.mul_add, Nat.mul_one]; exact B') (fun z => ⟨r, rfl, hx' z⟩)) (2 * m) 0 0 al ar aL Q T W (by omega) ?_ ?_
      · exact B
      · intro _ v hv
        exact (B.1.2.1 v hv).2.1
/-- the beginning, and all -/
theorem x_find0 {post : SX → Prop} {J : Int32 → Int32 → Int32 → Prop}
    (hP : ∀ al ar aL, (∀ v, v < 6 → ar v = (if v = 0 then 1 else 0) ∧ al v = 0) → ∃ n47, wX_findLongest_47 post n47 1 0 f_jobs f_known f_ways a_from a_to a_slow a_fast a_price a_flow al ar aL a_wayLength a_wayAmount) :
    ∀ d i al ar aL, i + d = 6 → (∀ v, v < i → ar v = (if v = 0 then 1 else 0) ∧ al v = 0) → wX_findLongest_2 post f_jobs f_known f_ways (d + 1) (nI i) a_from a_to a_slow a_fast a_price a_flow al ar aL a_wayLength a_wayAmount := by
  intro d
  induction d with
  | zero =>
    intro i al ar aL hi h
    unfold wX_findLongest_2
    exact br_t (nI_le (a := 6) (by omega) (by omega)) (hP al ar aL (fun v hv => h v (by omega)))
  | succ d ih =>
    intro i al ar aL hi h
    unfold wX_findLongest_2
    have hi0 : nI i = 0 ↔ i = 0 := nI_eq (b := 0) (by omega) (by omega)
    have set : ∀ z0 : Int32, vp_nar .boolean z0 = (if i = 0 then 1 else 0) → wX_findLongest_22 post (wX_findLongest_2 post f_jobs f_known f_ways (d + 1)) (nI i) z0 (nI i) f_jobs f_known f_ways a_from a_to a_slow a_fast a_price a_flow al ar aL a_wayLength a_wayAmount := by
      intro z0 hz
      unfold wX_findLongest_22
      rw [nI_clamp (n := i) (by omega), hz]
      refine ⟨vp_in_nI (by omega) (by omega), nm_e ⟨vp_in_nI (by omega) (by omega), nm_e ⟨vp_in_nI (by omega) (by omega), nm_e (nm_r (nI_1 i) (ih (i + 1) _ _ _ (by omega) (fun v hv => ?_)))⟩⟩⟩
      by_cases e : v = i
      · subst e
        rw [pk_us, pk_us]
        exact ⟨rfl, rfl⟩
      · rw [pk_un e, pk_un e]
        exact h v (by omega)
    refine br_f (nI_ge (b := 6) (by omega) (by omega)) ⟨fun y => set 1 ?_, fun y => set 0 ?_⟩
    · rw [if_pos (hi0.mp y)]; rfl
    · rw [if_neg (fun q => y (hi0.mpr q))]; rfl
theorem x_find {post : SX → Prop} (O : xs_O m a_from a_to a_slow a_fast a_price) (H : xf_H m U a_from a_to a_slow a_fast a_price a_flow)
    (hP : ∀ al ar aL Q T, xf_D m a_from a_to a_slow a_fast a_price a_flow al ar aL Q T → post (nI m, f_known, f_ways, a_from, a_to, a_slow, a_fast, a_price, a_flow, al, ar, aL, a_wayLength, a_wayAmount)) : wpX_findLongest post (nI m, f_known, f_ways, a_from, a_to, a_slow, a_fast, a_price, a_flow, a_longest, a_reached, a_lastLine, a_wayLength, a_wayAmount) := by
  unfold wpX_findLongest
  dsimp only
  refine ⟨7, x_find0 (J := fun _ _ _ => True) (fun al ar aL h => ⟨7, ?_⟩) 6 0 a_longest a_reached a_lastLine (by omega) (fun v hv => by omega)⟩
  have B0 := bf_0 (L := xs_i al) (R := xs_R ar) (Q := fun _ => 0) H.1 (fun v => by
    unfold xs_R
    constructor
    · rintro ⟨z1, z2⟩
      apply Classical.byContradiction
      intro z
      rw [(h v z1).1, if_neg z] at z2
      exact z2 rfl
    · intro z
      refine ⟨by omega, ?_⟩
      rw [(h v (by omega)).1, if_pos z]; decide) (by unfold xs_i; rw [(h 0 (by omega)).2]; rfl)
  refine x_47 O H hP 6 0 1 al ar aL (fun _ => 0) (fun _ => 0) (fun _ w => decide (w = 0)) (by omega) ⟨B0, fun v hv v0 => ?_⟩ (fun q => absurd q (by decide))
  have := hv.2
  rw [(h v hv.1).1, if_neg v0] at this
  exact absurd rfl this
end
end
section
/-! X: the width of the way, and sending along it -/
section
variable {f_jobs f_known f_ways : Int32} {a_from a_to a_slow a_fast a_price a_flow a_longest a_reached a_lastLine a_wayLength a_wayAmount : Nat → Int32}
variable {m : Nat} {Q T : Nat → Nat}
theorem x_ll {c : Nat} (hc : c < 28) : (xs_ll c < 28 ↔ c % 2 = 0) ∧ (c % 2 = 0 → xs_ll c = nI (c / 2)) ∧ (c % 2 = 1 → xs_ll c - 28 = nI (c / 2)) := by
  unfold xs_ll
  refine ⟨?_, fun h => ?_, fun h => ?_⟩
  · have := nI_ltI (a := c / 2 + 28 * (c % 2)) (b := 28) (by omega) (by omega)
    refine Iff.trans this ?_
    omega
  · congr 1; omega
  · rw [h]
    have := pk_sub (a := c / 2 + 28 * 1) (b := 28) (by omega)
    refine Eq.trans this ?_
    congr 1
theorem x_w7 {post : Int32 → Prop} (O : xs_O m a_from a_to a_slow a_fast a_price) (hf : ∀ l, l < 2 * m → 0 ≤ xs_i a_flow l ∧ xs_i a_flow l ≤ 1000000000)
    (D : xf_D m a_from a_to a_slow a_fast a_price a_flow a_longest a_reached a_lastLine Q T) :
    ∀ p v k (w : Int32) n, p.length < n → rp_C (cp_src (xs_n a_from) (xs_n a_to)) Q v p → xs_R a_reached v → k + p.length ≤ 5 →
      (∀ r : Int32, r.toInt = rp_w (cp_room (xs_i a_price) (xs_i a_flow)) w.toInt p → post r) → wX_widthOfWay_7 post f_jobs f_known f_ways a_from a_to a_slow a_fast a_price a_flow a_longest a_reached a_lastLine a_wayLength a_wayAmount n w (nI v) (nI k) := by
  intro p
  induction p with
  | nil =>
    intro v k w n hn hC hv hk hP
    obtain ⟨n, rfl⟩ : ∃ n', n = n' + 1 := ⟨n - 1, by rw [List.length_nil] at hn; omega⟩
    unfold wX_widthOfWay_7
    refine ⟨fun _ => hP w rfl, fun _ => br_t ?_ (hP w rfl)⟩
    rw [show v = 0 from hC]; rfl
  | cons c p ih =>
    intro v k w n hn hC hv hk hP
    rw [List.length_cons] at hn hk
    obtain ⟨n, rfl⟩ : ∃ n', n = n' + 1 := ⟨n - 1, by omega⟩
    obtain ⟨v0, rfl, hC'⟩ := hC
    have m7 := O.1.1
    obtain ⟨q1, q2, q3, q4, q5, q6, q7⟩ := (D.1.2.1 v hv).2.2 v0
    have v6 := hv.1
    obtain ⟨n1, n2⟩ := O.2 (Q v / 4) (by omega)
    have ll := D.2 v hv v0
    have l1 := x_ll (c := Q v) (by omega)
    have i := O.1.2 (Q v / 4) (by omega)
    have hrest : ∀ (w' : Int32), w'.toInt = (if cp_room (xs_i a_price) (xs_i a_flow) (Q v) < w.toInt then cp_room (xs_i a_price) (xs_i a_flow) (Q v) else w.toInt) → wX_widthOfWay_82 post (wX_widthOfWay_7 post f_jobs f_known f_ways a_from a_to a_slow a_fast a_price a_flow a_longest a_reached a_lastLine a_wayLength a_wayAmount n) (nI k) (nI (Q v % 2)) (nI (Q v / 2)) w' f_jobs f_known f_ways a_from a_to a_slow a_fast a_price a_flow a_longest a_reached a_lastLine a_wayLength a_wayAmount := by
      intro w' hw'
      have hIH := ih _ (k + 1) w' n (by omega) hC' q4 (by omega) (fun r hr => hP r (by rw [hr, hw']; rfl))
      unfold wX_widthOfWay_82
      rw [xs_half (by omega), show Q v / 2 / 2 = Q v / 4 by omega, nI_clamp (n := Q v / 4) (by omega), n1, n2]
      have hb0 : nI (Q v % 2) = 0 ↔ Q v % 2 = 0 := nI_eq (b := 0) (by omega) (by omega)
      refine ⟨fun z => ⟨by decide, vp_in_nI (by omega) (by omega), nm_e (nm_r (nI_1 k) ?_)⟩, fun z => ⟨by decide, vp_in_nI (by omega) (by omega), nm_e (nm_r (nI_1 k) ?_)⟩⟩
      · have z' := hb0.mp z
        have e : cp_src (xs_n a_from) (xs_n a_to) (Q v) = xs_n a_from (Q v / 4) := by unfold cp_src; rw [if_neg (by omega)]
        rw [e] at hIH
        exact hIH
      · have z' : Q v % 2 = 1 := by
          have : ¬ Q v % 2 = 0 := fun q => z (hb0.mpr q)
          omega
        have e : cp_src (xs_n a_from) (xs_n a_to) (Q v) = xs_n a_to (Q v / 4) := by unfold cp_src; rw [if_pos z']
        rw [e] at hIH
        exact hIH
    have hroom : wX_widthOfWay_58 post (wX_widthOfWay_7 post f_jobs f_known f_ways a_from a_to a_slow a_fast a_price a_flow a_longest a_reached a_lastLine a_wayLength a_wayAmount n) w (nI k) (nI (Q v % 2)) (nI (Q v / 2)) f_jobs f_known f_ways a_from a_to a_slow a_fast a_price a_flow a_longest a_reached a_lastLine a_wayLength a_wayAmount := by
      unfold wX_widthOfWay_58
      have i8 := i.2.2.2.2.2.2
      refine x_room (by omega) (by omega) (hf _ (by omega)) (by rw [show Q v / 2 / 2 = Q v / 4 by omega]; omega) (fun r7 e7 => ?_)
      rw [show 2 * (Q v / 2) + Q v % 2 = Q v by omega] at e7
      refine ⟨fun y => hrest w ?_, fun y => hrest r7 ?_⟩
      · rw [xs_le, e7] at y
        rw [if_neg (by omega)]
      · rw [xs_le, e7] at y
        rw [if_pos (by omega)]
        exact e7
    unfold wX_widthOfWay_7
    rw [nI_clamp (n := v) (by omega), ll]
    refine br_f (nI_ge (b := 6) (by omega) (by omega)) (br_f (nI_ne0 (by omega) (by omega)) ⟨vp_in_nI v6 (by omega), fun y => ?_, fun y => ?_⟩)
    · have y' := l1.1.mp y
      unfold wX_widthOfWay_33
      rw [nI_clamp (n := v) (by omega), ll, l1.2.1 y']
      rw [y'] at hroom
      exact br_t rfl ⟨vp_in_nI v6 (by omega), hroom⟩
    · have y' : Q v % 2 = 1 := by
        have : ¬ Q v % 2 = 0 := fun q => y (l1.1.mpr q)
        omega
      unfold wX_widthOfWay_33
      rw [nI_clamp (n := v) (by omega), ll, l1.2.2 y']
      rw [y'] at hroom
      exact br_f (by decide) ⟨vp_in_nI v6 (by omega), hroom⟩
theorem x_width {post : Int32 → Prop} {p : List Nat} (O : xs_O m a_from a_to a_slow a_fast a_price) (hf : ∀ l, l < 2 * m → 0 ≤ xs_i a_flow l ∧ xs_i a_flow l ≤ 1000000000)
    (D : xf_D m a_from a_to a_slow a_fast a_price a_flow a_longest a_reached a_lastLine Q T) (hC : rp_C (cp_src (xs_n a_from) (xs_n a_to)) Q 5 p) (h5 : xs_R a_reached 5) (hk : p.length ≤ 5)
    (hP : ∀ r : Int32, r.toInt = rp_w (cp_room (xs_i a_price) (xs_i a_flow)) 1000000 p → post r) : wpX_widthOfWay post (f_jobs, f_known, f_ways, a_from, a_to, a_slow, a_fast, a_price, a_flow, a_longest, a_reached, a_lastLine, a_wayLength, a_wayAmount) := by
  unfold wpX_widthOfWay
  dsimp only
  exact ⟨p.length + 1, x_w7 O hf D p 5 0 1000000 _ (by omega) hC h5 (by omega) hP⟩
/-- the flow is changed line by line -/
theorem x_s4 {post : SX → Prop} {x1 : Int32} {D' : Nat → Int32} (O : xs_O m a_from a_to a_slow a_fast a_price) (h1 : 0 ≤ x1.toInt ∧ x1.toInt ≤ 1000000)
    (D : xf_D m a_from a_to a_slow a_fast a_price D' a_longest a_reached a_lastLine Q T) :
    ∀ p v k fl n, p.length < n → rp_C (cp_src (xs_n a_from) (xs_n a_to)) Q v p → xs_R a_reached v → k + p.length ≤ 5 →
      (∀ l, l < 2 * m → -(100000000 + (k : Int) * 1000000) ≤ xs_i fl l ∧ xs_i fl l ≤ 100000000 + (k : Int) * 1000000) →
      (∀ fl', xs_i fl' = rp_f x1.toInt (xs_i fl) p → post (f_jobs, f_known, f_ways, a_from, a_to, a_slow, a_fast, a_price, fl', a_longest, a_reached, a_lastLine, a_wayLength, a_wayAmount)) → wX_send_4 post x1 f_jobs f_known f_ways n (nI v) (nI k) a_from a_to a_slow a_fast a_price fl a_longest a_reached a_lastLine a_wayLength a_wayAmount := by
  intro p
  induction p with
  | nil =>
    intro v k fl n hn hC hv hk hb hP
    obtain ⟨n, rfl⟩ : ∃ n', n = n' + 1 := ⟨n - 1, by rw [List.length_nil] at hn; omega⟩
    unfold wX_send_4
    refine ⟨fun _ => hP fl rfl, fun _ => br_t ?_ (hP fl rfl)⟩
    rw [show v = 0 from hC]; rfl
  | cons c p ih =>
    intro v k fl n hn hC hv hk hb hP
    rw [List.length_cons] at hn hk
    obtain ⟨n, rfl⟩ : ∃ n', n = n' + 1 := ⟨n - 1, by omega⟩
    obtain ⟨v0, rfl, hC'⟩ := hC
    have m7 := O.1.1
    obtain ⟨q1, q2, q3, q4, q5, q6, q7⟩ := (D.1.2.1 v hv).2.2 v0
    have v6 := hv.1
    obtain ⟨n1, n2⟩ := O.2 (Q v / 4) (by omega)
    have ll := D.2 v hv v0
    have l1 := x_ll (c := Q v) (by omega)
    have i := O.1.2 (Q v / 4) (by omega)
    have hb0 : nI (Q v % 2) = 0 ↔ Q v % 2 = 0 := nI_eq (b := 0) (by omega) (by omega)
    have hrest : ∀ y : Int32, y.toInt = (if Q v % 2 = 1 then - x1.toInt else x1.toInt) → wX_send_76 post (wX_send_4 post x1 f_jobs f_known f_ways n) x1 (nI k) (nI (Q v % 2)) (nI (Q v / 2)) y (fl (Q v / 2)) (nI (Q v / 2)) f_jobs f_known f_ways a_from a_to a_slow a_fast a_price fl a_longest a_reached a_lastLine a_wayLength a_wayAmount := by
      intro y hy
      have b0 := hb (Q v / 2) (by omega)
      have ey : (fl (Q v / 2) + y).toInt = xs_i fl (Q v / 2) + (if Q v % 2 = 1 then - x1.toInt else x1.toInt) := by
        unfold xs_i at b0 ⊢
        rw [← hy]
        refine xs_add ?_ ?_
        · rw [hy]; split <;> omega
        · rw [hy]; split <;> omega
      have ef : xs_i (upd fl (Q v / 2) (fl (Q v / 2) + y)) = fun l => if l = Q v / 2 then xs_i fl l + (if Q v % 2 = 1 then - x1.toInt else x1.toInt) else xs_i fl l := by
        funext l
        by_cases e : l = Q v / 2
        · rw [if_pos e, e]
          show (upd fl (Q v / 2) (fl (Q v / 2) + y) (Q v / 2)).toInt = _
          rw [pk_us]; exact ey
        · rw [if_neg e]
          show (upd fl (Q v / 2) (fl (Q v / 2) + y) l).toInt = _
          rw [pk_un e]; rfl
      have hIH := ih _ (k + 1) (upd fl (Q v / 2) (fl (Q v / 2) + y)) n (by omega) hC' q4 (by omega) (fun l hl => by
        have b1 := hb l hl
        rw [ef]
        dsimp only
        split
        · split <;> omega
        · omega) (fun fl' hr => hP fl' (by rw [hr, ef]; rfl))
      unfold wX_send_76
      rw [nI_clamp (n := Q v / 2) (by omega), xs_half (by omega), show Q v / 2 / 2 = Q v / 4 by omega, nI_clamp (n := Q v / 4) (by omega), n1, n2]
      refine ⟨vp_in_nI (by omega) (by omega), nm_e ⟨fun z => ⟨by decide, vp_in_nI (by omega) (by omega), nm_e (nm_r (nI_1 k) ?_)⟩, fun z => ⟨by decide, vp_in_nI (by omega) (by omega), nm_e (nm_r (nI_1 k) ?_)⟩⟩⟩
      · have z' := hb0.mp z
        have e : cp_src (xs_n a_from) (xs_n a_to) (Q v) = xs_n a_from (Q v / 4) := by unfold cp_src; rw [if_neg (by omega)]
        rw [e] at hIH
        exact hIH
      · have z' : Q v % 2 = 1 := by
          have : ¬ Q v % 2 = 0 := fun q => z (hb0.mpr q)
          omega
        have e : cp_src (xs_n a_from) (xs_n a_to) (Q v) = xs_n a_to (Q v / 4) := by unfold cp_src; rw [if_pos z']
        rw [e] at hIH
        exact hIH
    have hmid : wX_send_55 post (wX_send_4 post x1 f_jobs f_known f_ways n) x1 (nI k) (nI (Q v % 2)) (nI (Q v / 2)) f_jobs f_known f_ways a_from a_to a_slow a_fast a_price fl a_longest a_reached a_lastLine a_wayLength a_wayAmount := by
      unfold wX_send_55
      rw [nI_clamp (n := Q v / 2) (by omega)]
      refine ⟨vp_in_nI (by omega) (by omega), fun z => hrest x1 ?_, fun z => hrest (-x1) ?_⟩
      · have z' := hb0.mp z
        rw [if_neg (by omega)]
      · have : ¬ Q v % 2 = 0 := fun q => z (hb0.mpr q)
        rw [if_pos (by omega)]
        exact xs_neg (by omega)
    unfold wX_send_4
    rw [nI_clamp (n := v) (by omega), ll]
    refine br_f (nI_ge (b := 6) (by omega) (by omega)) (br_f (nI_ne0 (by omega) (by omega)) ⟨vp_in_nI v6 (by omega), fun y => ?_, fun y => ?_⟩)
    · have y' := l1.1.mp y
      unfold wX_send_30
      rw [nI_clamp (n := v) (by omega), ll, l1.2.1 y']
      rw [y'] at hmid
      exact br_t rfl ⟨vp_in_nI v6 (by omega), hmid⟩
    · have y' : Q v % 2 = 1 := by
        have : ¬ Q v % 2 = 0 := fun q => y (l1.1.mpr q)
        omega
      unfold wX_send_30
      rw [nI_clamp (n := v) (by omega), ll, l1.2.2 y']
      rw [y'] at hmid
      exact br_f (by decide) ⟨vp_in_nI v6 (by omega), hmid⟩
theorem x_send {post : SX → Prop} {x1 : Int32} {p : List Nat} (O : xs_O m a_from a_to a_slow a_fast a_price) (h1 : 0 ≤ x1.toInt ∧ x1.toInt ≤ 1000000)
    (D : xf_D m a_from a_to a_slow a_fast a_price a_flow a_longest a_reached a_lastLine Q T) (hC : rp_C (cp_src (xs_n a_from) (xs_n a_to)) Q 5 p) (h5 : xs_R a_reached 5) (hk : p.length ≤ 5)
    (hf : ∀ l, l < 2 * m → 0 ≤ xs_i a_flow l ∧ xs_i a_flow l ≤ 100000000)
    (hP : ∀ fl', xs_i fl' = rp_f x1.toInt (xs_i a_flow) p → post (f_jobs, f_known, f_ways, a_from, a_to, a_slow, a_fast, a_price, fl', a_longest, a_reached, a_lastLine, a_wayLength, a_wayAmount)) : wpX_send post (f_jobs, f_known, f_ways, a_from, a_to, a_slow, a_fast, a_price, a_flow, a_longest, a_reached, a_lastLine, a_wayLength, a_wayAmount) x1 := by
  unfold wpX_send
  dsimp only
  exact ⟨p.length + 1, x_s4 O h1 D p 5 0 a_flow _ (by omega) hC h5 (by omega) (fun l hl => by have := hf l hl; omega) hP⟩
end
end
section
/-! X: all sendings -/
section
variable {f_jobs f_known f_ways : Int32} {a_from a_to a_slow a_fast a_price a_flow a_longest a_reached a_lastLine a_wayLength a_wayAmount : Nat → Int32}
variable {m : Nat}
def xa_G (m : Nat) (af at' as aF ap wL wA : Nat → Int32) (n : Nat) : Prop := sa_G m (xs_n af) (xs_n at') (xs_i as) (xs_i aF) (xs_i ap) (xs_i wL) (xs_i wA) n
theorem xa_up {a : Nat → Int32} {n : Nat} {x : Int32} : xs_i (upd a n x) n = x.toInt ∧ ∀ k, k < n → xs_i (upd a n x) k = xs_i a k := by
  unfold xs_i
  exact ⟨by rw [pk_us], fun k hk => by rw [pk_un (by omega)]⟩
theorem x_43z {post : SX → Prop} {x2 : Int32} (h : post (f_jobs, f_known, f_ways, a_from, a_to, a_slow, a_fast, a_price, a_flow, a_longest, a_reached, a_lastLine, a_wayLength, a_wayAmount)) (n : Nat) : wX_sendAll_43 post (n + 1) 0 x2 f_jobs f_known f_ways a_from a_to a_slow a_fast a_price a_flow a_longest a_reached a_lastLine a_wayLength a_wayAmount := by
  unfold wX_sendAll_43
  exact ⟨fun _ => h, fun _ => br_t rfl h⟩
theorem x_43 {post : SX → Prop} (O : xs_O m a_from a_to a_slow a_fast a_price)
    (hP : ∀ n fl al ar aL wL wA, xa_G m a_from a_to a_slow a_fast a_price wL wA n → post (nI m, f_known, nI n, a_from, a_to, a_slow, a_fast, a_price, fl, al, ar, aL, wL, wA)) :
    ∀ d n fl al ar aL wL wA, n + d = 149 → sa_I m (xs_n a_from) (xs_n a_to) (xs_i a_slow) (xs_i a_fast) (xs_i a_price) (xs_i fl) (xs_i wL) (xs_i wA) n →
      wX_sendAll_43 post (d + 1) 1 (nI n) (nI m) f_known (nI n) a_from a_to a_slow a_fast a_price fl al ar aL wL wA := by
  intro d
  induction d with
  | zero =>
    intro n fl al ar aL wL wA hn h
    have := sa_n O.1 h
    omega
  | succ d ih =>
    intro n fl al ar aL wL wA hn h
    have n128 := sa_n O.1 h
    obtain ⟨F, U, V, hs, A, J⟩ := h
    have J0 := J
    obtain ⟨⟨j1, j2, j3⟩, ⟨j4, j5⟩, _, j7, _⟩ := J
    have hF := (vi_F O.1 j1 j7).2
    have hfl : ∀ l, l < 2 * m → 0 ≤ xs_i fl l ∧ xs_i fl l ≤ 392140 := fun l hl => ⟨j1.2.1 l hl, Int.le_trans (fl_le O.1 j1 hl) hF⟩
    have H : xf_H m U a_from a_to a_slow a_fast a_price fl := ⟨fl_H O.1 j1 j4, j5, fun l hl => by have := hfl l hl; omega⟩
    unfold wX_sendAll_43
    refine br_f (nI_ge (b := 149) (by omega) (by omega)) (br_f (by decide) (x_find O H (fun al ar aL Q T D => ?_)))
    dsimp only
    intro x1 e1
    refine ⟨fun y => nm_r (nI_1 n) ?_, fun y => ?_⟩
    · subst y
      refine x_43z (hP n fl al ar aL wL wA ?_) d
      exact sa_none J0 D.1 O.1 (fun z => z.2 e1.symm)
    · have h5 : xs_R ar 5 := ⟨by omega, fun q => y (by rw [e1, q])⟩
      obtain ⟨p, hC⟩ := rp_ex D.1 (T 5 + 1) 5 (by omega) h5
      have hlen : p.length ≤ 5 := by
        have a := rp_len (fun v h => cp_Rc6 O.1 h) D.1 p 5 h5 hC
        have b := rp_r5 (T := T) (v := 5) (by omega)
        omega
      refine x_width O (fun l hl => by have := hfl l hl; omega) D hC h5 hlen (fun r er => ?_)
      obtain ⟨w1, w2⟩ := sa_w O.1 J0 D.1 h5 hC
      rw [← er] at w1 w2
      have hu := nI_clamp (n := n) (by omega)
      rw [hu]
      refine ⟨vp_in_nI (by omega) (by omega), nm_e ⟨vp_in_nI (by omega) (by omega), nm_e (nm_r (nI_1 n) ?_)⟩⟩
      have u1 := xa_up (a := wL) (n := n) (x := al 5)
      have u2 := xa_up (a := wA) (n := n) (x := r)
      have hup : ∀ k, k < n → xs_i (upd wL n (al 5)) k = xs_i wL k ∧ xs_i (upd wA n r) k = xs_i wA k := fun k hk => ⟨u1.2 k hk, u2.2 k hk⟩
      have e6 : (1000000 : Int32).toInt = 1000000 := by decide
      refine ⟨fun z => ?_, fun z => ?_⟩
      · rw [xs_le, e6] at z
        unfold wX_sendAll_120
        refine x_send O (by omega) D hC h5 hlen (fun l hl => by have := hfl l hl; omega) (fun fl' _ => ?_)
        refine nm_r (nI_1 n) (x_43z (hP (n + 1) fl' al ar aL _ _ ?_) d)
        exact sa_fin O.1 J0 D.1 h5 hC er (by omega) hup u1.1 u2.1
      · rw [xs_le, e6] at z
        unfold wX_sendAll_120
        refine x_send O (by omega) D hC h5 hlen (fun l hl => by have := hfl l hl; omega) (fun fl' ef => ?_)
        refine nm_r (nI_1 n) (ih (n + 1) fl' al ar aL _ _ (by omega) ?_)
        rw [ef]
        exact sa_step O.1 J0 D.1 h5 hC er (by omega) hup u1.1 u2.1
theorem x_20 {post : SX → Prop} 
    (hP : ∀ fl, (∀ l, l < 14 → xs_i fl l = 0) → ∃ n43, wX_sendAll_43 post n43 1 0 f_jobs f_known f_ways a_from a_to a_slow a_fast a_price fl a_longest a_reached a_lastLine a_wayLength a_wayAmount) :
    ∀ d i fl, i + d = 14 → (∀ l, l < i → xs_i fl l = 0) → wX_sendAll_20 post f_jobs f_known f_ways (d + 1) (nI i) a_from a_to a_slow a_fast a_price fl a_longest a_reached a_lastLine a_wayLength a_wayAmount := by
  intro d
  induction d with
  | zero =>
    intro i fl hi h
    unfold wX_sendAll_20
    exact br_t (nI_le (a := 14) (by omega) (by omega)) (hP fl (fun l hl => h l (by omega)))
  | succ d ih =>
    intro i fl hi h
    unfold wX_sendAll_20
    rw [nI_clamp (n := i) (by omega)]
    refine br_f (nI_ge (b := 14) (by omega) (by omega)) ⟨vp_in_nI (by omega) (by omega), nm_e (nm_r (nI_1 i) (ih (i + 1) _ (by omega) (fun l hl => ?_)))⟩
    by_cases e : l = i
    · subst e
      exact xa_up.1
    · rw [xa_up.2 l (by omega)]
      exact h l (by omega)
/-- known, or all is sent anew -/
theorem x_all {post : SX → Prop} (O : xs_O m a_from a_to a_slow a_fast a_price) (hK : ¬ f_known = 0 → ∃ n, f_ways = nI n ∧ xa_G m a_from a_to a_slow a_fast a_price a_wayLength a_wayAmount n)
    (hP : ∀ n fk fl al ar aL wL wA, xa_G m a_from a_to a_slow a_fast a_price wL wA n → post (nI m, fk, nI n, a_from, a_to, a_slow, a_fast, a_price, fl, al, ar, aL, wL, wA)) : wpX_sendAll post (nI m, f_known, f_ways, a_from, a_to, a_slow, a_fast, a_price, a_flow, a_longest, a_reached, a_lastLine, a_wayLength, a_wayAmount) := by
  unfold wpX_sendAll
  dsimp only
  refine ⟨fun z => ⟨15, ?_⟩, fun z => ?_⟩
  · refine x_20 (fun fl h => ⟨150, ?_⟩) 14 0 a_flow (by omega) (fun l hl => by omega)
    have m7 := O.1.1
    exact x_43 O (fun n fl al ar aL wL wA G => hP n 1 fl al ar aL wL wA G) 149 0 fl a_longest a_reached a_lastLine a_wayLength a_wayAmount (by omega) (sa_0 O.1 (fun l hl => h l (by omega)))
  · obtain ⟨n, e, G⟩ := hK z
    rw [e]
    exact hP n f_known a_flow a_longest a_reached a_lastLine a_wayLength a_wayAmount G
end
end
section
/-! the answers out of the ways, without programs -/
section
variable {m : Nat} {fr to : Nat → Nat} {sl fa pr wl wa : Nat → Int} {n : Nat}
theorem an_mono {g : Nat → Int} {k : Nat} : ∀ d, (∀ j, j < k + d → 0 ≤ g j) → sp_S g k ≤ sp_S g (k + d)
  | 0, _ => Int.le_refl _
  | d + 1, h => by
    have a := an_mono (g := g) (k := k) d (fun j hj => h j (by omega))
    have b := h (k + d) (by omega)
    show sp_S g k ≤ sp_S g (k + d) + g (k + d)
    omega
theorem an_mono' {g : Nat → Int} {k n : Nat} (h : k ≤ n) (hg : ∀ j, j < n → 0 ≤ g j) : sp_S g k ≤ sp_S g n := by
  have := an_mono (g := g) (k := k) (n - k) (fun j hj => hg j (by omega))
  rw [show k + (n - k) = n by omega] at this
  exact this
theorem an_cb {t : Int} (ht : 0 ≤ t) {k : Nat} (hw : ∀ i, i < k → wl i ≤ 50 ∧ 0 ≤ wa i) : 0 ≤ sa_c wl wa t k ∧ sa_c wl wa t k ≤ sp_S wa k * 50 := by
  constructor
  · refine sp_nonneg k (fun j hj => ?_)
    have := hw j hj
    show 0 ≤ (if wl j ≤ t then 0 else wa j * (wl j - t))
    split
    · omega
    · exact Int.mul_nonneg this.2 (by omega)
  · rw [← sp_mulc]
    refine sp_le k (fun j hj => ?_)
    have := hw j hj
    show (if wl j ≤ t then 0 else wa j * (wl j - t)) ≤ wa j * 50
    split
    · omega
    · exact Int.mul_le_mul_of_nonneg_left (by omega) this.2
/-- the slow plan -/
theorem an_slow (I : cp_Inst m fr to sl fa pr) {t : Int} (h : op_Fit m fr to sl t) : op_O m fr to sl fa pr t 0 := by
  have hV : op_V m sl fa (fun _ => 0) := fun j hj => by have := I.2 j hj; dsimp only; omega
  have e : (fun j => sl j - (fun _ => (0 : Int)) j) = sl := by funext j; dsimp only; omega
  refine Or.inr ⟨Int.le_refl _, ⟨fun _ => 0, hV, by rw [e]; exact h, ?_⟩, fun x hx _ => (op_cle I hx).1⟩
  exact sp_zero m (fun j _ => Int.mul_zero _)
theorem an_45 (I : cp_Inst m fr to sl fa pr) {t : Int} (h : 45 ≤ t) : op_Fit m fr to sl t := by
  refine ⟨fun v => 9 * (v : Int), rfl, fun j hj _ => ?_, by show 9 * ((5 : Nat) : Int) ≤ t; omega⟩
  have := I.2 j hj
  dsimp only
  omega
theorem an_none (I : cp_Inst m fr to sl fa pr) (h5 : ¬ cp_Rc m fr to 5) {x : Nat → Int} (hx : ∀ j, j < m → x j ≤ 9) {t : Int} (ht : 0 ≤ t) : op_Fit m fr to x t := by
  refine ⟨fun v => if v = 5 then 0 else 9 * (v : Int), rfl, fun j hj hr => ?_, ?_⟩
  · have i := I.2 j hj
    have := hx j hj
    have n5 : to j ≠ 5 := fun e => h5 (e ▸ cp_Rcs hj hr)
    dsimp only
    rw [if_neg (by omega), if_neg n5]
    omega
  · show (if 5 = 5 then (0 : Int) else _) ≤ t
    rw [if_pos rfl]; exact ht
theorem an_fast (I : cp_Inst m fr to sl fa pr) {x : Nat → Int} (hx : op_V m sl fa x) {t : Int} (h : op_Fit m fr to (fun j => sl j - x j) t) : op_Fit m fr to fa t := by
  obtain ⟨e, e0, e1, e2⟩ := h
  refine ⟨e, e0, fun j hj hr => ?_, e2⟩
  have a := e1 j hj hr
  have b := hx j hj
  dsimp only at a
  omega
/-- the cost by the ways -/
def an_r (wl wa : Nat → Int) (t : Int) (n : Nat) : Int := match n with
  | 0 => 0
  | k + 1 => if wl k ≤ t then sa_c wl wa t k else -1
theorem an_O (I : cp_Inst m fr to sl fa pr) (G : sa_G m fr to sl fa pr wl wa n) {t : Int} (ht : 0 ≤ t) : op_O m fr to sl fa pr t (an_r wl wa t n) := by
  rcases G with ⟨e, h5⟩ | ⟨k, e, g1, g2, g3, g4, g5, g6, g7, g8⟩
  · subst e
    exact an_slow I (an_none I h5 (fun j hj => by have := I.2 j hj; omega) ht)
  · subst e
    show op_O m fr to sl fa pr t (if wl k ≤ t then sa_c wl wa t k else -1)
    split
    · rename_i h; exact g8 t h
    · rename_i h
      exact Or.inl ⟨rfl, fun x hx hF => h ((g7 t).mpr (an_fast I hx hF))⟩
theorem an_0 (I : cp_Inst m fr to sl fa pr) {t r : Int} (h : op_O m fr to sl fa pr t r) (ht : 45 ≤ t) : r = 0 := op_uniq h (an_slow I (an_45 I ht))
/-- the first deadline that the budget allows -/
theorem an_first {rr : Nat → Int} {b : Int} (hb : 0 ≤ b) (h : rr 45 = 0) : ∃ t0, t0 ≤ 45 ∧ (0 ≤ rr t0 ∧ rr t0 ≤ b) ∧ ∀ t, t < t0 → ¬ (0 ≤ rr t ∧ rr t ≤ b) := by
  obtain ⟨t0, h1, h2⟩ := pk_least (fun t => 0 ≤ rr t ∧ rr t ≤ b) ⟨45, by rw [h]; omega⟩
  refine ⟨t0, ?_, h1, h2⟩
  apply Classical.byContradiction
  intro z
  exact h2 45 (by omega) (by rw [h]; omega)
/-- the best of time and money -/
def an_b (rr : Nat → Int) (p : Int) : Nat → Int
  | 0 => -1
  | t + 1 => if rr t < 0 then an_b rr p t else if an_b rr p t < 0 then rr t + p * t else if an_b rr p t ≤ rr t + p * t then an_b rr p t else rr t + p * t
theorem an_pt {p : Int} {t k : Nat} (hp : 0 ≤ p) (h : t ≤ k) : p * t ≤ p * k := Int.mul_le_mul_of_nonneg_left (by omega) hp
theorem an_pk {p : Int} {t : Nat} (hp : 0 ≤ p ∧ p ≤ 200) (ht : t ≤ 64) : 0 ≤ p * t ∧ p * t ≤ 12800 := by
  refine ⟨Int.mul_nonneg hp.1 (by omega), ?_⟩
  have a := an_pt hp.1 ht
  omega
theorem an_bb {rr : Nat → Int} {p : Int} (hp : 0 ≤ p ∧ p ≤ 200) : ∀ t, t ≤ 64 → (∀ k, k < t → -1 ≤ rr k ∧ rr k ≤ 420) → -1 ≤ an_b rr p t ∧ an_b rr p t ≤ 13220
  | 0, _, _ => by unfold an_b; omega
  | t + 1, h1, h2 => by
    have a := an_bb hp t (by omega) (fun k hk => h2 k (by omega))
    have b := h2 t (by omega)
    have c := an_pk hp (t := t) (by omega)
    unfold an_b
    split
    · exact a
    · split
      · omega
      · split <;> omega
theorem an_b46 {rr : Nat → Int} {p : Int} (hp : 0 ≤ p) (h : ∀ t, 45 ≤ t → t < 64 → rr t = 0) : ∀ d, d ≤ 18 → an_b rr p (46 + d) = an_b rr p 46 ∧ 0 ≤ an_b rr p 46 ∧ an_b rr p 46 ≤ p * (45 : Nat)
  | 0, _ => by
    refine ⟨rfl, ?_⟩
    have e := h 45 (by omega) (by omega)
    have c : 0 ≤ p * ((45 : Nat) : Int) := Int.mul_nonneg hp (by omega)
    have : an_b rr p 46 = (if rr 45 < 0 then an_b rr p 45 else if an_b rr p 45 < 0 then rr 45 + p * (45 : Nat) else if an_b rr p 45 ≤ rr 45 + p * (45 : Nat) then an_b rr p 45 else rr 45 + p * (45 : Nat)) := rfl
    rw [this, e, if_neg (by omega)]
    split
    · omega
    · split <;> omega
  | d + 1, hd => by
    obtain ⟨a, b, c⟩ := an_b46 hp h d (by omega)
    refine ⟨?_, b, c⟩
    have e := h (46 + d) (by omega) (by omega)
    have f := an_pt hp (t := 45) (k := 46 + d) (by omega)
    show (if rr (46 + d) < 0 then an_b rr p (46 + d) else if an_b rr p (46 + d) < 0 then rr (46 + d) + p * ((46 + d : Nat) : Int) else if an_b rr p (46 + d) ≤ rr (46 + d) + p * ((46 + d : Nat) : Int) then an_b rr p (46 + d) else rr (46 + d) + p * ((46 + d : Nat) : Int)) = _
    rw [e, if_neg (by omega), a, if_neg (by omega), if_pos (by omega)]
end
section
variable {f_jobs f_known f_ways : Int32} {a_from a_to a_slow a_fast a_price a_flow a_longest a_reached a_lastLine a_wayLength a_wayAmount : Nat → Int32}
variable {m n : Nat}
def xa_O (m : Nat) (af at' as aF ap : Nat → Int32) (t r : Int) : Prop := op_O m (xs_n af) (xs_n at') (xs_i as) (xs_i aF) (xs_i ap) t r
/-- X: the cost for a deadline -/
theorem x_c4 {post : Int32 → Prop} {x1 : Int32} {K : Nat} (ht : 0 ≤ x1.toInt) (hK : K ≤ 128)
    (g2 : ∀ i, i ≤ K → 0 ≤ xs_i a_wayLength i ∧ xs_i a_wayLength i ≤ 50 ∧ xs_i a_wayLength K ≤ xs_i a_wayLength i) (g3 : ∀ i, i < K → 1 ≤ xs_i a_wayAmount i ∧ xs_i a_wayAmount i < 1000000)
    (g4 : xs_i a_wayAmount K = 1000000) (g5 : sp_S (xs_i a_wayAmount) K ≤ 392140)
    (hP : ∀ r : Int32, r.toInt = (if xs_i a_wayLength K ≤ x1.toInt then sa_c (xs_i a_wayLength) (xs_i a_wayAmount) x1.toInt K else -1) → post r) :
    ∀ d k (x2 : Int32), k + d = K → x2.toInt = sa_c (xs_i a_wayLength) (xs_i a_wayAmount) x1.toInt k → wX_costFor_4 post x1 f_jobs f_known (nI (K + 1)) a_from a_to a_slow a_fast a_price a_flow a_longest a_reached a_lastLine a_wayLength a_wayAmount (d + 2) x2 (nI k) := by
  intro d
  induction d with
  | zero =>
    intro k x2 hk h2
    have e : k = K := by omega
    subst e
    unfold wX_costFor_4
    rw [nI_clamp (n := k) (by omega)]
    refine br_f (nI_ge (by omega) (by omega)) ⟨vp_in_nI (by omega) (by omega), fun y => nm_r (nI_1 k) ?_, fun y => ⟨vp_in_nI (by omega) (by omega), br_f ?_ (hP (-1) ?_)⟩⟩
    · unfold wX_costFor_4
      have y : xs_i a_wayLength k ≤ x1.toInt := xs_le.mp y
      refine br_t (nI_le (by omega) (by omega)) (hP x2 ?_)
      rw [if_pos y]; exact h2
    · rw [xs_lt]
      have : (1000000 : Int32).toInt = 1000000 := by decide
      unfold xs_i at g4
      omega
    · have y : ¬ xs_i a_wayLength k ≤ x1.toInt := fun q => y (xs_le.mpr q)
      rw [if_neg y]; decide
  | succ d ih =>
    intro k x2 hk h2
    have hkK := g2 k (by omega)
    have hka := g3 k (by omega)
    have cb := an_cb (wl := xs_i a_wayLength) (wa := xs_i a_wayAmount) ht (k := k) (fun i hi => ⟨(g2 i (by omega)).2.1, by have := g3 i (by omega); omega⟩)
    have cb' := an_cb (wl := xs_i a_wayLength) (wa := xs_i a_wayAmount) ht (k := k + 1) (fun i hi => ⟨(g2 i (by omega)).2.1, by have := g3 i (by omega); omega⟩)
    have mo := an_mono' (g := xs_i a_wayAmount) (k := k) (n := K) (by omega) (fun j hj => by have := g3 j hj; omega)
    have mo' := an_mono' (g := xs_i a_wayAmount) (k := k + 1) (n := K) (by omega) (fun j hj => by have := g3 j hj; omega)
    have estep : sa_c (xs_i a_wayLength) (xs_i a_wayAmount) x1.toInt (k + 1) = sa_c (xs_i a_wayLength) (xs_i a_wayAmount) x1.toInt k + (if xs_i a_wayLength k ≤ x1.toInt then 0 else xs_i a_wayAmount k * (xs_i a_wayLength k - x1.toInt)) := rfl
    unfold wX_costFor_4
    rw [nI_clamp (n := k) (by omega)]
    refine br_f (nI_ge (by omega) (by omega)) ⟨vp_in_nI (by omega) (by omega), fun y => nm_r (nI_1 k) (ih (k + 1) x2 (by omega) ?_), fun y => ⟨vp_in_nI (by omega) (by omega), br_t ?_ ⟨vp_in_nI (by omega) (by omega), vp_in_nI (by omega) (by omega), nm_e (nm_r (nI_1 k) (ih (k + 1) _ (by omega) ?_))⟩⟩⟩
    · have y : xs_i a_wayLength k ≤ x1.toInt := xs_le.mp y
      rw [estep, if_pos y, h2]; omega
    · rw [xs_lt]
      have : (1000000 : Int32).toInt = 1000000 := by decide
      unfold xs_i at hka
      omega
    · rw [xs_le] at y
      have y' : ¬ xs_i a_wayLength k ≤ x1.toInt := y
      rw [if_neg y'] at estep
      have s1 : (a_wayLength k - x1).toInt = xs_i a_wayLength k - x1.toInt := xs_sub (by unfold xs_i at hkK; omega) (by unfold xs_i at hkK; omega)
      have p0 : 0 ≤ xs_i a_wayAmount k * (xs_i a_wayLength k - x1.toInt) := Int.mul_nonneg (by omega) (by omega)
      have s2 : (a_wayAmount k * (a_wayLength k - x1)).toInt = xs_i a_wayAmount k * (xs_i a_wayLength k - x1.toInt) := by
        have := xs_mul (x := a_wayAmount k) (y := a_wayLength k - x1) (by rw [s1]; show _ ≤ xs_i a_wayAmount k * _; omega) (by rw [s1]; show xs_i a_wayAmount k * _ < _; omega)
        rw [this, s1]; rfl
      rw [estep, ← s2, ← h2]
      exact xs_add (by rw [s2, h2]; omega) (by rw [s2, h2]; omega)
theorem x_cost {post : Int32 → Prop} {x1 : Int32} (O : xs_O m a_from a_to a_slow a_fast a_price) (G : xa_G m a_from a_to a_slow a_fast a_price a_wayLength a_wayAmount n) (ht : 0 ≤ x1.toInt)
    (hP : ∀ r : Int32, xa_O m a_from a_to a_slow a_fast a_price x1.toInt r.toInt → post r) : wpX_costFor post (f_jobs, f_known, nI n, a_from, a_to, a_slow, a_fast, a_price, a_flow, a_longest, a_reached, a_lastLine, a_wayLength, a_wayAmount) x1 := by
  have hO := an_O O.1 G ht
  unfold wpX_costFor
  dsimp only
  rcases G with ⟨e, h5⟩ | ⟨k, e, g1, g2, g3, g4, g5, g6, g7, g8⟩
  · subst e
    refine ⟨1, ?_⟩
    unfold wX_costFor_4
    exact br_t (nI_le (a := 0) (b := 0) (by omega) (by omega)) (hP 0 hO)
  · subst e
    refine ⟨k + 2, x_c4 ht g1 g2 g3 g4 g5 (fun r hr => hP r ?_) k 0 0 (by omega) rfl⟩
    unfold xa_O
    rw [hr]
    exact hO
/-- X: the first deadline within the budget -/
theorem x_12 {post : Int32 → SX → Prop} {x1 : Int32} {rr : Nat → Int} {t0 : Nat} (O : xs_O m a_from a_to a_slow a_fast a_price) (G : xa_G m a_from a_to a_slow a_fast a_price a_wayLength a_wayAmount n)
    (hr : ∀ t : Nat, xa_O m a_from a_to a_slow a_fast a_price t (rr t)) (h45 : t0 ≤ 45) (h1 : 0 ≤ rr t0 ∧ rr t0 ≤ x1.toInt) (h2 : ∀ t, t < t0 → ¬ (0 ≤ rr t ∧ rr t ≤ x1.toInt)) (hP : post (nI t0) (f_jobs, f_known, nI n, a_from, a_to, a_slow, a_fast, a_price, a_flow, a_longest, a_reached, a_lastLine, a_wayLength, a_wayAmount)) :
    ∀ d t, t + d = t0 → wX_within_12 post x1 f_jobs f_known (nI n) a_from a_to a_slow a_fast a_price a_flow a_longest a_reached a_lastLine a_wayLength a_wayAmount (d + 1) (nI t) := by
  have z0 : (0 : Int32).toInt = 0 := rfl
  intro d
  induction d with
  | zero =>
    intro t ht
    have e : t = t0 := by omega
    subst e
    unfold wX_within_12
    refine br_f (nI_nlt (a := 45) (by omega) (by omega)) (x_cost O G (by rw [nI_toInt (by omega)]; omega) (fun r hO => ?_))
    rw [nI_toInt (by omega)] at hO
    have er := op_uniq hO (hr t)
    refine br_f ?_ (br_f ?_ hP)
    · rw [xs_lt, z0]; omega
    · rw [xs_lt]; omega
  | succ d ih =>
    intro t ht
    have hn := h2 t (by omega)
    unfold wX_within_12
    refine br_f (nI_nlt (a := 45) (by omega) (by omega)) (x_cost O G (by rw [nI_toInt (by omega)]; omega) (fun r hO => ?_))
    rw [nI_toInt (by omega)] at hO
    have er := op_uniq hO (hr t)
    refine ⟨fun y => nm_r (nI_1 t) (ih (t + 1) (by omega)), fun y => ⟨fun y2 => nm_r (nI_1 t) (ih (t + 1) (by omega)), fun y2 => ?_⟩⟩
    rw [xs_lt, z0] at y
    rw [xs_lt] at y2
    exact absurd ⟨by omega, by omega⟩ hn
/-- X: the best total -/
theorem x_21 {post : Int32 → SX → Prop} {x1 : Int32} {rr : Nat → Int} (O : xs_O m a_from a_to a_slow a_fast a_price) (G : xa_G m a_from a_to a_slow a_fast a_price a_wayLength a_wayAmount n)
    (hr : ∀ t : Nat, xa_O m a_from a_to a_slow a_fast a_price t (rr t)) (hp : 0 ≤ x1.toInt ∧ x1.toInt ≤ 200) (hP : ∀ r : Int32, r.toInt = an_b rr x1.toInt 46 → post r (f_jobs, f_known, nI n, a_from, a_to, a_slow, a_fast, a_price, a_flow, a_longest, a_reached, a_lastLine, a_wayLength, a_wayAmount)) :
    ∀ d t (x2 : Int32), t + d = 46 → x2.toInt = an_b rr x1.toInt t → wX_total_21 post x1 f_jobs f_known (nI n) a_from a_to a_slow a_fast a_price a_flow a_longest a_reached a_lastLine a_wayLength a_wayAmount (d + 1) x2 (nI t) := by
  have z0 : (0 : Int32).toInt = 0 := rfl
  intro d
  induction d with
  | zero =>
    intro t x2 ht h2
    have e : t = 46 := by omega
    subst e
    unfold wX_total_21
    exact br_t (nI_lt (a := 45) (by omega) (by omega)) (hP x2 h2)
  | succ d ih =>
    intro t x2 ht h2
    have rb := fun k => op_r420 O.1 (hr k)
    have bb := an_bb (rr := rr) hp t (by omega) (fun k _ => rb k)
    have pk := an_pk hp (t := t) (by omega)
    have et := nI_toInt (n := t) (by omega)
    have em : (x1 * nI t).toInt = x1.toInt * t := by
      have := xs_mul (x := x1) (y := nI t) (by rw [et]; omega) (by rw [et]; omega)
      rw [this, et]
    unfold wX_total_21
    refine br_f (nI_nlt (a := 45) (by omega) (by omega)) (x_cost O G (by rw [et]; omega) (fun r hO => ?_))
    rw [et] at hO
    have er := op_uniq hO (hr t)
    have rt := rb t
    have es : (r + x1 * nI t).toInt = rr t + x1.toInt * t := by
      have := xs_add (x := r) (y := x1 * nI t) (by rw [em]; omega) (by rw [em]; omega)
      rw [this, em, er]
    have eb : an_b rr x1.toInt (t + 1) = (if rr t < 0 then an_b rr x1.toInt t else if an_b rr x1.toInt t < 0 then rr t + x1.toInt * t else if an_b rr x1.toInt t ≤ rr t + x1.toInt * t then an_b rr x1.toInt t else rr t + x1.toInt * t) := rfl
    refine ⟨fun y => nm_r (nI_1 t) (ih (t + 1) x2 (by omega) ?_), fun y => ⟨fun y2 => ?_, fun y2 => ⟨fun y3 => nm_r (nI_1 t) (ih (t + 1) x2 (by omega) ?_), fun y3 => ?_⟩⟩⟩
    · rw [xs_lt, z0] at y
      rw [eb, if_pos (by omega), h2]
    · rw [xs_lt, z0] at y y2
      unfold wX_total_53
      refine nm_e (nm_r (nI_1 t) (ih (t + 1) _ (by omega) ?_))
      rw [eb, if_neg (by omega), if_pos (by omega), es]
    · rw [xs_lt, z0] at y y2
      rw [xs_le, es] at y3
      rw [eb, if_neg (by omega), if_neg (by omega), if_pos (by omega), h2]
    · rw [xs_lt, z0] at y y2
      rw [xs_le, es] at y3
      unfold wX_total_53
      refine nm_e (nm_r (nI_1 t) (ih (t + 1) _ (by omega) ?_))
      rw [eb, if_neg (by omega), if_neg (by omega), if_neg (by omega), es]
end
end
section
/-! Y: the length of a plan -/
section
variable {m : Nat} {fr to : Nat → Nat} {sl fa pr : Nat → Int} {t t' : Nat → Int} {Lt : Nat → Int} {e i : Nat}
/-- r is the length with the times t -/
def ys_S (m : Nat) (fr to : Nat → Nat) (t : Nat → Int) (r : Int) : Prop := 0 ≤ r ∧ r ≤ 45 ∧ ∀ T : Int, 0 ≤ T → (r ≤ T ↔ op_Fit m fr to t T)
theorem ys_fit (h : ∀ j, j < m → t j = t' j) {T : Int} (hf : op_Fit m fr to t T) : op_Fit m fr to t' T := by
  obtain ⟨e, e0, e1, e2⟩ := hf
  exact ⟨e, e0, fun j hj hr => by rw [← h j hj]; exact e1 j hj hr, e2⟩
theorem ys_congr (h : ∀ j, j < m → t j = t' j) {r : Int} (hs : ys_S m fr to t r) : ys_S m fr to t' r :=
  ⟨hs.1, hs.2.1, fun T hT => (hs.2.2 T hT).trans ⟨ys_fit h, ys_fit (fun j hj => (h j hj).symm)⟩⟩
theorem ys_uniq {r r' : Int} (h : ys_S m fr to t r) (h' : ys_S m fr to t r') : r = r' := by
  have a := (h.2.2 r' h'.1).mpr ((h'.2.2 r' h'.1).mp (Int.le_refl _))
  have b := (h'.2.2 r h.1).mpr ((h.2.2 r h.1).mp (Int.le_refl _))
  omega
def yl_e (m : Nat) (fr to : Nat → Nat) (t : Nat → Int) (e : Nat → Int) : Prop := e 0 = 0 ∧ ∀ j, j < m → cp_Rc m fr to (fr j) → e (fr j) + t j ≤ e (to j)
def yl_I (m : Nat) (fr to : Nat → Nat) (t : Nat → Int) (e i : Nat) (Lt : Nat → Int) : Prop :=
  Lt 0 = 0 ∧ (∀ v, v < 6 → -1 ≤ Lt v ∧ Lt v ≤ 9 * (v : Int)) ∧
  (∀ v, v < 6 → 0 ≤ Lt v → cp_Rc m fr to v ∧ ∀ e', yl_e m fr to t e' → Lt v ≤ e' v) ∧
  ∀ j, j < m → (fr j < e ∨ (fr j = e ∧ j < i)) → 0 ≤ Lt (fr j) → Lt (fr j) + t j ≤ Lt (to j)
theorem yl_0 (h0 : Lt 0 = 0) (h : ∀ v, v < 6 → v ≠ 0 → Lt v = -1) : yl_I m fr to t 0 0 Lt := by
  refine ⟨h0, fun v hv => ?_, fun v hv h1 => ?_, fun j hj z => ?_⟩
  · by_cases e : v = 0
    · rw [e, h0]; omega
    · rw [h v hv e]; omega
  · by_cases e : v = 0
    · rw [e, h0]
      exact ⟨cp_Rc0, fun e' he => by rw [he.1]; exact Int.le_refl _⟩
    · rw [h v hv e] at h1; omega
  · omega
theorem yl_next (I : yl_I m fr to t e m Lt) : yl_I m fr to t (e + 1) 0 Lt :=
  ⟨I.1, I.2.1, I.2.2.1, fun j hj z h => I.2.2.2 j hj (by omega) h⟩
theorem yl_keep (I : yl_I m fr to t e i Lt) (h : fr i = e → 0 ≤ Lt (fr i) → Lt (fr i) + t i ≤ Lt (to i)) : yl_I m fr to t e (i + 1) Lt := by
  refine ⟨I.1, I.2.1, I.2.2.1, fun j hj z h1 => ?_⟩
  by_cases q : j = i
  · subst q
    by_cases q2 : fr j = e
    · exact h q2 h1
    · exact I.2.2.2 j hj (by omega) h1
  · exact I.2.2.2 j hj (by omega) h1
theorem yl_upd (hI : cp_Inst m fr to sl fa pr) (I : yl_I m fr to t e i Lt) {Lt' : Nat → Int} (hi : i < m) (ht : 0 ≤ t i ∧ t i ≤ 9) (he : fr i = e) (h0 : 0 ≤ Lt e) (hlt : Lt (to i) < Lt e + t i)
    (h1 : Lt' (to i) = Lt e + t i) (h2 : ∀ v, v ≠ to i → Lt' v = Lt v) : yl_I m fr to t e (i + 1) Lt' := by
  obtain ⟨i1, i2, i3, i4⟩ := I
  obtain ⟨c1, c2, _⟩ := hI.2 i hi
  have be := i2 e (by omega)
  have re := i3 e (by omega) h0
  refine ⟨by rw [h2 0 (by omega)]; exact i1, fun v hv => ?_, fun v hv hv0 => ?_, fun j hj z hj0 => ?_⟩
  · by_cases q : v = to i
    · rw [q, h1]; omega
    · rw [h2 v q]; exact i2 v hv
  · by_cases q : v = to i
    · rw [q, h1]
      have rc : cp_Rc m fr to (fr i) := by rw [he]; exact re.1
      refine ⟨cp_Rcs hi rc, fun e' he' => ?_⟩
      have a := re.2 e' he'
      have b := he'.2 i hi rc
      rw [he] at b
      omega
    · rw [h2 v q] at hv0 ⊢
      exact i3 v hv hv0
  · have q1 : fr j ≠ to i := by omega
    rw [h2 _ q1] at hj0 ⊢
    by_cases q : to j = to i
    · rw [q, h1]
      by_cases q2 : j = i
      · rw [q2, he]; omega
      · have := i4 j hj (by omega) hj0
        rw [q] at this
        omega
    · rw [h2 _ q]
      by_cases q2 : j = i
      · rw [q2] at q; exact absurd rfl q
      · exact i4 j hj (by omega) hj0
theorem yl_end (hI : cp_Inst m fr to sl fa pr) (ht : ∀ j, j < m → 0 ≤ t j) (I : yl_I m fr to t 5 0 Lt) : ys_S m fr to t (if 0 ≤ Lt 5 then Lt 5 else 0) := by
  obtain ⟨i1, i2, i3, i4⟩ := I
  have cl : ∀ j, j < m → 0 ≤ Lt (fr j) → Lt (fr j) + t j ≤ Lt (to j) := fun j hj h => i4 j hj (by have := hI.2 j hj; omega) h
  have b5 := i2 5 (by omega)
  refine ⟨by split <;> omega, by split <;> omega, fun T hT => ⟨fun h => ?_, fun h => ?_⟩⟩
  · have nn : ∀ v, cp_Rc m fr to v → 0 ≤ Lt v := fun v hv => hv (fun v => 0 ≤ Lt v) (by rw [i1]; exact Int.le_refl _) (fun j hj h => by have a := cl j hj h; have b := ht j hj; omega)
    refine ⟨Lt, i1, fun j hj hr => cl j hj (nn _ hr), ?_⟩
    split at h <;> omega
  · obtain ⟨e, e0, e1, e2⟩ := h
    split
    · rename_i z
      have := (i3 5 (by omega) z).2 e ⟨e0, e1⟩
      omega
    · exact hT
end
section
variable {f_held : Int32} {a_froms a_tos a_slows a_fasts a_prices a_times a_late a_cheapest : Nat → Int32}
variable {m : Nat}
theorem y_38 {post : Int32 → SY → Prop} {J : Int32 → (Nat → Int32) → (Nat → Int32) → (Nat → Int32) → (Nat → Int32) → (Nat → Int32) → (Nat → Int32) → (Nat → Int32) → (Nat → Int32) → Prop} {e : Nat}
    (O : xs_O m a_froms a_tos a_slows a_fasts a_prices) (ht : ∀ j, j < m → 0 ≤ xs_i a_times j ∧ xs_i a_times j ≤ 9) (he : e < 5)
    (hJ : ∀ la, yl_I m (xs_n a_froms) (xs_n a_tos) (xs_i a_times) (e + 1) 0 (xs_i la) → J (nI (e + 1)) a_froms a_tos a_slows a_fasts a_prices a_times la a_cheapest) :
    ∀ d i la, i + d = m → yl_I m (xs_n a_froms) (xs_n a_tos) (xs_i a_times) e i (xs_i la) → wY_length_38 post J (nI e) (nI m) (d + 1) (nI i) a_froms a_tos a_slows a_fasts a_prices a_times la a_cheapest := by
  have m7 := O.1.1
  have z0 : (0 : Int32).toInt = 0 := rfl
  intro d
  induction d with
  | zero =>
    intro i la hi I
    have q : i = m := by omega
    subst q
    unfold wY_length_38
    exact br_t (nI_le (by omega) (by omega)) (nm_r (nI_1 e) (hJ la (yl_next I)))
  | succ d ih =>
    intro i la hi I
    obtain ⟨n1, n2⟩ := O.2 i (by omega)
    obtain ⟨c1, c2, _⟩ := O.1.2 i (by omega)
    have hti := ht i (by omega)
    have b1 := I.2.1 e (by omega)
    unfold wY_length_38
    rw [nI_clamp (n := i) (by omega), nI_clamp (n := e) (by omega), n1, n2, nI_clamp (n := xs_n a_tos i) (by omega)]
    have eadd : (la e + a_times i).toInt = xs_i la e + xs_i a_times i := by
      unfold xs_i at b1 hti ⊢
      exact xs_add (by omega) (by omega)
    refine br_f (nI_ge (by omega) (by omega)) ⟨vp_in_nI (by omega) (by omega), fun y => ⟨vp_in_nI (by omega) (by omega), fun y2 => nm_r (nI_1 i) (ih (i + 1) la (by omega) (yl_keep I ?_)), fun y2 => ⟨vp_in_nI (by omega) (by omega), vp_in_nI (by omega) (by omega), vp_in_nI (by omega) (by omega), vp_in_nI (by omega) (by omega), fun y3 => nm_r (nI_1 i) (ih (i + 1) la (by omega) (yl_keep I ?_)), fun y3 => ⟨vp_in_nI (by omega) (by omega), vp_in_nI (by omega) (by omega), vp_in_nI (by omega) (by omega), vp_in_nI (by omega) (by omega), nm_e (nm_r (nI_1 i) (ih (i + 1) _ (by omega) ?_))⟩⟩⟩, fun y => nm_r (nI_1 i) (ih (i + 1) la (by omega) (yl_keep I ?_))⟩
    · have q := (nI_eq (by omega) (by omega)).mp y
      rw [xs_lt, z0] at y2
      intro _ h
      rw [q] at h
      unfold xs_i at h
      omega
    · have q := (nI_eq (by omega) (by omega)).mp y
      rw [xs_le, eadd] at y3
      intro _ _
      rw [q]
      exact y3
    · have q := (nI_eq (by omega) (by omega)).mp y
      rw [xs_lt, z0] at y2
      rw [xs_le, eadd] at y3
      refine yl_upd O.1 I (by omega) hti q (by unfold xs_i; omega) (by unfold xs_i at y3 ⊢; omega) ?_ ?_
      · unfold xs_i
        rw [pk_us]; exact eadd
      · intro v hv
        unfold xs_i
        rw [pk_un hv]
    · intro h
      exact absurd (by rw [h]) y
theorem y_31 {post : Int32 → SY → Prop} (O : xs_O m a_froms a_tos a_slows a_fasts a_prices) (ht : ∀ j, j < m → 0 ≤ xs_i a_times j ∧ xs_i a_times j ≤ 9)
    (hP : ∀ la (r : Int32), ys_S m (xs_n a_froms) (xs_n a_tos) (xs_i a_times) r.toInt → post r (nI m, a_froms, a_tos, a_slows, a_fasts, a_prices, a_times, la, a_cheapest)) :
    ∀ d e la, e + d = 5 → yl_I m (xs_n a_froms) (xs_n a_tos) (xs_i a_times) e 0 (xs_i la) → wY_length_31 post (nI m) (d + 1) (nI e) a_froms a_tos a_slows a_fasts a_prices a_times la a_cheapest := by
  have z0 : (0 : Int32).toInt = 0 := rfl
  intro d
  induction d with
  | zero =>
    intro e la he I
    have q : e = 5 := by omega
    subst q
    have S := yl_end O.1 (fun j hj => (ht j hj).1) I
    unfold wY_length_31
    refine br_t (nI_le (a := 5) (by omega) (by omega)) ⟨fun y => hP la _ ?_, fun y => hP la _ ?_⟩
    · rw [xs_le, z0] at y
      have y' : 0 ≤ xs_i la 5 := y
      rw [if_pos y'] at S
      exact S
    · rw [xs_le, z0] at y
      have y' : ¬ 0 ≤ xs_i la 5 := y
      rw [if_neg y'] at S
      exact S
  | succ d ih =>
    intro e la he I
    unfold wY_length_31
    refine br_f (nI_ge (b := 5) (by omega) (by omega)) ⟨m + 1, ?_⟩
    exact y_38 O ht (by omega) (fun la' I' => ih (e + 1) la' (by omega) I') m 0 la (by omega) I
theorem y_2 {post : Int32 → SY → Prop} 
    (hP : ∀ la, xs_i la 0 = 0 → (∀ v, v < 6 → v ≠ 0 → xs_i la v = -1) → ∃ n31, wY_length_31 post f_held n31 0 a_froms a_tos a_slows a_fasts a_prices a_times la a_cheapest) :
    ∀ d i la, i + d = 6 → (∀ v, v < i → xs_i la v = (if v = 0 then 0 else -1)) → wY_length_2 post f_held (d + 1) (nI i) a_froms a_tos a_slows a_fasts a_prices a_times la a_cheapest := by
  intro d
  induction d with
  | zero =>
    intro i la hi h
    unfold wY_length_2
    exact br_t (nI_le (a := 6) (by omega) (by omega)) (hP la (by rw [h 0 (by omega), if_pos rfl]) (fun v hv v0 => by rw [h v (by omega), if_neg v0]))
  | succ d ih =>
    intro i la hi h
    unfold wY_length_2
    rw [nI_clamp (n := i) (by omega)]
    have hi0 : nI i = 0 ↔ i = 0 := nI_eq (b := 0) (by omega) (by omega)
    refine br_f (nI_ge (b := 6) (by omega) (by omega)) ⟨fun y => ⟨vp_in_nI (by omega) (by omega), nm_e (nm_r (nI_1 i) (ih (i + 1) _ (by omega) (fun v hv => ?_)))⟩, fun y => ⟨vp_in_nI (by omega) (by omega), nm_e (nm_r (nI_1 i) (ih (i + 1) _ (by omega) (fun v hv => ?_)))⟩⟩
    · by_cases q : v = i
      · rw [q, xa_up.1, if_pos (hi0.mp y)]; rfl
      · rw [xa_up.2 v (by omega)]; exact h v (by omega)
    · by_cases q : v = i
      · rw [q, xa_up.1, if_neg (fun z => y (hi0.mpr z))]; rfl
      · rw [xa_up.2 v (by omega)]; exact h v (by omega)
/-- Y: the length with the present times -/
theorem y_len {post : Int32 → SY → Prop} (O : xs_O m a_froms a_tos a_slows a_fasts a_prices) (ht : ∀ j, j < m → 0 ≤ xs_i a_times j ∧ xs_i a_times j ≤ 9)
    (hP : ∀ la (r : Int32), ys_S m (xs_n a_froms) (xs_n a_tos) (xs_i a_times) r.toInt → post r (nI m, a_froms, a_tos, a_slows, a_fasts, a_prices, a_times, la, a_cheapest)) : wpY_length post (nI m, a_froms, a_tos, a_slows, a_fasts, a_prices, a_times, a_late, a_cheapest) := by
  unfold wpY_length
  dsimp only
  exact ⟨7, y_2 (fun la h0 h1 => ⟨6, y_31 O ht hP 5 0 la (by omega) (yl_0 h0 h1)⟩) 6 0 a_late (by omega) (fun v hv => by omega)⟩
end
end
section
/-! Y: plans by number, the curve, the cost for a deadline -/
theorem yp_sl : ∀ n, n < 32 → ((nI n &&& 31).toBitVec.smod 32).toNat = n := by decide +kernel
/-- the digits of a number to the base four -/
def yp_x (N j : Nat) : Int := ((N / 4 ^ j % 4 : Nat) : Int)
theorem yp_ex : ∀ (m : Nat) (x : Nat → Nat), (∀ j, j < m → x j < 4) → ∃ N, N < 4 ^ m ∧ ∀ j, j < m → N / 4 ^ j % 4 = x j
  | 0, _, _ => ⟨0, by decide, fun j h => absurd h (by omega)⟩
  | m + 1, x, h => by
    obtain ⟨N, h1, h2⟩ := yp_ex m x (fun j hj => h j (by omega))
    have xm := h m (by omega)
    have pm : 0 < 4 ^ m := Nat.pow_pos (by omega)
    refine ⟨N + 4 ^ m * x m, ?_, fun j hj => ?_⟩
    · rw [Nat.pow_succ]
      have : 4 ^ m * x m ≤ 4 ^ m * 3 := Nat.mul_le_mul_left _ (by omega)
      omega
    · by_cases e : j = m
      · subst e
        rw [Nat.add_mul_div_left _ _ pm, Nat.div_eq_of_lt h1, Nat.zero_add, Nat.mod_eq_of_lt xm]
      · have hj' : j < m := by omega
        have pj : 0 < 4 ^ j := Nat.pow_pos (by omega)
        have e4 : 4 ^ m * x m = 4 ^ j * (4 * (4 ^ (m - j - 1) * x m)) := by
          rw [show 4 ^ m = 4 ^ j * (4 * 4 ^ (m - j - 1)) by rw [← Nat.pow_succ', ← Nat.pow_add]; congr 1; omega, Nat.mul_assoc, Nat.mul_assoc]
        rw [e4, Nat.add_mul_div_left _ _ pj, Nat.add_mul_mod_self_left, h2 j hj']
theorem yp_ix {m : Nat} {sl fa : Nat → Int} {fr to : Nat → Nat} {pr : Nat → Int} (I : cp_Inst m fr to sl fa pr) {x : Nat → Int} (hx : op_V m sl fa x) : ∃ N, N < 4 ^ m ∧ ∀ j, j < m → yp_x N j = x j := by
  obtain ⟨N, h1, h2⟩ := yp_ex m (fun j => (x j).toNat) (fun j hj => by have := hx j hj; have := I.2 j hj; omega)
  refine ⟨N, h1, fun j hj => ?_⟩
  have a := h2 j hj
  have b := (hx j hj).1
  unfold yp_x
  rw [a]
  omega
theorem yp_4 (i : Nat) : 2 ^ (2 * i) = 4 ^ i := by rw [Nat.pow_mul]
section
variable {f_held : Int32} {a_froms a_tos a_slows a_fasts a_prices a_times a_late a_cheapest : Nat → Int32}
variable {m : Nat}
theorem yp_bits {N i : Nat} (hN : N < 2 ^ 31) (hi : i < 7) : (nI N >>> ((2 * nI i) &&& 31)) &&& 3 = nI (N / 4 ^ i % 4) := by
  have e : (2 : Int32) * nI i = nI (2 * i) := pk_mul 2 i
  rw [e, pk_shrN hN _ (2 * i) (yp_sl (2 * i) (by omega)), yp_4]
  exact pk_andN (m := 3) (Nat.lt_of_le_of_lt (Nat.div_le_self _ _) (by omega)) 2 (by decide)
/-- Y: the plan with the number N -/
theorem y_4 {post : Int32 → SY → Prop} {N : Nat} (hN : N < 2 ^ 31) (O : xs_O m a_froms a_tos a_slows a_fasts a_prices)
    (hP1 : op_V m (xs_i a_slows) (xs_i a_fasts) (yp_x N) → ∀ tm (r : Int32), (∀ j, j < m → xs_i tm j = xs_i a_slows j - yp_x N j) → r.toInt = op_c m (xs_i a_prices) (yp_x N) → post r (nI m, a_froms, a_tos, a_slows, a_fasts, a_prices, tm, a_late, a_cheapest))
    (hP2 : ¬ op_V m (xs_i a_slows) (xs_i a_fasts) (yp_x N) → ∀ tm, post (-1) (nI m, a_froms, a_tos, a_slows, a_fasts, a_prices, tm, a_late, a_cheapest)) :
    ∀ d i tm (x2 : Int32), i + d = m → op_V i (xs_i a_slows) (xs_i a_fasts) (yp_x N) → (∀ j, j < i → xs_i tm j = xs_i a_slows j - yp_x N j) → x2.toInt = op_c i (xs_i a_prices) (yp_x N) →
      wY_plan_4 post (nI N) (nI m) (d + 1) x2 (nI i) a_froms a_tos a_slows a_fasts a_prices tm a_late a_cheapest := by
  have m7 := O.1.1
  intro d
  induction d with
  | zero =>
    intro i tm x2 hi hV ht h2
    have q : i = m := by omega
    subst q
    unfold wY_plan_4
    exact br_t (nI_le (by omega) (by omega)) (hP1 hV tm x2 ht h2)
  | succ d ih =>
    intro i tm x2 hi hV ht h2
    unfold wY_plan_4
    rw [nI_clamp (n := i) (by omega)]
    have c := O.1.2 i (by omega)
    have bx : 0 ≤ yp_x N i ∧ yp_x N i ≤ 3 := by unfold yp_x; omega
    have ex : (nI (N / 4 ^ i % 4)).toInt = yp_x N i := nI_toInt (by omega)
    refine br_f (nI_ge (by omega) (by omega)) (nm_r (yp_bits hN (by omega)) ⟨vp_in_nI (by omega) (by omega), vp_in_nI (by omega) (by omega), nm_e ⟨vp_in_nI (by omega) (by omega), vp_in_nI (by omega) (by omega), ?_⟩⟩)
    rw [pk_us]
    have es : (a_slows i - nI (N / 4 ^ i % 4)).toInt = xs_i a_slows i - yp_x N i := by
      have := xs_sub (x := a_slows i) (y := nI (N / 4 ^ i % 4)) (by rw [ex]; unfold xs_i at c; omega) (by rw [ex]; unfold xs_i at c; omega)
      rw [this, ex]; rfl
    have pm : 0 ≤ xs_i a_prices i * yp_x N i ∧ xs_i a_prices i * yp_x N i ≤ 60 := by
      refine ⟨Int.mul_nonneg (by omega) bx.1, ?_⟩
      have : xs_i a_prices i * yp_x N i ≤ 20 * yp_x N i := Int.mul_le_mul_of_nonneg_right (by omega) bx.1
      omega
    have em : (a_prices i * nI (N / 4 ^ i % 4)).toInt = xs_i a_prices i * yp_x N i := by
      have := xs_mul (x := a_prices i) (y := nI (N / 4 ^ i % 4)) (by rw [ex]; show _ ≤ xs_i a_prices i * _; omega) (by rw [ex]; show xs_i a_prices i * _ < _; omega)
      rw [this, ex]; rfl
    have Ii : cp_Inst i (xs_n a_froms) (xs_n a_tos) (xs_i a_slows) (xs_i a_fasts) (xs_i a_prices) := ⟨by omega, fun j hj => O.1.2 j (by omega)⟩
    have cl := op_cle Ii hV
    refine ⟨fun y => ⟨vp_in_nI (by omega) (by omega), nm_e (nm_r (nI_1 i) (ih (i + 1) _ _ (by omega) ?_ ?_ ?_))⟩, fun y => hP2 ?_ _⟩
    · rw [xs_le, es] at y
      intro j hj
      by_cases q : j = i
      · rw [q]
        have y' : xs_i a_fasts i ≤ xs_i a_slows i - yp_x N i := y
        omega
      · exact hV j (by omega)
    · intro j hj
      by_cases q : j = i
      · rw [q, xa_up.1]; exact es
      · rw [xa_up.2 j (by omega)]; exact ht j (by omega)
    · have : op_c (i + 1) (xs_i a_prices) (yp_x N) = op_c i (xs_i a_prices) (yp_x N) + xs_i a_prices i * yp_x N i := rfl
      rw [this, ← em, ← h2]
      exact xs_add (by rw [em, h2]; omega) (by rw [em, h2]; omega)
    · rw [xs_le, es] at y
      intro hV'
      have := hV' i (by omega)
      have y' : ¬ xs_i a_fasts i ≤ xs_i a_slows i - yp_x N i := y
      omega
theorem y_plan {post : Int32 → SY → Prop} {N : Nat} (hN : N < 2 ^ 31) (O : xs_O m a_froms a_tos a_slows a_fasts a_prices)
    (hP1 : op_V m (xs_i a_slows) (xs_i a_fasts) (yp_x N) → ∀ tm (r : Int32), (∀ j, j < m → xs_i tm j = xs_i a_slows j - yp_x N j) → r.toInt = op_c m (xs_i a_prices) (yp_x N) → post r (nI m, a_froms, a_tos, a_slows, a_fasts, a_prices, tm, a_late, a_cheapest))
    (hP2 : ¬ op_V m (xs_i a_slows) (xs_i a_fasts) (yp_x N) → ∀ tm, post (-1) (nI m, a_froms, a_tos, a_slows, a_fasts, a_prices, tm, a_late, a_cheapest)) : wpY_plan post (nI m, a_froms, a_tos, a_slows, a_fasts, a_prices, a_times, a_late, a_cheapest) (nI N) := by
  unfold wpY_plan
  dsimp only
  exact ⟨m + 1, y_4 hN O hP1 hP2 m 0 a_times 0 (by omega) (fun j hj => by omega) (fun j hj => by omega) rfl⟩
/-- the cheapest plans of each length, among the first N -/
def yc_I (m : Nat) (fr to : Nat → Nat) (sl fa pr : Nat → Int) (N : Nat) (ch : Nat → Int) : Prop :=
  (∀ t, t < 64 → -1 ≤ ch t ∧ ch t ≤ 420) ∧
  (∀ k, k < N → op_V m sl fa (yp_x k) → ∃ t : Nat, t < 64 ∧ ys_S m fr to (fun j => sl j - yp_x k j) t ∧ 0 ≤ ch t ∧ ch t ≤ op_c m pr (yp_x k)) ∧
  ∀ t : Nat, t < 64 → 0 ≤ ch t → ∃ x, op_V m sl fa x ∧ ys_S m fr to (fun j => sl j - x j) t ∧ op_c m pr x = ch t
def yc_J (m : Nat) (af at' as aF ap : Nat → Int32) (N : Nat) (ch : Nat → Int32) : Prop := yc_I m (xs_n af) (xs_n at') (xs_i as) (xs_i aF) (xs_i ap) N (xs_i ch)
theorem yc_skip {fr to : Nat → Nat} {sl fa pr : Nat → Int} {N : Nat} {ch : Nat → Int} (h : yc_I m fr to sl fa pr N ch) (hV : ¬ op_V m sl fa (yp_x N)) : yc_I m fr to sl fa pr (N + 1) ch := by
  refine ⟨h.1, fun k hk hv => ?_, h.2.2⟩
  by_cases q : k = N
  · rw [q] at hv; exact absurd hv hV
  · exact h.2.1 k (by omega) hv
theorem yc_keep {fr to : Nat → Nat} {sl fa pr : Nat → Int} {N t : Nat} {ch : Nat → Int} (h : yc_I m fr to sl fa pr N ch) (ht : t < 64) (hS : ys_S m fr to (fun j => sl j - yp_x N j) t) (h0 : 0 ≤ ch t) (h1 : ch t ≤ op_c m pr (yp_x N)) : yc_I m fr to sl fa pr (N + 1) ch := by
  refine ⟨h.1, fun k hk hv => ?_, h.2.2⟩
  by_cases q : k = N
  · rw [q]; exact ⟨t, ht, hS, h0, h1⟩
  · exact h.2.1 k (by omega) hv
theorem yc_set {fr to : Nat → Nat} {sl fa pr : Nat → Int} {N t : Nat} {ch ch' : Nat → Int} (I : cp_Inst m fr to sl fa pr) (h : yc_I m fr to sl fa pr N ch) (hV : op_V m sl fa (yp_x N)) (ht : t < 64) (hS : ys_S m fr to (fun j => sl j - yp_x N j) t) (h0 : ch t < 0 ∨ op_c m pr (yp_x N) ≤ ch t)
    (h1 : ch' t = op_c m pr (yp_x N)) (h2 : ∀ k, k ≠ t → ch' k = ch k) : yc_I m fr to sl fa pr (N + 1) ch' := by
  have cl := op_cle I hV
  refine ⟨fun k hk => ?_, fun k hk hv => ?_, fun k hk h0 => ?_⟩
  · by_cases q : k = t
    · rw [q, h1]; omega
    · rw [h2 k q]; exact h.1 k hk
  · by_cases q : k = N
    · rw [q]; exact ⟨t, ht, hS, by omega, by omega⟩
    · obtain ⟨s, s1, s2, s3, s4⟩ := h.2.1 k (by omega) hv
      refine ⟨s, s1, s2, ?_⟩
      by_cases q2 : s = t
      · rw [q2] at s3 s4 ⊢
        rw [h1]; omega
      · rw [h2 s q2]; exact ⟨s3, s4⟩
  · by_cases q : k = t
    · rw [q]; exact ⟨yp_x N, hV, hS, h1.symm⟩
    · rw [h2 k q] at h0 ⊢
      exact h.2.2 k hk h0
/-- Y: all plans -/
theorem y_32 {post : SY → Prop} (O : xs_O m a_froms a_tos a_slows a_fasts a_prices)
    (hP : ∀ tm la ch, yc_J m a_froms a_tos a_slows a_fasts a_prices (4 ^ m) ch → post (nI m, a_froms, a_tos, a_slows, a_fasts, a_prices, tm, la, ch)) :
    ∀ d N tm la ch, N + d = 4 ^ m → yc_J m a_froms a_tos a_slows a_fasts a_prices N ch → wY_curve_32 post (nI (4 ^ m)) (d + 1) (nI N) (nI m) a_froms a_tos a_slows a_fasts a_prices tm la ch := by
  have m7 := O.1.1
  have p4 : 4 ^ m ≤ 4 ^ 7 := Nat.pow_le_pow_right (by omega) m7
  have p7 : (4 : Nat) ^ 7 = 16384 := by decide
  have z0 : (0 : Int32).toInt = 0 := rfl
  intro d
  induction d with
  | zero =>
    intro N tm la ch hN C
    have q : N = 4 ^ m := by omega
    subst q
    unfold wY_curve_32
    exact br_t (nI_le (by omega) (by omega)) (hP tm la ch C)
  | succ d ih =>
    intro N tm la ch hN C
    unfold wY_curve_32
    refine br_f (nI_ge (by omega) (by omega)) (y_plan (by omega) O (fun hV tm' r hT hr => ?_) (fun hV tm' => ?_))
    · dsimp only
      have cl := op_cle O.1 hV
      refine br_t (by rw [xs_le, z0]; omega) (y_len O (fun j hj => ?_) (fun la' r' S => ?_))
      · have c := O.1.2 j hj
        have v := hV j hj
        rw [hT j hj]; omega
      · dsimp only
        have S' := ys_congr (t' := fun j => xs_i a_slows j - yp_x N j) hT S
        have hc := C.1
        obtain ⟨t, ht, rfl⟩ : ∃ t : Nat, t < 64 ∧ r' = nI t := vp_in_of (n := 64) (vp_in_iff.mpr ⟨S.1, by have := S.2.1; omega⟩) (by omega)
        rw [nI_toInt (by omega)] at S'
        unfold wY_curve_55
        rw [nI_clamp (n := t) (by omega)]
        refine br_f (by rw [xs_lt, z0]; omega) ⟨vp_in_nI ht (by omega), fun y => ⟨vp_in_nI ht (by omega), nm_e (nm_r (nI_1 N) (ih (N + 1) _ _ _ (by omega) ?_))⟩, fun y => ⟨vp_in_nI ht (by omega), fun y2 => nm_r (nI_1 N) (ih (N + 1) _ _ _ (by omega) ?_), fun y2 => ⟨vp_in_nI ht (by omega), nm_e (nm_r (nI_1 N) (ih (N + 1) _ _ _ (by omega) ?_))⟩⟩⟩
        · rw [xs_lt, z0] at y
          exact yc_set O.1 C hV ht S' (Or.inl y) (by rw [xa_up.1]; exact hr) (fun k hk => by unfold xs_i; rw [pk_un hk])
        · rw [xs_lt, z0] at y
          rw [xs_le] at y2
          exact yc_keep C ht S' (by unfold xs_i; omega) (by rw [← hr]; exact y2)
        · rw [xs_le] at y2
          exact yc_set O.1 C hV ht S' (Or.inr (by have y3 : ¬ xs_i ch t ≤ r.toInt := y2; omega)) (by rw [xa_up.1]; exact hr) (fun k hk => by unfold xs_i; rw [pk_un hk])
    · dsimp only
      refine br_f (by decide) ?_
      unfold wY_curve_55
      exact br_t (by decide) (nm_r (nI_1 N) (ih (N + 1) _ _ _ (by omega) (yc_skip C hV)))
theorem y_c2 {post : SY → Prop} 
    (hP : ∀ ch, (∀ t, t < 64 → xs_i ch t = -1) → ∀ x1 : Int32, x1 = (1 : Int32) <<< ((2 * f_held) &&& 31) → ∃ n32, wY_curve_32 post x1 n32 0 f_held a_froms a_tos a_slows a_fasts a_prices a_times a_late ch) :
    ∀ d i ch, i + d = 64 → (∀ t, t < i → xs_i ch t = -1) → wY_curve_2 post f_held (d + 1) (nI i) a_froms a_tos a_slows a_fasts a_prices a_times a_late ch := by
  intro d
  induction d with
  | zero =>
    intro i ch hi h
    unfold wY_curve_2
    exact br_t (nI_le (a := 64) (by omega) (by omega)) (fun x1 e1 => hP ch (fun t ht => h t (by omega)) x1 e1)
  | succ d ih =>
    intro i ch hi h
    unfold wY_curve_2
    rw [nI_clamp (n := i) (by omega)]
    refine br_f (nI_ge (b := 64) (by omega) (by omega)) ⟨vp_in_nI (by omega) (by omega), nm_e (nm_r (nI_1 i) (ih (i + 1) _ (by omega) (fun t ht => ?_)))⟩
    by_cases q : t = i
    · rw [q, xa_up.1]; rfl
    · rw [xa_up.2 t (by omega)]; exact h t (by omega)
theorem y_curve {post : SY → Prop} (O : xs_O m a_froms a_tos a_slows a_fasts a_prices)
    (hP : ∀ tm la ch, yc_J m a_froms a_tos a_slows a_fasts a_prices (4 ^ m) ch → post (nI m, a_froms, a_tos, a_slows, a_fasts, a_prices, tm, la, ch)) : wpY_curve post (nI m, a_froms, a_tos, a_slows, a_fasts, a_prices, a_times, a_late, a_cheapest) := by
  have m7 := O.1.1
  have p4 : 4 ^ m ≤ 4 ^ 7 := Nat.pow_le_pow_right (by omega) m7
  have p7 : (4 : Nat) ^ 7 = 16384 := by decide
  unfold wpY_curve
  dsimp only
  refine ⟨65, y_c2 (fun ch h x1 e1 => ⟨4 ^ m + 1, ?_⟩) 64 0 a_cheapest (by omega) (fun t ht => by omega)⟩
  have e : x1 = nI (4 ^ m) := by
    have e2 : (2 : Int32) * nI m = nI (2 * m) := pk_mul 2 m
    rw [e1, e2]
    have := pk_shlN (n := 1) (nI (2 * m) &&& 31) (2 * m) (yp_sl (2 * m) (by omega)) (by rw [yp_4]; omega)
    rw [Nat.one_mul, yp_4] at this
    exact this
  rw [e]
  refine y_32 O hP (4 ^ m) 0 a_times a_late ch (by omega) ⟨fun t ht => by rw [h t ht]; omega, fun k hk => by omega, fun t ht h0 => ?_⟩
  rw [h t ht] at h0
  omega
/-- the best of the first deadlines -/
def yb_I (ch : Nat → Int) (t : Nat) (b : Int) : Prop := (b = -1 ∧ ∀ s, s < t → ch s < 0) ∨ (0 ≤ b ∧ (∃ s, s < t ∧ ch s = b) ∧ ∀ s, s < t → 0 ≤ ch s → b ≤ ch s)
theorem yb_end {fr to : Nat → Nat} {sl fa pr : Nat → Int} {ch : Nat → Int} {t : Nat} {b T : Int} (I : cp_Inst m fr to sl fa pr) (C : yc_I m fr to sl fa pr (4 ^ m) ch) (B : yb_I ch t b) (hT : 0 ≤ T) (h1 : ∀ s : Nat, s < t → (s : Int) ≤ T ∧ s < 64) (h2 : ∀ s : Nat, s < 64 → (s : Int) ≤ T → s < t) : op_O m fr to sl fa pr T b := by
  obtain ⟨c1, c2, c3⟩ := C
  -- a plan that fits is among the cheapest
  have key : ∀ x, op_V m sl fa x → op_Fit m fr to (fun j => sl j - x j) T → ∃ s, s < t ∧ 0 ≤ ch s ∧ ch s ≤ op_c m pr x := by
    intro x hx hF
    obtain ⟨N, n1, n2⟩ := yp_ix I hx
    have hV : op_V m sl fa (yp_x N) := fun j hj => by rw [n2 j hj]; exact hx j hj
    obtain ⟨s, s1, s2, s3, s4⟩ := c2 N n1 hV
    have hF' : op_Fit m fr to (fun j => sl j - yp_x N j) T := ys_fit (fun j hj => by rw [n2 j hj]) hF
    have := (s2.2.2 T hT).mpr hF'
    refine ⟨s, h2 s s1 this, s3, ?_⟩
    have ec : op_c m pr (yp_x N) = op_c m pr x := sp_congr m (fun j hj => by rw [n2 j hj])
    rw [← ec]; exact s4
  rcases B with ⟨b1, b2⟩ | ⟨b0, ⟨s, b1, b2⟩, b3⟩
  · refine Or.inl ⟨b1, fun x hx hF => ?_⟩
    obtain ⟨s, s1, s2, _⟩ := key x hx hF
    have := b2 s s1
    omega
  · refine Or.inr ⟨b0, ?_, fun x hx hF => ?_⟩
    · have hs := h1 s b1
      obtain ⟨x, x1, x2, x3⟩ := c3 s hs.2 (by omega)
      exact ⟨x, x1, (x2.2.2 T hT).mp hs.1, by omega⟩
    · obtain ⟨s, s1, s2, s3⟩ := key x hx hF
      have := b3 s s1 s2
      omega
theorem y_a4 {post : Int32 → Prop} {x1 : Int32} (O : xs_O m a_froms a_tos a_slows a_fasts a_prices) (C : yc_J m a_froms a_tos a_slows a_fasts a_prices (4 ^ m) a_cheapest) (hx : 0 ≤ x1.toInt)
    (hP : ∀ r : Int32, xa_O m a_froms a_tos a_slows a_fasts a_prices x1.toInt r.toInt → post r) :
    ∀ d t (x2 : Int32), t + d = 64 → (∀ s : Nat, s < t → (s : Int) ≤ x1.toInt) → yb_I (xs_i a_cheapest) t x2.toInt → wY_costAt_4 post x1 f_held a_froms a_tos a_slows a_fasts a_prices a_times a_late a_cheapest (d + 1) x2 (nI t) := by
  have z0 : (0 : Int32).toInt = 0 := rfl
  intro d
  induction d with
  | zero =>
    intro t x2 ht h1 B
    have q : t = 64 := by omega
    subst q
    unfold wY_costAt_4
    exact br_t (nI_le (a := 64) (by omega) (by omega)) (hP x2 (yb_end O.1 C B hx (fun s hs => ⟨h1 s hs, hs⟩) (fun s hs _ => hs)))
  | succ d ih =>
    intro t x2 ht h1 B
    unfold wY_costAt_4
    rw [nI_clamp (n := t) (by omega)]
    have et := nI_toInt (n := t) (by omega)
    have nx : ¬ x1 < nI t → ∀ s : Nat, s < t + 1 → (s : Int) ≤ x1.toInt := by
      intro y s hs
      rw [xs_lt, et] at y
      omega
    refine br_f (nI_ge (b := 64) (by omega) (by omega)) ⟨fun y => hP x2 (yb_end O.1 C B hx (fun s hs => ⟨h1 s hs, by omega⟩) (fun s hs hsT => ?_)), fun y => ⟨vp_in_nI (by omega) (by omega), fun y2 => nm_r (nI_1 t) (ih (t + 1) x2 (by omega) (nx y) ?_), fun y2 => ⟨fun y3 => ⟨vp_in_nI (by omega) (by omega), nm_e (nm_r (nI_1 t) (ih (t + 1) _ (by omega) (nx y) ?_))⟩, fun y3 => ⟨vp_in_nI (by omega) (by omega), fun y4 => nm_r (nI_1 t) (ih (t + 1) x2 (by omega) (nx y) ?_), fun y4 => ⟨vp_in_nI (by omega) (by omega), nm_e (nm_r (nI_1 t) (ih (t + 1) _ (by omega) (nx y) ?_))⟩⟩⟩⟩⟩
    · rw [xs_lt, et] at y
      omega
    · rw [xs_lt, z0] at y2
      rcases B with ⟨b1, b2⟩ | ⟨b0, ⟨s, b1, b2⟩, b3⟩
      · exact Or.inl ⟨b1, fun s hs => by
          by_cases q : s = t
          · rw [q]; exact y2
          · exact b2 s (by omega)⟩
      · refine Or.inr ⟨b0, ⟨s, by omega, b2⟩, fun s hs h0 => ?_⟩
        by_cases q : s = t
        · rw [q] at h0
          unfold xs_i at h0
          omega
        · exact b3 s (by omega) h0
    · rw [xs_lt, z0] at y2 y3
      rcases B with ⟨b1, b2⟩ | ⟨b0, _, _⟩
      · refine Or.inr ⟨by omega, ⟨t, by omega, rfl⟩, fun s hs h0 => ?_⟩
        by_cases q : s = t
        · rw [q]; exact Int.le_refl _
        · have := b2 s (by omega)
          omega
      · omega
    · rw [xs_lt, z0] at y3
      rw [xs_le] at y4
      rcases B with ⟨b1, b2⟩ | ⟨b0, ⟨s, b1, b2⟩, b3⟩
      · omega
      · refine Or.inr ⟨b0, ⟨s, by omega, b2⟩, fun s hs h0 => ?_⟩
        by_cases q : s = t
        · rw [q]; exact y4
        · exact b3 s (by omega) h0
    · rw [xs_lt, z0] at y2 y3
      rw [xs_le] at y4
      rcases B with ⟨b1, b2⟩ | ⟨b0, ⟨s, b1, b2⟩, b3⟩
      · omega
      · refine Or.inr ⟨by omega, ⟨t, by omega, rfl⟩, fun s hs h0 => ?_⟩
        by_cases q : s = t
        · rw [q]; exact Int.le_refl _
        · have := b3 s (by omega) h0
          omega
/-- Y: the cost for a deadline -/
theorem y_cost {post : Int32 → Prop} {x1 : Int32} (O : xs_O m a_froms a_tos a_slows a_fasts a_prices) (C : yc_J m a_froms a_tos a_slows a_fasts a_prices (4 ^ m) a_cheapest) (hx : 0 ≤ x1.toInt)
    (hP : ∀ r : Int32, xa_O m a_froms a_tos a_slows a_fasts a_prices x1.toInt r.toInt → post r) : wpY_costAt post (f_held, a_froms, a_tos, a_slows, a_fasts, a_prices, a_times, a_late, a_cheapest) x1 := by
  unfold wpY_costAt
  dsimp only
  exact ⟨65, y_a4 O C hx hP 64 0 (-1) (by omega) (fun s hs => by omega) (Or.inl ⟨by decide, fun s hs => by omega⟩)⟩
theorem y_costn {post : Int32 → Prop} {x1 : Int32} (hx : x1 < 0) (hP : post (-1)) : wpY_costAt post (f_held, a_froms, a_tos, a_slows, a_fasts, a_prices, a_times, a_late, a_cheapest) x1 := by
  unfold wpY_costAt
  dsimp only
  refine ⟨1, ?_⟩
  unfold wY_costAt_4
  exact br_f (by decide) (br_t hx hP)
/-- Y: the first deadline within the budget -/
theorem y_6 {post : Int32 → SY → Prop} {x1 : Int32} {rr : Nat → Int} {t0 : Nat} (O : xs_O m a_froms a_tos a_slows a_fasts a_prices) (C : yc_J m a_froms a_tos a_slows a_fasts a_prices (4 ^ m) a_cheapest)
    (hr : ∀ t : Nat, xa_O m a_froms a_tos a_slows a_fasts a_prices t (rr t)) (h45 : t0 ≤ 45) (h1 : 0 ≤ rr t0 ∧ rr t0 ≤ x1.toInt) (h2 : ∀ t, t < t0 → ¬ (0 ≤ rr t ∧ rr t ≤ x1.toInt)) (hP : post (nI t0) (f_held, a_froms, a_tos, a_slows, a_fasts, a_prices, a_times, a_late, a_cheapest)) :
    ∀ d t, t + d = t0 → wY_within_6 post x1 f_held a_froms a_tos a_slows a_fasts a_prices a_times a_late a_cheapest (d + 1) (nI t) := by
  have z0 : (0 : Int32).toInt = 0 := rfl
  intro d
  induction d with
  | zero =>
    intro t ht
    have e : t = t0 := by omega
    subst e
    unfold wY_within_6
    refine br_f (nI_ge (b := 64) (by omega) (by omega)) (y_cost O C (by rw [nI_toInt (by omega)]; omega) (fun r hO => ?_))
    rw [nI_toInt (by omega)] at hO
    have er := op_uniq hO (hr t)
    refine br_f ?_ (br_f ?_ hP)
    · rw [xs_lt, z0]; omega
    · rw [xs_lt]; omega
  | succ d ih =>
    intro t ht
    have hn := h2 t (by omega)
    unfold wY_within_6
    refine br_f (nI_ge (b := 64) (by omega) (by omega)) (y_cost O C (by rw [nI_toInt (by omega)]; omega) (fun r hO => ?_))
    rw [nI_toInt (by omega)] at hO
    have er := op_uniq hO (hr t)
    refine ⟨fun y => nm_r (nI_1 t) (ih (t + 1) (by omega)), fun y => ⟨fun y2 => nm_r (nI_1 t) (ih (t + 1) (by omega)), fun y2 => ?_⟩⟩
    rw [xs_lt, z0] at y
    rw [xs_lt] at y2
    exact absurd ⟨by omega, by omega⟩ hn
/-- Y: no budget -/
theorem y_6n {post : Int32 → SY → Prop} {x1 : Int32} {rr : Nat → Int} (O : xs_O m a_froms a_tos a_slows a_fasts a_prices) (C : yc_J m a_froms a_tos a_slows a_fasts a_prices (4 ^ m) a_cheapest)
    (hx : x1 < 0) (hP : post (-1) (f_held, a_froms, a_tos, a_slows, a_fasts, a_prices, a_times, a_late, a_cheapest)) : ∀ d t, t + d = 64 → wY_within_6 post x1 f_held a_froms a_tos a_slows a_fasts a_prices a_times a_late a_cheapest (d + 1) (nI t) := by
  have z0 : (0 : Int32).toInt = 0 := rfl
  rw [xs_lt, z0] at hx
  intro d
  induction d with
  | zero =>
    intro t ht
    unfold wY_within_6
    exact br_t (nI_le (a := 64) (by omega) (by omega)) hP
  | succ d ih =>
    intro t ht
    unfold wY_within_6
    refine br_f (nI_ge (b := 64) (by omega) (by omega)) (y_cost O C (by rw [nI_toInt (by omega)]; omega) (fun r hO => ?_))
    refine ⟨fun y => nm_r (nI_1 t) (ih (t + 1) (by omega)), fun y => ⟨fun y2 => nm_r (nI_1 t) (ih (t + 1) (by omega)), fun y2 => ?_⟩⟩
    rw [xs_lt, z0] at y
    rw [xs_lt] at y2
    omega
/-- Y: the best total -/
theorem y_21 {post : Int32 → SY → Prop} {x1 : Int32} {rr : Nat → Int} (O : xs_O m a_froms a_tos a_slows a_fasts a_prices) (C : yc_J m a_froms a_tos a_slows a_fasts a_prices (4 ^ m) a_cheapest)
    (hr : ∀ t : Nat, xa_O m a_froms a_tos a_slows a_fasts a_prices t (rr t)) (hp : 0 ≤ x1.toInt ∧ x1.toInt ≤ 200) (hP : ∀ r : Int32, r.toInt = an_b rr x1.toInt 64 → post r (f_held, a_froms, a_tos, a_slows, a_fasts, a_prices, a_times, a_late, a_cheapest)) :
    ∀ d t (x2 : Int32), t + d = 64 → x2.toInt = an_b rr x1.toInt t → wY_total_21 post x1 f_held a_froms a_tos a_slows a_fasts a_prices a_times a_late a_cheapest (d + 1) x2 (nI t) := by
  have z0 : (0 : Int32).toInt = 0 := rfl
  intro d
  induction d with
  | zero =>
    intro t x2 ht h2
    have e : t = 64 := by omega
    subst e
    unfold wY_total_21
    exact br_t (nI_le (a := 64) (by omega) (by omega)) (hP x2 h2)
  | succ d ih =>
    intro t x2 ht h2
    have rb := fun k => op_r420 O.1 (hr k)
    have bb := an_bb (rr := rr) hp t (by omega) (fun k _ => rb k)
    have pk := an_pk hp (t := t) (by omega)
    have et := nI_toInt (n := t) (by omega)
    have em : (x1 * nI t).toInt = x1.toInt * t := by
      have := xs_mul (x := x1) (y := nI t) (by rw [et]; omega) (by rw [et]; omega)
      rw [this, et]
    unfold wY_total_21
    refine br_f (nI_ge (b := 64) (by omega) (by omega)) (y_cost O C (by rw [et]; omega) (fun r hO => ?_))
    rw [et] at hO
    have er := op_uniq hO (hr t)
    have rt := rb t
    have es : (r + x1 * nI t).toInt = rr t + x1.toInt * t := by
      have := xs_add (x := r) (y := x1 * nI t) (by rw [em]; omega) (by rw [em]; omega)
      rw [this, em, er]
    have eb : an_b rr x1.toInt (t + 1) = (if rr t < 0 then an_b rr x1.toInt t else if an_b rr x1.toInt t < 0 then rr t + x1.toInt * t else if an_b rr x1.toInt t ≤ rr t + x1.toInt * t then an_b rr x1.toInt t else rr t + x1.toInt * t) := rfl
    refine nm_e ⟨fun y => nm_r (nI_1 t) (ih (t + 1) x2 (by omega) ?_), fun y => ⟨fun y2 => nm_r (nI_1 t) (ih (t + 1) _ (by omega) ?_), fun y2 => ⟨fun y3 => nm_r (nI_1 t) (ih (t + 1) x2 (by omega) ?_), fun y3 => nm_r (nI_1 t) (ih (t + 1) _ (by omega) ?_)⟩⟩⟩
    · rw [xs_lt, z0] at y
      rw [eb, if_pos (by omega), h2]
    · rw [xs_lt, z0] at y y2
      rw [eb, if_neg (by omega), if_pos (by omega), es]
    · rw [xs_lt, z0] at y y2
      rw [xs_le, es] at y3
      rw [eb, if_neg (by omega), if_neg (by omega), if_pos (by omega), h2]
    · rw [xs_lt, z0] at y y2
      rw [xs_le, es] at y3
      rw [eb, if_neg (by omega), if_neg (by omega), if_neg (by omega), es]
end
end
section
/-! the relation, and what changes the jobs -/
/-- both hold the same jobs; what X knows is right -/
def i_Rel (k : Nat) (u : SX) (v : SY) : Prop := match u, v with
  | (f_jobs, f_known, f_ways, a_from, a_to, a_slow, a_fast, a_price, a_flow, a_longest, a_reached, a_lastLine, a_wayLength, a_wayAmount), (f_held, a_froms, a_tos, a_slows, a_fasts, a_prices, a_times, a_late, a_cheapest) => ∃ m, f_jobs = nI m ∧ f_held = nI m ∧ a_froms = a_from ∧ a_tos = a_to ∧ a_slows = a_slow ∧ a_fasts = a_fast ∧ a_prices = a_price ∧
      xs_O m a_from a_to a_slow a_fast a_price ∧ (¬ f_known = 0 → ∃ n, f_ways = nI n ∧ xa_G m a_from a_to a_slow a_fast a_price a_wayLength a_wayAmount n)
theorem i_up {k : Nat} {u : SX} {v : SY} (h : i_Rel k u v) : i_Rel (k + 6) u v := h
theorem i_vc0 : wpX_init (fun u => wpY_init (fun v => i_Rel 0 u v)) :=
  ⟨0, rfl, rfl, rfl, rfl, rfl, rfl, rfl, ⟨⟨by omega, fun j hj => absurd hj (by omega)⟩, fun j hj => absurd hj (by omega)⟩, fun h => absurd rfl h⟩
section
variable {f_jobs f_known f_ways : Int32} {a_from a_to a_slow a_fast a_price a_flow a_longest a_reached a_lastLine a_wayLength a_wayAmount : Nat → Int32}
variable {f_held : Int32} {a_froms a_tos a_slows a_fasts a_prices a_times a_late a_cheapest : Nat → Int32}
variable {m : Nat}
theorem re_mk {k n : Nat} {fk fw : Int32} (O : xs_O m a_from a_to a_slow a_fast a_price) (G : ¬ fk = 0 → ∃ n, fw = nI n ∧ xa_G m a_from a_to a_slow a_fast a_price a_wayLength a_wayAmount n) :
    i_Rel k (nI m, fk, fw, a_from, a_to, a_slow, a_fast, a_price, a_flow, a_longest, a_reached, a_lastLine, a_wayLength, a_wayAmount) (nI m, a_from, a_to, a_slow, a_fast, a_price, a_times, a_late, a_cheapest) :=
  ⟨m, rfl, rfl, rfl, rfl, rfl, rfl, rfl, O, G⟩
/-- when a job is taken -/
def re_C (m : Nat) (p0 p1 p2 p3 p4 : Int32) : Prop := m < 7 ∧ ¬ p0 < 0 ∧ ¬ p1 ≤ p0 ∧ ¬ 5 < p1 ∧ ¬ p3 < 0 ∧ ¬ p2 < p3 ∧ ¬ 9 < p2 ∧ ¬ 3 < p2 - p3 ∧ ¬ p4 < 1 ∧ p4 ≤ 20
theorem re_7 (hm : m ≤ 7) : (7 ≤ nI m ↔ ¬ m < 7) ∧ (nI m = 7 ↔ ¬ m < 7) := by
  constructor
  · have := nI_leI (a := 7) (b := m) (by omega) (by omega)
    refine Iff.trans this ?_
    omega
  · have := nI_eq (a := m) (b := 7) (by omega) (by omega)
    refine Iff.trans this ?_
    omega
theorem re_51 {post : Int32 → SX → Prop} {x1 x2 x3 x4 x5 x6 z0 : Int32} (hz : x6 = 0 ∨ z0 = 0) (h : post (-1) (f_jobs, f_known, f_ways, a_from, a_to, a_slow, a_fast, a_price, a_flow, a_longest, a_reached, a_lastLine, a_wayLength, a_wayAmount)) : wX_add_51 post x1 x2 x3 x4 x5 x6 z0 f_jobs f_known f_ways a_from a_to a_slow a_fast a_price a_flow a_longest a_reached a_lastLine a_wayLength a_wayAmount := by
  unfold wX_add_51
  exact ⟨fun _ => h, fun _ => ⟨fun _ => h, fun y => ⟨fun _ => h, fun y2 => absurd hz (by rintro (q | q); exact y q; exact y2 q)⟩⟩⟩
theorem re_19 {post : Int32 → SX → Prop} {x1 x2 x3 x4 x5 : Int32} (h : post (-1) (f_jobs, f_known, f_ways, a_from, a_to, a_slow, a_fast, a_price, a_flow, a_longest, a_reached, a_lastLine, a_wayLength, a_wayAmount)) : wX_add_19 post x1 x2 x3 x4 x5 0 f_jobs f_known f_ways a_from a_to a_slow a_fast a_price a_flow a_longest a_reached a_lastLine a_wayLength a_wayAmount := by
  have a : wX_add_50 post x1 x2 x3 x4 x5 0 f_jobs f_known f_ways a_from a_to a_slow a_fast a_price a_flow a_longest a_reached a_lastLine a_wayLength a_wayAmount := by unfold wX_add_50; exact re_51 (Or.inl rfl) h
  unfold wX_add_19
  exact ⟨fun _ => a, fun _ => ⟨fun _ => a, fun _ => ⟨fun _ => a, fun _ => ⟨fun _ => a, fun _ => re_51 (Or.inl rfl) h⟩⟩⟩⟩
theorem re_xadd {post : Int32 → SX → Prop} {p0 p1 p2 p3 p4 : Int32} (hm : m ≤ 7) (hn : ¬ re_C m p0 p1 p2 p3 p4 → post (-1) (nI m, f_known, f_ways, a_from, a_to, a_slow, a_fast, a_price, a_flow, a_longest, a_reached, a_lastLine, a_wayLength, a_wayAmount))
    (hy : re_C m p0 p1 p2 p3 p4 → post (nI (m + 1)) (nI (m + 1), 0, f_ways, upd a_from m p0, upd a_to m p1, upd a_slow m p2, upd a_fast m p3, upd a_price m p4, a_flow, a_longest, a_reached, a_lastLine, a_wayLength, a_wayAmount)) :
    wpX_add post (nI m, f_known, f_ways, a_from, a_to, a_slow, a_fast, a_price, a_flow, a_longest, a_reached, a_lastLine, a_wayLength, a_wayAmount) p0 p1 p2 p3 p4 := by
  unfold wpX_add
  dsimp only
  have bad : ¬ re_C m p0 p1 p2 p3 p4 → wX_add_18 post p0 p1 p2 p3 p4 (nI m) f_known f_ways a_from a_to a_slow a_fast a_price a_flow a_longest a_reached a_lastLine a_wayLength a_wayAmount := by
    intro q
    unfold wX_add_18
    exact re_19 (hn q)
  have bad2 : ¬ re_C m p0 p1 p2 p3 p4 → wX_add_50 post p0 p1 p2 p3 p4 1 (nI m) f_known f_ways a_from a_to a_slow a_fast a_price a_flow a_longest a_reached a_lastLine a_wayLength a_wayAmount := by
    intro q
    unfold wX_add_50
    exact re_51 (Or.inr rfl) (hn q)
  refine ⟨fun y => bad (fun q => q.2.1 y), fun c1 => ⟨fun y => bad (fun q => q.2.2.1 y), fun c2 => ⟨fun y => bad (fun q => q.2.2.2.1 y), fun c3 => ?_⟩⟩⟩
  unfold wX_add_19
  refine ⟨fun y => bad2 (fun q => q.2.2.2.2.1 y), fun c4 => ⟨fun y => bad2 (fun q => q.2.2.2.2.2.1 y), fun c5 => ⟨fun y => bad2 (fun q => q.2.2.2.2.2.2.1 y), fun c6 => ⟨fun y => bad2 (fun q => q.2.2.2.2.2.2.2.1 y), fun c7 => ?_⟩⟩⟩⟩
  unfold wX_add_51
  rw [nI_clamp (n := m) (by omega)]
  refine ⟨fun y => hn (fun q => (re_7 hm).1.mp y q.1), fun c0 => br_f (by decide) (br_f (by decide) ⟨fun y => hn (fun q => q.2.2.2.2.2.2.2.2.1 y), fun c8 => ⟨fun c9 => ?_, fun y => hn (fun q => y q.2.2.2.2.2.2.2.2.2)⟩⟩)⟩
  have c0' : m < 7 := Classical.byContradiction fun q => c0 ((re_7 hm).1.mpr q)
  have vi : vp_in (nI m) 7 := vp_in_nI c0' (by omega)
  exact ⟨vi, nm_e ⟨vi, nm_e ⟨vi, nm_e ⟨vi, nm_e ⟨vi, nm_e (nm_r (nI_1 m) (hy ⟨c0', c1, c2, c3, c4, c5, c6, c7, c8, c9⟩))⟩⟩⟩⟩⟩
theorem re_yadd {post : Int32 → SY → Prop} {p0 p1 p2 p3 p4 : Int32} (hm : m ≤ 7) (hn : ¬ re_C m p0 p1 p2 p3 p4 → post (-1) (nI m, a_froms, a_tos, a_slows, a_fasts, a_prices, a_times, a_late, a_cheapest))
    (hy : re_C m p0 p1 p2 p3 p4 → post (nI (m + 1)) (nI (m + 1), upd a_froms m p0, upd a_tos m p1, upd a_slows m p2, upd a_fasts m p3, upd a_prices m p4, a_times, a_late, a_cheapest)) :
    wpY_add post (nI m, a_froms, a_tos, a_slows, a_fasts, a_prices, a_times, a_late, a_cheapest) p0 p1 p2 p3 p4 := by
  unfold wpY_add
  dsimp only
  rw [nI_clamp (n := m) (by omega)]
  refine ⟨fun y => hn (fun q => (re_7 hm).2.mp y q.1), fun c0 => ⟨fun y => hn (fun q => q.2.1 y), fun c1 => ⟨fun y => hn (fun q => q.2.2.1 y), fun c2 => ⟨fun y => hn (fun q => q.2.2.2.1 y), fun c3 => ?_⟩⟩⟩⟩
  unfold wpY_badPrice
  refine ⟨fun y => br_f (by decide) (hn (fun q => q.2.2.2.2.2.2.2.2.1 y)), fun c8 => ⟨fun c9 => br_t rfl ?_, fun y => br_f (by decide) (hn (fun q => y q.2.2.2.2.2.2.2.2.2))⟩⟩
  refine ⟨fun y => hn (fun q => q.2.2.2.2.1 y), fun c4 => ⟨fun y => hn (fun q => q.2.2.2.2.2.1 y), fun c5 => ⟨fun y => hn (fun q => q.2.2.2.2.2.2.1 y), fun c6 => ⟨fun c7 => ?_, fun y => hn (fun q => q.2.2.2.2.2.2.2.1 (Int32.not_le.mp y))⟩⟩⟩⟩
  have c0' : m < 7 := Classical.byContradiction fun q => c0 ((re_7 hm).2.mpr q)
  have vi : vp_in (nI m) 7 := vp_in_nI c0' (by omega)
  exact ⟨vi, nm_e ⟨vi, nm_e ⟨vi, nm_e ⟨vi, nm_e ⟨vi, nm_e (nm_r (nI_1 m) (hy ⟨c0', c1, c2, c3, c4, c5, c6, Int32.not_lt.mpr c7, c8, c9⟩))⟩⟩⟩⟩⟩
/-- a job more -/
theorem re_Oadd {p0 p1 p2 p3 p4 : Int32} (O : xs_O m a_from a_to a_slow a_fast a_price) (C : re_C m p0 p1 p2 p3 p4) : xs_O (m + 1) (upd a_from m p0) (upd a_to m p1) (upd a_slow m p2) (upd a_fast m p3) (upd a_price m p4) := by
  obtain ⟨c0, c1, c2, c3, c4, c5, c6, c7, c8, c9⟩ := C
  have z0 : (0 : Int32).toInt = 0 := rfl
  have z1 : (1 : Int32).toInt = 1 := rfl
  have z3 : (3 : Int32).toInt = 3 := rfl
  have z5 : (5 : Int32).toInt = 5 := rfl
  have z9 : (9 : Int32).toInt = 9 := rfl
  have z20 : (20 : Int32).toInt = 20 := by decide
  obtain ⟨q0, h0, rfl⟩ := nI_of c1
  have cp1 : ¬ p1 < 0 := by
    rw [xs_le] at c2
    rw [xs_lt, z0] at c1 ⊢
    omega
  obtain ⟨q1, h1, rfl⟩ := nI_of cp1
  rw [nI_leI h1 h0] at c2
  rw [xs_lt, z5, nI_toInt h1] at c3
  rw [xs_lt, z0] at c4
  rw [xs_lt] at c5
  rw [xs_lt, z9] at c6
  rw [xs_lt, z3, xs_sub (by omega) (by omega)] at c7
  rw [xs_lt, z1] at c8
  rw [xs_le, z20] at c9
  have n0 : xs_n (upd a_from m (nI q0)) m = q0 := by unfold xs_n; rw [pk_us, nI_clamp h0]
  have n1 : xs_n (upd a_to m (nI q1)) m = q1 := by unfold xs_n; rw [pk_us, nI_clamp h1]
  have i2 : xs_i (upd a_slow m p2) m = p2.toInt := by unfold xs_i; rw [pk_us]
  have i3 : xs_i (upd a_fast m p3) m = p3.toInt := by unfold xs_i; rw [pk_us]
  have i4 : xs_i (upd a_price m p4) m = p4.toInt := by unfold xs_i; rw [pk_us]
  refine ⟨⟨by omega, fun j hj => ?_⟩, fun j hj => ?_⟩
  · by_cases e : j = m
    · rw [e, n0, n1, i2, i3, i4]; omega
    · have h := O.1.2 j (by omega)
      unfold xs_n xs_i at h ⊢
      rw [pk_un e, pk_un e, pk_un e, pk_un e, pk_un e]
      exact h
  · by_cases e : j = m
    · rw [e, n0, n1, pk_us, pk_us]; exact ⟨rfl, rfl⟩
    · have h := O.2 j (by omega)
      unfold xs_n at h ⊢
      rw [pk_un e, pk_un e]
      exact h
/-- the content behind a drop: d steps from i on -/
def re_d (a : Nat → Int32) (i : Nat) : Nat → Nat → Int32
  | 0 => a
  | d + 1 => upd (re_d a i d) (i + d) (a (i + d + 1))
theorem re_dv (a : Nat → Int32) (i : Nat) : ∀ d j, re_d a i d j = if i ≤ j ∧ j < i + d then a (j + 1) else a j
  | 0, j => by rw [re_d, if_neg (by omega)]
  | d + 1, j => by
    rw [re_d]
    by_cases e : j = i + d
    · rw [e, pk_us, if_pos (by omega)]
    · rw [pk_un e, re_dv a i d j]
      by_cases q : i ≤ j ∧ j < i + d
      · rw [if_pos q, if_pos (by omega)]
      · rw [if_neg q, if_neg (by omega)]
theorem re_x26 {post : Int32 → SX → Prop} {i : Nat} (hm : m < 7) (hP : ∀ D, i + D = m → post (nI m) (nI m, 0, f_ways, re_d a_from i D, re_d a_to i D, re_d a_slow i D, re_d a_fast i D, re_d a_price i D, a_flow, a_longest, a_reached, a_lastLine, a_wayLength, a_wayAmount)) :
    ∀ e d, i + d + e = m → wX_drop_26 post (nI m) f_known f_ways (e + 1) (nI (i + d)) (re_d a_from i d) (re_d a_to i d) (re_d a_slow i d) (re_d a_fast i d) (re_d a_price i d) a_flow a_longest a_reached a_lastLine a_wayLength a_wayAmount := by
  have ev : ∀ (a : Nat → Int32) d, re_d a i d (i + d + 1) = a (i + d + 1) := fun a d => by rw [re_dv, if_neg (by omega)]
  intro e
  induction e with
  | zero =>
    intro d hd
    unfold wX_drop_26
    exact br_t (nI_le (by omega) (by omega)) (hP d (by omega))
  | succ e ih =>
    intro d hd
    unfold wX_drop_26
    rw [nI_1, nI_clamp (n := i + d) (by omega), nI_clamp (n := i + d + 1) (by omega), ev, ev, ev, ev, ev]
    have v1 : vp_in (nI (i + d + 1)) 7 := vp_in_nI (by omega) (by omega)
    have v0 : vp_in (nI (i + d)) 7 := vp_in_nI (by omega) (by omega)
    exact br_f (nI_ge (by omega) (by omega)) ⟨v1, v0, nm_e ⟨v1, v0, nm_e ⟨v1, v0, nm_e ⟨v1, v0, nm_e ⟨v1, v0, nm_e (nm_e (ih (d + 1) (by omega)))⟩⟩⟩⟩⟩
theorem re_y26 {post : Int32 → SY → Prop} {i : Nat} (hm : m < 7) (hP : ∀ D, i + D = m → post (nI m) (nI m, re_d a_froms i D, re_d a_tos i D, re_d a_slows i D, re_d a_fasts i D, re_d a_prices i D, a_times, a_late, a_cheapest)) :
    ∀ e d, i + d + e = m → wY_drop_26 post (nI m) (e + 1) (nI (i + d)) (re_d a_froms i d) (re_d a_tos i d) (re_d a_slows i d) (re_d a_fasts i d) (re_d a_prices i d) a_times a_late a_cheapest := by
  have ev : ∀ (a : Nat → Int32) d, re_d a i d (i + d + 1) = a (i + d + 1) := fun a d => by rw [re_dv, if_neg (by omega)]
  intro e
  induction e with
  | zero =>
    intro d hd
    unfold wY_drop_26
    exact br_t (nI_le (by omega) (by omega)) (hP d (by omega))
  | succ e ih =>
    intro d hd
    unfold wY_drop_26
    rw [nI_1, nI_clamp (n := i + d) (by omega), nI_clamp (n := i + d + 1) (by omega), ev, ev, ev, ev, ev]
    have v1 : vp_in (nI (i + d + 1)) 7 := vp_in_nI (by omega) (by omega)
    have v0 : vp_in (nI (i + d)) 7 := vp_in_nI (by omega) (by omega)
    exact br_f (nI_ge (by omega) (by omega)) ⟨v1, v0, nm_e ⟨v1, v0, nm_e ⟨v1, v0, nm_e ⟨v1, v0, nm_e ⟨v1, v0, nm_e (nm_e (ih (d + 1) (by omega)))⟩⟩⟩⟩⟩
theorem re_Odrop {i D : Nat} (O : xs_O (m + 1) a_from a_to a_slow a_fast a_price) (h : i + D = m) : xs_O m (re_d a_from i D) (re_d a_to i D) (re_d a_slow i D) (re_d a_fast i D) (re_d a_price i D) := by
  refine ⟨⟨by have := O.1.1; omega, fun j hj => ?_⟩, fun j hj => ?_⟩
  · have h1 := O.1.2 j (by omega)
    have h2 := O.1.2 (j + 1) (by omega)
    unfold xs_n xs_i at h1 h2 ⊢
    rw [re_dv, re_dv, re_dv, re_dv, re_dv]
    split
    · exact h2
    · exact h1
  · have h1 := O.2 j (by omega)
    have h2 := O.2 (j + 1) (by omega)
    unfold xs_n at h1 h2 ⊢
    rw [re_dv, re_dv]
    split
    · exact h2
    · exact h1
theorem re_Oprice {i : Nat} {p : Int32} (O : xs_O m a_from a_to a_slow a_fast a_price) (h1 : ¬ p < 1) (h2 : p ≤ 20) : xs_O m a_from a_to a_slow a_fast (upd a_price i p) := by
  have z1 : (1 : Int32).toInt = 1 := rfl
  have z20 : (20 : Int32).toInt = 20 := by decide
  rw [xs_lt, z1] at h1
  rw [xs_le, z20] at h2
  refine ⟨⟨O.1.1, fun j hj => ?_⟩, O.2⟩
  obtain ⟨i1, i2, i3, i4, i5, i6, i7, i8⟩ := O.1.2 j hj
  refine ⟨i1, i2, i3, i4, i5, i6, ?_⟩
  unfold xs_i at i7 i8 ⊢
  by_cases e : j = i
  · rw [e, pk_us]; omega
  · rw [pk_un e]; exact ⟨i7, i8⟩
end
theorem i_vc_add {k : Nat} {u : SX} {v : SY} (I : i_Rel k u v) (hk : k + 6 ≤ 3072) (v1 : Int32) (v2 : Int32) (v3 : Int32) (v4 : Int32) (v5 : Int32) : wpX_add (fun r u' => wpY_add (fun r' v' => r' = r ∧ i_Rel (k + 6) u' v') v v1 v2 v3 v4 v5) u v1 v2 v3 v4 v5 := by
  obtain ⟨f_jobs, f_known, f_ways, a_from, a_to, a_slow, a_fast, a_price, a_flow, a_longest, a_reached, a_lastLine, a_wayLength, a_wayAmount⟩ := u
  obtain ⟨f_held, a_froms, a_tos, a_slows, a_fasts, a_prices, a_times, a_late, a_cheapest⟩ := v
  obtain ⟨m, rfl, rfl, rfl, rfl, rfl, rfl, rfl, O, G⟩ := I
  have m7 := O.1.1
  refine re_xadd m7 (fun hn => re_yadd m7 (fun _ => ⟨rfl, re_mk (n := 0) O G⟩) (fun hy => absurd hy hn)) (fun hy => re_yadd m7 (fun hn => absurd hy hn) (fun _ => ⟨rfl, re_mk (n := 0) (re_Oadd O hy) (fun q => absurd rfl q)⟩))
theorem i_vc_drop {k : Nat} {u : SX} {v : SY} (I : i_Rel k u v) (hk : k + 6 ≤ 3072) (v1 : Int32) : wpX_drop (fun r u' => wpY_drop (fun r' v' => r' = r ∧ i_Rel (k + 6) u' v') v v1) u v1 := by
  obtain ⟨f_jobs, f_known, f_ways, a_from, a_to, a_slow, a_fast, a_price, a_flow, a_longest, a_reached, a_lastLine, a_wayLength, a_wayAmount⟩ := u
  obtain ⟨f_held, a_froms, a_tos, a_slows, a_fasts, a_prices, a_times, a_late, a_cheapest⟩ := v
  obtain ⟨m, rfl, rfl, rfl, rfl, rfl, rfl, rfl, O, G⟩ := I
  have m7 := O.1.1
  unfold wpX_drop wpY_drop
  dsimp only
  refine ⟨fun y => br_t y ⟨rfl, re_mk (n := 0) O G⟩, fun y => ?_⟩
  obtain ⟨i, hi, rfl⟩ := nI_of y
  refine ⟨fun y2 => ?_, fun y2 => br_f y (br_f y2 ⟨rfl, re_mk (n := 0) O G⟩)⟩
  rw [nI_ltI hi (by omega)] at y2
  obtain ⟨m, rfl⟩ : ∃ m', m = m' + 1 := ⟨m - 1, by omega⟩
  refine nm_r (nI_pred m) ⟨m - i + 1, ?_⟩
  refine re_x26 (i := i) (by omega) (fun D hD => br_f y (br_t (nI_lt (by omega) (by omega)) (nm_r (nI_pred m) ⟨m - i + 1, ?_⟩))) (m - i) 0 (by omega)
  refine re_y26 (i := i) (by omega) (fun D' hD' => ⟨rfl, ?_⟩) (m - i) 0 (by omega)
  obtain rfl : D' = D := by omega
  exact re_mk (n := 0) (re_Odrop O hD) (fun q => absurd rfl q)
theorem i_vc_price {k : Nat} {u : SX} {v : SY} (I : i_Rel k u v) (hk : k + 6 ≤ 3072) (v1 : Int32) (v2 : Int32) : wpX_price (fun r u' => wpY_price (fun r' v' => r' = r ∧ i_Rel (k + 6) u' v') v v1 v2) u v1 v2 := by
  obtain ⟨f_jobs, f_known, f_ways, a_from, a_to, a_slow, a_fast, a_price, a_flow, a_longest, a_reached, a_lastLine, a_wayLength, a_wayAmount⟩ := u
  obtain ⟨f_held, a_froms, a_tos, a_slows, a_fasts, a_prices, a_times, a_late, a_cheapest⟩ := v
  obtain ⟨m, rfl, rfl, rfl, rfl, rfl, rfl, rfl, O, G⟩ := I
  have m7 := O.1.1
  unfold wpX_price wpY_price
  dsimp only
  refine ⟨fun y => br_t y ⟨rfl, re_mk (n := 0) O G⟩, fun y => ?_⟩
  obtain ⟨i, hi, rfl⟩ := nI_of y
  refine ⟨fun y2 => br_f y (br_t y2 ⟨rfl, re_mk (n := 0) O G⟩), fun y2 => ⟨fun y3 => br_f y (br_f y2 ?_), fun y3 => ⟨fun y4 => ?_, fun y4 => br_f y (br_f y2 ?_)⟩⟩⟩
  · unfold wpY_badPrice
    exact br_t y3 (br_f (by decide) ⟨rfl, re_mk (n := 0) O G⟩)
  · have i7 : i < 7 := by
      rw [nI_leI (by omega) hi] at y2
      omega
    have vi : vp_in (nI i) 7 := vp_in_nI i7 (by omega)
    refine ⟨vi, nm_e ⟨vi, nm_e (br_f y (br_f y2 ?_))⟩⟩
    unfold wpY_badPrice
    exact br_f y3 (br_t y4 (br_t rfl ⟨vi, nm_e ⟨vi, nm_e ⟨rfl, re_mk (n := 0) (re_Oprice O y3 y4) (fun q => absurd rfl q)⟩⟩⟩))
  · unfold wpY_badPrice
    exact br_f y3 (br_f y4 (br_f (by decide) ⟨rfl, re_mk (n := 0) O G⟩))
end
section
/-! the questions -/
section
variable {m n : Nat} {fr to : Nat → Nat} {sl fa pr wl wa : Nat → Int}
/-- the slow and the fast time by the ways -/
theorem as_slow (I : cp_Inst m fr to sl fa pr) (G : sa_G m fr to sl fa pr wl wa n) : ys_S m fr to sl (if n = 0 then 0 else wl 0) := by
  rcases G with ⟨e, h5⟩ | ⟨k, e, g1, g2, g3, g4, g5, g6, g7, g8⟩
  · rw [if_pos e]
    exact ⟨by omega, by omega, fun T hT => ⟨fun _ => an_none I h5 (fun j hj => by have := I.2 j hj; omega) hT, fun _ => hT⟩⟩
  · rw [if_neg (by omega)]
    exact ⟨(g2 0 (by omega)).1, (g6 45).mpr (an_45 I (by omega)), fun T _ => g6 T⟩
theorem as_fast (I : cp_Inst m fr to sl fa pr) (G : sa_G m fr to sl fa pr wl wa n) : ys_S m fr to fa (if n = 0 then 0 else wl (n - 1)) := by
  rcases G with ⟨e, h5⟩ | ⟨k, e, g1, g2, g3, g4, g5, g6, g7, g8⟩
  · rw [if_pos e]
    exact ⟨by omega, by omega, fun T hT => ⟨fun _ => an_none I h5 (fun j hj => by have := I.2 j hj; omega) hT, fun _ => hT⟩⟩
  · subst e
    rw [if_neg (by omega), Nat.add_sub_cancel]
    refine ⟨(g2 k (by omega)).1, (g7 45).mpr ?_, fun T _ => g7 T⟩
    obtain ⟨e, e0, e1, e2⟩ := an_45 I (t := 45) (by omega)
    exact ⟨e, e0, fun j hj hr => by have a := e1 j hj hr; have b := I.2 j hj; omega, e2⟩
end
section
variable {f_jobs f_known f_ways : Int32} {a_from a_to a_slow a_fast a_price a_flow a_longest a_reached a_lastLine a_wayLength a_wayAmount : Nat → Int32}
variable {f_held : Int32} {a_froms a_tos a_slows a_fasts a_prices a_times a_late a_cheapest : Nat → Int32}
variable {m : Nat}
theorem as_n {n : Nat} (h : n ≤ 1000) : nI n = 0 ↔ n = 0 := nI_eq (b := 0) (by omega) (by omega)
theorem as_b {n : Nat} {fr to : Nat → Nat} {sl fa pr wl wa : Nat → Int} (G : sa_G m fr to sl fa pr wl wa n) : n ≤ 129 := by
  rcases G with ⟨e, h5⟩ | ⟨k, e, g1, _⟩ <;> omega
theorem as_xs {post : Int32 → SX → Prop} (O : xs_O m a_from a_to a_slow a_fast a_price) (hK : ¬ f_known = 0 → ∃ n, f_ways = nI n ∧ xa_G m a_from a_to a_slow a_fast a_price a_wayLength a_wayAmount n)
    (hP : ∀ n fk fl al ar aL wL wA (r : Int32), xa_G m a_from a_to a_slow a_fast a_price wL wA n → ys_S m (xs_n a_from) (xs_n a_to) (xs_i a_slow) r.toInt → post r (nI m, fk, nI n, a_from, a_to, a_slow, a_fast, a_price, fl, al, ar, aL, wL, wA)) : wpX_slowest post (nI m, f_known, f_ways, a_from, a_to, a_slow, a_fast, a_price, a_flow, a_longest, a_reached, a_lastLine, a_wayLength, a_wayAmount) := by
  unfold wpX_slowest
  dsimp only
  refine x_all O hK (fun n fk fl al ar aL wL wA G => ?_)
  dsimp only
  have S := as_slow O.1 G
  have b := as_b G
  refine ⟨fun y => hP n fk fl al ar aL wL wA 0 G ?_, fun y => hP n fk fl al ar aL wL wA _ G ?_⟩
  · rw [if_pos ((as_n (by omega)).mp y)] at S; exact S
  · rw [if_neg (fun q => y ((as_n (by omega)).mpr q))] at S; exact S
theorem as_xf {post : Int32 → SX → Prop} (O : xs_O m a_from a_to a_slow a_fast a_price) (hK : ¬ f_known = 0 → ∃ n, f_ways = nI n ∧ xa_G m a_from a_to a_slow a_fast a_price a_wayLength a_wayAmount n)
    (hP : ∀ n fk fl al ar aL wL wA (r : Int32), xa_G m a_from a_to a_slow a_fast a_price wL wA n → ys_S m (xs_n a_from) (xs_n a_to) (xs_i a_fast) r.toInt → post r (nI m, fk, nI n, a_from, a_to, a_slow, a_fast, a_price, fl, al, ar, aL, wL, wA)) : wpX_fastest post (nI m, f_known, f_ways, a_from, a_to, a_slow, a_fast, a_price, a_flow, a_longest, a_reached, a_lastLine, a_wayLength, a_wayAmount) := by
  unfold wpX_fastest
  dsimp only
  refine x_all O hK (fun n fk fl al ar aL wL wA G => ?_)
  dsimp only
  have S := as_fast O.1 G
  have b := as_b G
  refine ⟨fun y => hP n fk fl al ar aL wL wA 0 G ?_, fun y => ?_⟩
  · rw [if_pos ((as_n (by omega)).mp y)] at S; exact S
  · have n0 : ¬ n = 0 := fun q => y ((as_n (by omega)).mpr q)
    rw [if_neg n0] at S
    have e : nI n - 1 = nI (n - 1) := by
      obtain ⟨k, rfl⟩ : ∃ k, n = k + 1 := ⟨n - 1, by omega⟩
      exact nI_pred k
    rw [e, nI_clamp (n := n - 1) (by omega)]
    exact ⟨vp_in_nI (by omega) (by omega), hP n fk fl al ar aL wL wA _ G S⟩
theorem as_y2s {post : Int32 → SY → Prop} (hm : m ≤ 7) (hP : ∀ tm, (∀ j, j < m → xs_i tm j = xs_i a_slows j) → wpY_length (fun r u => match u with | (f_held, a_froms, a_tos, a_slows, a_fasts, a_prices, a_times, a_late, a_cheapest) => post r (f_held, a_froms, a_tos, a_slows, a_fasts, a_prices, a_times, a_late, a_cheapest)) (nI m, a_froms, a_tos, a_slows, a_fasts, a_prices, tm, a_late, a_cheapest)) :
    ∀ d i tm, i + d = m → (∀ j, j < i → xs_i tm j = xs_i a_slows j) → wY_slowest_2 post (nI m) (d + 1) (nI i) a_froms a_tos a_slows a_fasts a_prices tm a_late a_cheapest := by
  intro d
  induction d with
  | zero =>
    intro i tm hi h
    unfold wY_slowest_2
    exact br_t (nI_le (by omega) (by omega)) (hP tm (fun j hj => h j (by omega)))
  | succ d ih =>
    intro i tm hi h
    unfold wY_slowest_2
    rw [nI_clamp (n := i) (by omega)]
    refine br_f (nI_ge (by omega) (by omega)) ⟨vp_in_nI (by omega) (by omega), vp_in_nI (by omega) (by omega), nm_e (nm_r (nI_1 i) (ih (i + 1) _ (by omega) (fun j hj => ?_)))⟩
    by_cases e : j = i
    · rw [e, xa_up.1]; rfl
    · rw [xa_up.2 j (by omega)]; exact h j (by omega)
theorem as_y2f {post : Int32 → SY → Prop} (hm : m ≤ 7) (hP : ∀ tm, (∀ j, j < m → xs_i tm j = xs_i a_fasts j) → wpY_length (fun r u => match u with | (f_held, a_froms, a_tos, a_slows, a_fasts, a_prices, a_times, a_late, a_cheapest) => post r (f_held, a_froms, a_tos, a_slows, a_fasts, a_prices, a_times, a_late, a_cheapest)) (nI m, a_froms, a_tos, a_slows, a_fasts, a_prices, tm, a_late, a_cheapest)) :
    ∀ d i tm, i + d = m → (∀ j, j < i → xs_i tm j = xs_i a_fasts j) → wY_fastest_2 post (nI m) (d + 1) (nI i) a_froms a_tos a_slows a_fasts a_prices tm a_late a_cheapest := by
  intro d
  induction d with
  | zero =>
    intro i tm hi h
    unfold wY_fastest_2
    exact br_t (nI_le (by omega) (by omega)) (hP tm (fun j hj => h j (by omega)))
  | succ d ih =>
    intro i tm hi h
    unfold wY_fastest_2
    rw [nI_clamp (n := i) (by omega)]
    refine br_f (nI_ge (by omega) (by omega)) ⟨vp_in_nI (by omega) (by omega), vp_in_nI (by omega) (by omega), nm_e (nm_r (nI_1 i) (ih (i + 1) _ (by omega) (fun j hj => ?_)))⟩
    by_cases e : j = i
    · rw [e, xa_up.1]; rfl
    · rw [xa_up.2 j (by omega)]; exact h j (by omega)
theorem as_ys {post : Int32 → SY → Prop} (O : xs_O m a_froms a_tos a_slows a_fasts a_prices)
    (hP : ∀ tm la (r : Int32), ys_S m (xs_n a_froms) (xs_n a_tos) (xs_i a_slows) r.toInt → post r (nI m, a_froms, a_tos, a_slows, a_fasts, a_prices, tm, la, a_cheapest)) : wpY_slowest post (nI m, a_froms, a_tos, a_slows, a_fasts, a_prices, a_times, a_late, a_cheapest) := by
  unfold wpY_slowest
  dsimp only
  refine ⟨m + 1, as_y2s O.1.1 (fun tm h => y_len O (fun j hj => ?_) (fun la r S => hP tm la r (ys_congr h S))) m 0 a_times (by omega) (fun j hj => by omega)⟩
  have := O.1.2 j hj
  rw [h j hj]; omega
theorem as_yf {post : Int32 → SY → Prop} (O : xs_O m a_froms a_tos a_slows a_fasts a_prices)
    (hP : ∀ tm la (r : Int32), ys_S m (xs_n a_froms) (xs_n a_tos) (xs_i a_fasts) r.toInt → post r (nI m, a_froms, a_tos, a_slows, a_fasts, a_prices, tm, la, a_cheapest)) : wpY_fastest post (nI m, a_froms, a_tos, a_slows, a_fasts, a_prices, a_times, a_late, a_cheapest) := by
  unfold wpY_fastest
  dsimp only
  refine ⟨m + 1, as_y2f O.1.1 (fun tm h => y_len O (fun j hj => ?_) (fun la r S => hP tm la r (ys_congr h S))) m 0 a_times (by omega) (fun j hj => by omega)⟩
  have := O.1.2 j hj
  rw [h j hj]; omega
end
theorem i_vc_slowest {k : Nat} {u : SX} {v : SY} (I : i_Rel k u v) (hk : k + 6 ≤ 3072) : wpX_slowest (fun r u' => wpY_slowest (fun r' v' => r' = r ∧ i_Rel (k + 6) u' v') v) u := by
  obtain ⟨f_jobs, f_known, f_ways, a_from, a_to, a_slow, a_fast, a_price, a_flow, a_longest, a_reached, a_lastLine, a_wayLength, a_wayAmount⟩ := u
  obtain ⟨f_held, a_froms, a_tos, a_slows, a_fasts, a_prices, a_times, a_late, a_cheapest⟩ := v
  obtain ⟨m, rfl, rfl, rfl, rfl, rfl, rfl, rfl, O, G⟩ := I
  refine as_xs O G (fun n fk fl al ar aL wL wA r G' S => as_ys O (fun tm la r' S' => ⟨Int32.toInt_inj.mp (ys_uniq S' S), re_mk (n := 0) O (fun _ => ⟨n, rfl, G'⟩)⟩))
theorem i_vc_fastest {k : Nat} {u : SX} {v : SY} (I : i_Rel k u v) (hk : k + 6 ≤ 3072) : wpX_fastest (fun r u' => wpY_fastest (fun r' v' => r' = r ∧ i_Rel (k + 6) u' v') v) u := by
  obtain ⟨f_jobs, f_known, f_ways, a_from, a_to, a_slow, a_fast, a_price, a_flow, a_longest, a_reached, a_lastLine, a_wayLength, a_wayAmount⟩ := u
  obtain ⟨f_held, a_froms, a_tos, a_slows, a_fasts, a_prices, a_times, a_late, a_cheapest⟩ := v
  obtain ⟨m, rfl, rfl, rfl, rfl, rfl, rfl, rfl, O, G⟩ := I
  refine as_xf O G (fun n fk fl al ar aL wL wA r G' S => as_yf O (fun tm la r' S' => ⟨Int32.toInt_inj.mp (ys_uniq S' S), re_mk (n := 0) O (fun _ => ⟨n, rfl, G'⟩)⟩))
theorem i_vc_cost {k : Nat} {u : SX} {v : SY} (I : i_Rel k u v) (hk : k + 6 ≤ 3072) (v1 : Int32) : wpX_cost (fun r u' => wpY_cost (fun r' v' => r' = r ∧ i_Rel (k + 6) u' v') v v1) u v1 := by
  obtain ⟨f_jobs, f_known, f_ways, a_from, a_to, a_slow, a_fast, a_price, a_flow, a_longest, a_reached, a_lastLine, a_wayLength, a_wayAmount⟩ := u
  obtain ⟨f_held, a_froms, a_tos, a_slows, a_fasts, a_prices, a_times, a_late, a_cheapest⟩ := v
  obtain ⟨m, rfl, rfl, rfl, rfl, rfl, rfl, rfl, O, G⟩ := I
  have z0 : (0 : Int32).toInt = 0 := rfl
  unfold wpX_cost wpY_cost
  dsimp only
  refine ⟨fun y => x_all O G (fun n fk fl al ar aL wL wA G' => ?_), fun y => y_curve O (fun tm la ch C => ?_)⟩
  · rw [xs_le, z0] at y
    refine x_cost O G' y (fun r hO => y_curve O (fun tm la ch C => y_cost O C y (fun r' hO' => ⟨Int32.toInt_inj.mp (op_uniq hO' hO), re_mk (n := 0) O (fun _ => ⟨n, rfl, G'⟩)⟩)))
  · exact y_costn (Int32.not_le.mp y) ⟨rfl, re_mk (n := 0) O G⟩
theorem i_vc_step {k : Nat} {u : SX} {v : SY} (I : i_Rel k u v) (hk : k + 6 ≤ 3072) (v1 : Int32) : wpX_step (fun r u' => wpY_step (fun r' v' => r' = r ∧ i_Rel (k + 6) u' v') v v1) u v1 := by
  obtain ⟨f_jobs, f_known, f_ways, a_from, a_to, a_slow, a_fast, a_price, a_flow, a_longest, a_reached, a_lastLine, a_wayLength, a_wayAmount⟩ := u
  obtain ⟨f_held, a_froms, a_tos, a_slows, a_fasts, a_prices, a_times, a_late, a_cheapest⟩ := v
  obtain ⟨m, rfl, rfl, rfl, rfl, rfl, rfl, rfl, O, G⟩ := I
  have z0 : (0 : Int32).toInt = 0 := rfl
  have z1 : (1 : Int32).toInt = 1 := rfl
  have zk : (1000 : Int32).toInt = 1000 := by decide
  have zm : (2147483647 : Int32).toInt = 2147483647 := by decide
  unfold wpX_step wpY_step
  dsimp only
  refine ⟨fun y => x_all O G (fun n fk fl al ar aL wL wA G' => ?_), fun y => y_curve O (fun tm la ch C => ?_)⟩
  · rw [xs_le, z0] at y
    refine x_cost O G' y (fun r hO => ⟨fun yr => ⟨fun yk => ?_, fun yk => ?_⟩, fun yr => ?_⟩)
    · -- both costs
      rw [xs_le, zk] at yk
      have e1 : (v1 + 1).toInt = v1.toInt + 1 := by
        have := xs_add (x := v1) (y := 1) (by rw [z1]; omega) (by rw [z1]; omega)
        rw [this, z1]
      refine x_cost O G' (by rw [e1]; omega) (fun r2 hO2 => y_curve O (fun tm la ch C => y_cost O C y (fun r' hO' => ?_)))
      have er : r' = r := Int32.toInt_inj.mp (op_uniq hO' hO)
      subst er
      rw [xs_le, z0] at yr
      refine br_f (by rw [xs_lt, z0]; omega) (br_f (fun q => by rw [q, zm] at yk; omega) (y_cost O C (by rw [e1]; omega) (fun r2' hO2' => ?_)))
      have er2 : r2' = r2 := Int32.toInt_inj.mp (op_uniq hO2' hO2)
      subst er2
      exact ⟨rfl, re_mk (n := 0) O (fun _ => ⟨n, rfl, G'⟩)⟩
    · -- far out
      rw [xs_le, zk] at yk
      refine y_curve O (fun tm la ch C => y_cost O C y (fun r' hO' => ?_))
      have er : r' = r := Int32.toInt_inj.mp (op_uniq hO' hO)
      subst er
      have r0 := an_0 O.1 hO (by omega)
      rw [xs_le, z0] at yr
      refine br_f (by rw [xs_lt, z0]; omega) ⟨fun q => ?_, fun q => ?_⟩
      · unfold wY_step_20
        exact br_t (by rw [xs_le, z0]; omega) ⟨rfl, re_mk (n := 0) O (fun _ => ⟨n, rfl, G'⟩)⟩
      · have vm : v1.toInt ≠ 2147483647 := fun w => q (Int32.toInt_inj.mp (by rw [w, zm]))
        have vl := v1.toInt_lt
        have e1 : (v1 + 1).toInt = v1.toInt + 1 := by
          have := xs_add (x := v1) (y := 1) (by rw [z1]; omega) (by rw [z1]; omega)
          rw [this, z1]
        refine y_cost O C (by rw [e1]; omega) (fun r2 hO2 => ?_)
        have r20 := an_0 O.1 hO2 (by rw [e1]; omega)
        refine ⟨?_, re_mk (n := 0) O (fun _ => ⟨n, rfl, G'⟩)⟩
        have a : r' = 0 := xs_eq0.mpr r0
        have b : r2 = 0 := xs_eq0.mpr r20
        rw [a, b]; rfl
    · refine y_curve O (fun tm la ch C => y_cost O C y (fun r' hO' => ?_))
      have er : r' = r := Int32.toInt_inj.mp (op_uniq hO' hO)
      subst er
      refine br_t (Int32.not_le.mp yr) ?_
      unfold wY_step_20
      exact br_f yr ⟨rfl, re_mk (n := 0) O (fun _ => ⟨n, rfl, G'⟩)⟩
  · refine y_costn (Int32.not_le.mp y) (br_t (by decide) ?_)
    unfold wY_step_20
    exact br_f (by decide) ⟨rfl, re_mk (n := 0) O G⟩
theorem i_vc_within {k : Nat} {u : SX} {v : SY} (I : i_Rel k u v) (hk : k + 6 ≤ 3072) (v1 : Int32) : wpX_within (fun r u' => wpY_within (fun r' v' => r' = r ∧ i_Rel (k + 6) u' v') v v1) u v1 := by
  obtain ⟨f_jobs, f_known, f_ways, a_from, a_to, a_slow, a_fast, a_price, a_flow, a_longest, a_reached, a_lastLine, a_wayLength, a_wayAmount⟩ := u
  obtain ⟨f_held, a_froms, a_tos, a_slows, a_fasts, a_prices, a_times, a_late, a_cheapest⟩ := v
  obtain ⟨m, rfl, rfl, rfl, rfl, rfl, rfl, rfl, O, G⟩ := I
  have z0 : (0 : Int32).toInt = 0 := rfl
  unfold wpX_within wpY_within
  dsimp only
  refine ⟨fun y => x_all O G (fun n fk fl al ar aL wL wA G' => ?_), fun y => y_curve O (fun tm la ch C => ?_)⟩
  · rw [xs_le, z0] at y
    have hr : ∀ t : Nat, xa_O m a_froms a_tos a_slows a_fasts a_prices t (an_r (xs_i wL) (xs_i wA) t n) := fun t => an_O O.1 G' (by omega)
    have h45 : (fun t : Nat => an_r (xs_i wL) (xs_i wA) (t : Int) n) 45 = 0 := an_0 O.1 (hr 45) (by omega)
    obtain ⟨t0, t1, t2, t3⟩ := an_first (rr := fun t : Nat => an_r (xs_i wL) (xs_i wA) (t : Int) n) y h45
    dsimp only
    refine ⟨t0 + 1, x_12 O G' hr t1 t2 t3 ?_ t0 0 (by omega)⟩
    refine y_curve O (fun tm la ch C => ⟨t0 + 1, y_6 O C hr t1 t2 t3 ?_ t0 0 (by omega)⟩)
    exact ⟨rfl, re_mk (n := 0) O (fun _ => ⟨n, rfl, G'⟩)⟩
  · exact ⟨65, y_6n (rr := fun _ => 0) O C (Int32.not_le.mp y) ⟨rfl, re_mk (n := 0) O G⟩ 64 0 (by omega)⟩
theorem i_vc_total {k : Nat} {u : SX} {v : SY} (I : i_Rel k u v) (hk : k + 6 ≤ 3072) (v1 : Int32) : wpX_total (fun r u' => wpY_total (fun r' v' => r' = r ∧ i_Rel (k + 6) u' v') v v1) u v1 := by
  obtain ⟨f_jobs, f_known, f_ways, a_from, a_to, a_slow, a_fast, a_price, a_flow, a_longest, a_reached, a_lastLine, a_wayLength, a_wayAmount⟩ := u
  obtain ⟨f_held, a_froms, a_tos, a_slows, a_fasts, a_prices, a_times, a_late, a_cheapest⟩ := v
  obtain ⟨m, rfl, rfl, rfl, rfl, rfl, rfl, rfl, O, G⟩ := I
  have z0 : (0 : Int32).toInt = 0 := rfl
  have z200 : (200 : Int32).toInt = 200 := by decide
  unfold wpX_total wpY_total
  dsimp only
  refine ⟨fun y => br_t y ⟨rfl, re_mk (n := 0) O G⟩, fun y => ⟨fun y2 => x_all O G (fun n fk fl al ar aL wL wA G' => ?_), fun y2 => br_f y (br_f y2 ⟨rfl, re_mk (n := 0) O G⟩)⟩⟩
  have hp : 0 ≤ v1.toInt ∧ v1.toInt ≤ 200 := by
    have a := y
    have b := y2
    rw [xs_lt, z0] at a
    rw [xs_le, z200] at b
    omega
  have hr : ∀ t : Nat, xa_O m a_froms a_tos a_slows a_fasts a_prices t ((fun t : Nat => an_r (xs_i wL) (xs_i wA) (t : Int) n) t) := fun t => an_O O.1 G' (by omega)
  dsimp only
  refine ⟨47, x_21 O G' hr hp (fun r er => ?_) 46 0 (-1) (by omega) rfl⟩
  refine br_f y (br_t y2 (y_curve O (fun tm la ch C => ⟨65, y_21 O C hr hp (fun r' er' => ?_) 64 0 (-1) (by omega) rfl⟩)))
  refine ⟨Int32.toInt_inj.mp ?_, re_mk (n := 0) O (fun _ => ⟨n, rfl, G'⟩)⟩
  rw [er, er']
  exact (an_b46 hp.1 (fun t h1 h2 => an_0 O.1 (hr t) (by omega)) 18 (by omega)).1
end

section
/-! pure rows to paste: stores, nI and lN arithmetic, masks, shifts, narrowing, branches by naturals (pk_le, pk_lt, pk_eq), loops (lp1 .. lp16: the measure of the state; rp1 ..: recursion), negatives. Take what you need -/
theorem pk_us {f : Nat → Int32} {k : Nat} {x : Int32} : upd f k x k = x := if_pos rfl
theorem pk_un {f : Nat → Int32} {k j : Nat} {x : Int32} (h : j ≠ k) : upd f k x j = f j := if_neg h
theorem pk_uLs {f : Nat → Int64} {k : Nat} {x : Int64} : vp_updL f k x k = x := if_pos rfl
theorem pk_uLn {f : Nat → Int64} {k j : Nat} {x : Int64} (h : j ≠ k) : vp_updL f k x j = f j := if_neg h
theorem pk_sub {a b : Nat} (h : b ≤ a) : nI a - nI b = nI (a - b) := by
  obtain ⟨c, rfl⟩ : ∃ c, a = c + b := ⟨a - b, by omega⟩
  rw [← nI_add, Int32.add_sub_cancel, Nat.add_sub_cancel]
theorem pk_m1 (n : Nat) : nI (n + 1) + (-1) = nI n := by
  rw [← nI_1, Int32.add_assoc, show (1 : Int32) + (-1) = 0 from rfl, Int32.add_zero]
theorem pk_mul (a b : Nat) : nI a * nI b = nI (a * b) := (Int32.ofNat_mul a b).symm
theorem pk_div {a d : Nat} (ha : a < 2 ^ 31) (h0 : 0 < d) (hd : d < 2 ^ 31) : nI a / nI d = nI (a / d) := by
  apply Int32.toInt_inj.mp
  rw [lg_idiv_nonneg (by rw [nI_toInt ha]; omega) (by rw [nI_toInt hd]; omega), nI_toInt ha, nI_toInt hd, nI_toInt (Nat.lt_of_le_of_lt (Nat.div_le_self a d) ha)]
  first | rfl | exact (Int.natCast_ediv _ _).symm
theorem pk_rem {a d : Nat} (ha : a < 2 ^ 31) (h0 : 0 < d) (hd : d < 2 ^ 31) : nI a - nI a / nI d * nI d = nI (a % d) := by
  rw [pk_div ha h0 hd, pk_mul, pk_sub (Nat.div_mul_le_self a d)]
  exact congrArg nI (by have := Nat.div_add_mod' a d; omega)
theorem pk_sub_toInt {a b : Nat} (ha : a < 2 ^ 30) (hb : b < 2 ^ 30) : (nI a - nI b).toInt = (a : Int) - b := by
  rw [Int32.toInt_sub, nI_toInt (by omega), nI_toInt (by omega)]
  exact Int.bmod_eq_of_le (by omega) (by omega)
theorem pk_sneg {a b : Nat} (hb : b < 2 ^ 30) (h : a < b) : nI a - nI b < 0 := by
  rw [Int32.lt_iff_toInt_lt, pk_sub_toInt (by omega) hb, show (0 : Int32).toInt = 0 from by decide]
  omega
theorem pk_ix (x : Int32) {n : Nat} (hn : n < 2 ^ 31) : x < 0 ∨ nI n ≤ x ∨ ∃ j : Nat, j < n ∧ x = nI j := by
  by_cases h : x < 0
  · exact Or.inl h
  · obtain ⟨j, hj, rfl⟩ := nI_of h
    by_cases h2 : j < n
    · exact Or.inr (Or.inr ⟨j, h2, rfl⟩)
    · exact Or.inr (Or.inl (nI_le (by omega) hj))
theorem pk_le {x y : Int32} {A B : Prop} (a b : Nat) (f : a ≤ b → A) (g : b < a → B) (hx : x = nI a := by rfl) (hy : y = nI b := by rfl) (ha : a < 2 ^ 31 := by omega) (hb : b < 2 ^ 31 := by omega) : (x ≤ y → A) ∧ (¬ x ≤ y → B) := by
  subst hx hy
  rw [nI_leI ha hb]
  exact ⟨f, fun z => g (by omega)⟩
theorem pk_lt {x y : Int32} {A B : Prop} (a b : Nat) (f : a < b → A) (g : b ≤ a → B) (hx : x = nI a := by rfl) (hy : y = nI b := by rfl) (ha : a < 2 ^ 31 := by omega) (hb : b < 2 ^ 31 := by omega) : (x < y → A) ∧ (¬ x < y → B) := by
  subst hx hy
  rw [nI_ltI ha hb]
  exact ⟨f, fun z => g (by omega)⟩
theorem pk_eq {x y : Int32} {A B : Prop} (a b : Nat) (f : a = b → A) (g : a ≠ b → B) (hx : x = nI a := by rfl) (hy : y = nI b := by rfl) (ha : a < 2 ^ 31 := by omega) (hb : b < 2 ^ 31 := by omega) : (x = y → A) ∧ (¬ x = y → B) := by
  subst hx hy
  rw [nI_eq ha hb]
  exact ⟨f, g⟩
theorem pk_in {x : Int32} (n N : Nat) (h : n < N) (hx : x = nI n := by rfl) (hN : N < 2 ^ 31 := by omega) : vp_in x N := by
  subst hx
  exact vp_in_nI h hN
theorem pk_cl {x : Int32} (n : Nat) (hx : x = nI n := by rfl) (h : n < 2 ^ 31 := by omega) : x.toNatClampNeg = n := by
  subst hx
  exact nI_clamp h
theorem pk_tn {n : Nat} (h : n < 2 ^ 32) : (nI n).toBitVec.toNat = n := Nat.mod_eq_of_lt h
theorem pk_and (x : Int32) {m : Int32} (k : Nat) (hm : m.toBitVec.toNat = 2 ^ k - 1) : x &&& m = nI (x.toBitVec.toNat % 2 ^ k) := by
  apply Int32.toBitVec_inj.mp
  apply BitVec.eq_of_toNat_eq
  rw [Int32.toBitVec_and, BitVec.toNat_and, hm, Nat.and_two_pow_sub_one_eq_mod]
  show _ = (BitVec.ofNat 32 _).toNat
  rw [BitVec.toNat_ofNat]
  exact (Nat.mod_eq_of_lt (Nat.lt_of_le_of_lt (Nat.mod_le _ _) x.toBitVec.isLt)).symm
theorem pk_andN {n : Nat} (h : n < 2 ^ 32) {m : Int32} (k : Nat) (hm : m.toBitVec.toNat = 2 ^ k - 1) : nI n &&& m = nI (n % 2 ^ k) := by
  rw [pk_and _ k hm, pk_tn h]
theorem pk_andE (x : Int32) {m : Int32} (k : Nat) (hm : m.toBitVec.toNat = 2 ^ k - 1) : ∃ j : Nat, j < 2 ^ k ∧ x &&& m = nI j := ⟨_, Nat.mod_lt _ (Nat.two_pow_pos k), pk_and x k hm⟩
theorem pk_andIn (x : Int32) {m : Int32} (k : Nat) (hm : m.toBitVec.toNat = 2 ^ k - 1) (hk : k ≤ 30) : vp_in (x &&& m) (2 ^ k) := by
  obtain ⟨j, hj, e⟩ := pk_andE x k hm
  rw [e]
  exact vp_in_nI hj (Nat.lt_of_le_of_lt (Nat.pow_le_pow_right (by decide) hk) (by decide))
theorem pk_shl (a s : Int32) (k : Nat) (hs : (s.toBitVec.smod 32).toNat = k) : (a <<< s).toBitVec.toNat = a.toBitVec.toNat * 2 ^ k % 2 ^ 32 := by
  show (a.toBitVec <<< (s.toBitVec.smod 32).toNat).toNat = _
  rw [hs, BitVec.toNat_shiftLeft, Nat.shiftLeft_eq]
theorem pk_shlN {n : Nat} (s : Int32) (k : Nat) (hs : (s.toBitVec.smod 32).toNat = k) (h : n * 2 ^ k < 2 ^ 32) : nI n <<< s = nI (n * 2 ^ k) := by
  apply Int32.toBitVec_inj.mp
  apply BitVec.eq_of_toNat_eq
  have hn : n < 2 ^ 32 := Nat.lt_of_le_of_lt (Nat.le_mul_of_pos_right n (Nat.two_pow_pos k)) h
  rw [pk_shl _ _ k hs, pk_tn hn, pk_tn h, Nat.mod_eq_of_lt h]
theorem pk_shr (a s : Int32) (k : Nat) (hs : (s.toBitVec.smod 32).toNat = k) : (a >>> s).toInt = a.toInt >>> k := by
  show (a.toBitVec.sshiftRight (s.toBitVec.smod 32).toNat).toInt = _
  rw [hs, BitVec.toInt_sshiftRight]
  rfl
theorem pk_shrN {n : Nat} (h : n < 2 ^ 31) (s : Int32) (k : Nat) (hs : (s.toBitVec.smod 32).toNat = k) : nI n >>> s = nI (n / 2 ^ k) := by
  apply Int32.toInt_inj.mp
  have h2 : n / 2 ^ k ≤ n := Nat.div_le_self _ _
  rw [pk_shr _ _ k hs, nI_toInt h, nI_toInt (by omega), Int.shiftRight_eq_div_pow]
  rfl
theorem pk_ushr (x s : Int32) (k : Nat) (hs : ((s.toUInt32 &&& Int32.toUInt32 31).toBitVec % 32).toNat = k) : (x.toUInt32 >>> (s.toUInt32 &&& Int32.toUInt32 31)).toInt32.toBitVec.toNat = x.toBitVec.toNat / 2 ^ k := by
  have e : (x.toUInt32 >>> (s.toUInt32 &&& Int32.toUInt32 31)).toInt32.toBitVec = x.toBitVec >>> k := by
    rw [← hs]
    exact UInt32.toBitVec_shiftRight _ _
  rw [e, BitVec.toNat_ushiftRight, Nat.shiftRight_eq_div_pow]
theorem pk_ushrN {n : Nat} (hn : n < 2 ^ 32) (s : Int32) (k : Nat) (hs : ((s.toUInt32 &&& Int32.toUInt32 31).toBitVec % 32).toNat = k) : ((nI n).toUInt32 >>> (s.toUInt32 &&& Int32.toUInt32 31)).toInt32 = nI (n / 2 ^ k) := by
  apply Int32.toBitVec_inj.mp
  apply BitVec.eq_of_toNat_eq
  rw [pk_ushr _ s k hs, pk_tn hn, pk_tn (Nat.lt_of_le_of_lt (Nat.div_le_self _ _) hn)]
theorem pk_nb (z : Int32) : narrow .byte (.int z.toInt8.toInt32) = .int z.toInt8.toInt32 := congrArg Value.int (by simp)
theorem pk_ns (z : Int32) : narrow .short (.int z.toInt16.toInt32) = .int z.toInt16.toInt32 := congrArg Value.int (by simp)
theorem pk_fb (r : Int32) : fits .byte (.int r.toInt8.toInt32) = true := by
  have ⟨a, b⟩ := lg_i2b_range r
  have h1 : (-128 : Int32).toInt = -128 := by decide
  have h2 : (127 : Int32).toInt = 127 := by decide
  simp only [fits, Bool.and_eq_true, decide_eq_true_eq, Int32.le_iff_toInt_le, h1, h2]
  omega
theorem pk_fs (r : Int32) : fits .short (.int r.toInt16.toInt32) = true := by
  have ⟨a, b⟩ := lg_i2s_range r
  have h1 : (-32768 : Int32).toInt = -32768 := by decide
  have h2 : (32767 : Int32).toInt = 32767 := by decide
  simp only [fits, Bool.and_eq_true, decide_eq_true_eq, Int32.le_iff_toInt_le, h1, h2]
  omega
theorem pk_charN {q : Nat} (hq : q < 65536) : narrow .char (.int (nI q)) = .int (nI q) ∧ fits .char (.int (nI q)) = true := by
  constructor
  · have e : (nI q).toUInt32.toUInt16.toUInt32.toInt32 = nI q := by
      apply Int32.toBitVec_inj.mp
      apply BitVec.eq_of_toNat_eq
      show (nI q).toUInt32.toUInt16.toUInt32.toNat = q % 2 ^ 32
      rw [UInt16.toNat_toUInt32, UInt32.toNat_toUInt16, show (nI q).toUInt32.toNat = q % 2 ^ 32 from rfl]
      omega
    exact congrArg Value.int e
  · have a : (0 : Int32) ≤ nI q := nI_pos' (by omega)
    have b : nI q ≤ 65535 := nI_le (b := 65535) (by omega) (by decide)
    show (decide ((0 : Int32) ≤ nI q) && decide (nI q ≤ 65535)) = true
    rw [decide_eq_true a, decide_eq_true b]
    rfl
theorem pk_char (x : Int32) : (x.toUInt32 % 65536).toInt32 = nI (x.toBitVec.toNat % 65536) := by
  apply Int32.toBitVec_inj.mp
  apply BitVec.eq_of_toNat_eq
  rw [pk_tn (by omega)]
  show (x.toUInt32 % 65536).toNat = _
  rw [UInt32.toNat_mod]
  rfl
theorem pk_nc (x : Int32) : narrow .char (.int (x.toUInt32 % 65536).toInt32) = .int (x.toUInt32 % 65536).toInt32 := by
  rw [pk_char]
  exact (pk_charN (Nat.mod_lt _ (by decide))).1
theorem pk_fc (x : Int32) : fits .char (.int (x.toUInt32 % 65536).toInt32) = true := by
  rw [pk_char]
  exact (pk_charN (Nat.mod_lt _ (by decide))).2
theorem pk_vb (z : Int32) : vp_nar .byte z.toInt8.toInt32 = z.toInt8.toInt32 := by rw [vp_nar_byte]; simp
theorem pk_vs (z : Int32) : vp_nar .short z.toInt16.toInt32 = z.toInt16.toInt32 := by rw [vp_nar_short]; simp
theorem pk_vc (z : Int32) : vp_nar .char (z.toUInt32 % 65536).toInt32 = (z.toUInt32 % 65536).toInt32 := Value.int.inj (pk_nc z)
theorem pk_lT {n : Nat} (h : n < 2 ^ 63) : (lN n).toInt = (n : Int) := lg_ofNat_toInt h
theorem pk_lLT {a b : Nat} (ha : a < 2 ^ 63) (hb : b < 2 ^ 63) : lN a < lN b ↔ a < b := by
  rw [Int64.lt_iff_toInt_lt, pk_lT ha, pk_lT hb]; omega
theorem pk_lLE {a b : Nat} (ha : a < 2 ^ 63) (hb : b < 2 ^ 63) : lN a ≤ lN b ↔ a ≤ b := by
  rw [Int64.le_iff_toInt_le, pk_lT ha, pk_lT hb]; omega
theorem pk_lEQ {a b : Nat} (ha : a < 2 ^ 63) (hb : b < 2 ^ 63) : lN a = lN b ↔ a = b := by
  rw [← Int64.toInt_inj, pk_lT ha, pk_lT hb]; omega
theorem pk_lOf {x : Int64} (h : ¬ x < 0) : ∃ k : Nat, k < 2 ^ 63 ∧ x = lN k := by
  rw [Int64.lt_iff_toInt_lt] at h
  have h0 : (0 : Int64).toInt = 0 := by decide
  have hx := Int64.toInt_lt x
  refine ⟨x.toInt.toNat, by omega, Int64.toInt_inj.mp ?_⟩
  rw [pk_lT (by omega)]
  omega
theorem pk_lDiv {a b : Nat} (ha : a < 2 ^ 63) (h0 : 0 < b) (hb : b < 2 ^ 63) : lN a / lN b = lN (a / b) := by
  apply Int64.toInt_inj.mp
  rw [lg_ldiv_nonneg (by rw [pk_lT ha]; omega) (by rw [pk_lT hb]; omega), pk_lT ha, pk_lT hb, pk_lT (Nat.lt_of_le_of_lt (Nat.div_le_self a b) ha)]
  rfl
theorem pk_lRem {a b : Nat} (ha : a < 2 ^ 63) (h0 : 0 < b) (hb : b < 2 ^ 63) : lN a - lN a / lN b * lN b = lN (a % b) := by
  rw [pk_lDiv ha h0 hb, lN_mul, lN_sub (Nat.div_mul_le_self a b)]
  exact congrArg lN (by have := Nat.div_add_mod' a b; omega)
theorem pk_loop {σ : Type} (W : Nat → Nat → σ → Prop) (I : Nat → σ → Prop) (e i0 : Nat) (s : σ) (hi : i0 ≤ e) (h0 : I i0 s) (hx : ∀ n s, I e s → W (n + 1) e s)
    (hs : ∀ n i s, i < e → I i s → (∀ s', I (i + 1) s' → W n (i + 1) s') → W (n + 1) i s) : ∃ n, W n i0 s :=
  ⟨e + 1, loop_i W I e hx hs (e + 1) i0 s hi (by omega) h0⟩
theorem pk_loopD {σ : Type} (W : Nat → Nat → σ → Prop) (I : Nat → σ → Prop) (hx : ∀ n s, I 0 s → W (n + 1) 0 s)
    (hs : ∀ n i s, I (i + 1) s → (∀ s', I i s' → W n i s') → W (n + 1) (i + 1) s) : ∀ (e : Nat) (s : σ), I e s → W (e + 1) e s := by
  intro e
  induction e with
  | zero => exact fun s h => hx 0 s h
  | succ e ih => exact fun s h => hs (e + 1) e s h (fun s' h' => ih s' h')
theorem lp1 {A1 : Type} (W : Nat → A1 → Prop) (I : A1 → Prop) (μ : A1 → Nat) (hs : ∀ (n : Nat) (a1 : A1), I a1 → (∀ (b1 : A1), I b1 → μ b1 < μ a1 → W n b1) → W (n + 1) a1) (a1 : A1) (h : I a1) : ∃ n, W n a1 :=
  loop_m (σ := A1) (fun n s => W n s) (fun s => I s) (fun s => μ s) (fun n s hI hk => hs n s hI (fun b1 h9 hm => hk b1 h9 hm)) a1 h
theorem lp2 {A1 A2 : Type} (W : Nat → A1 → A2 → Prop) (I : A1 → A2 → Prop) (μ : A1 → A2 → Nat) (hs : ∀ (n : Nat) (a1 : A1) (a2 : A2), I a1 a2 → (∀ (b1 : A1) (b2 : A2), I b1 b2 → μ b1 b2 < μ a1 a2 → W n b1 b2) → W (n + 1) a1 a2) (a1 : A1) (a2 : A2) (h : I a1 a2) : ∃ n, W n a1 a2 :=
  loop_m (σ := A1 × A2) (fun n s => W n s.1 s.2) (fun s => I s.1 s.2) (fun s => μ s.1 s.2) (fun n s hI hk => hs n s.1 s.2 hI (fun b1 b2 h9 hm => hk (b1, b2) h9 hm)) (a1, a2) h
theorem lp3 {A1 A2 A3 : Type} (W : Nat → A1 → A2 → A3 → Prop) (I : A1 → A2 → A3 → Prop) (μ : A1 → A2 → A3 → Nat) (hs : ∀ (n : Nat) (a1 : A1) (a2 : A2) (a3 : A3), I a1 a2 a3 → (∀ (b1 : A1) (b2 : A2) (b3 : A3), I b1 b2 b3 → μ b1 b2 b3 < μ a1 a2 a3 → W n b1 b2 b3) → W (n + 1) a1 a2 a3) (a1 : A1) (a2 : A2) (a3 : A3) (h : I a1 a2 a3) : ∃ n, W n a1 a2 a3 :=
  loop_m (σ := A1 × A2 × A3) (fun n s => W n s.1 s.2.1 s.2.2) (fun s => I s.1 s.2.1 s.2.2) (fun s => μ s.1 s.2.1 s.2.2) (fun n s hI hk => hs n s.1 s.2.1 s.2.2 hI (fun b1 b2 b3 h9 hm => hk (b1, b2, b3) h9 hm)) (a1, a2, a3) h
theorem lp4 {A1 A2 A3 A4 : Type} (W : Nat → A1 → A2 → A3 → A4 → Prop) (I : A1 → A2 → A3 → A4 → Prop) (μ : A1 → A2 → A3 → A4 → Nat) (hs : ∀ (n : Nat) (a1 : A1) (a2 : A2) (a3 : A3) (a4 : A4), I a1 a2 a3 a4 → (∀ (b1 : A1) (b2 : A2) (b3 : A3) (b4 : A4), I b1 b2 b3 b4 → μ b1 b2 b3 b4 < μ a1 a2 a3 a4 → W n b1 b2 b3 b4) → W (n + 1) a1 a2 a3 a4) (a1 : A1) (a2 : A2) (a3 : A3) (a4 : A4) (h : I a1 a2 a3 a4) : ∃ n, W n a1 a2 a3 a4 :=
  loop_m (σ := A1 × A2 × A3 × A4) (fun n s => W n s.1 s.2.1 s.2.2.1 s.2.2.2) (fun s => I s.1 s.2.1 s.2.2.1 s.2.2.2) (fun s => μ s.1 s.2.1 s.2.2.1 s.2.2.2) (fun n s hI hk => hs n s.1 s.2.1 s.2.2.1 s.2.2.2 hI (fun b1 b2 b3 b4 h9 hm => hk (b1, b2, b3, b4) h9 hm)) (a1, a2, a3, a4) h
theorem lp5 {A1 A2 A3 A4 A5 : Type} (W : Nat → A1 → A2 → A3 → A4 → A5 → Prop) (I : A1 → A2 → A3 → A4 → A5 → Prop) (μ : A1 → A2 → A3 → A4 → A5 → Nat) (hs : ∀ (n : Nat) (a1 : A1) (a2 : A2) (a3 : A3) (a4 : A4) (a5 : A5), I a1 a2 a3 a4 a5 → (∀ (b1 : A1) (b2 : A2) (b3 : A3) (b4 : A4) (b5 : A5), I b1 b2 b3 b4 b5 → μ b1 b2 b3 b4 b5 < μ a1 a2 a3 a4 a5 → W n b1 b2 b3 b4 b5) → W (n + 1) a1 a2 a3 a4 a5) (a1 : A1) (a2 : A2) (a3 : A3) (a4 : A4) (a5 : A5) (h : I a1 a2 a3 a4 a5) : ∃ n, W n a1 a2 a3 a4 a5 :=
  loop_m (σ := A1 × A2 × A3 × A4 × A5) (fun n s => W n s.1 s.2.1 s.2.2.1 s.2.2.2.1 s.2.2.2.2) (fun s => I s.1 s.2.1 s.2.2.1 s.2.2.2.1 s.2.2.2.2) (fun s => μ s.1 s.2.1 s.2.2.1 s.2.2.2.1 s.2.2.2.2) (fun n s hI hk => hs n s.1 s.2.1 s.2.2.1 s.2.2.2.1 s.2.2.2.2 hI (fun b1 b2 b3 b4 b5 h9 hm => hk (b1, b2, b3, b4, b5) h9 hm)) (a1, a2, a3, a4, a5) h
theorem lp6 {A1 A2 A3 A4 A5 A6 : Type} (W : Nat → A1 → A2 → A3 → A4 → A5 → A6 → Prop) (I : A1 → A2 → A3 → A4 → A5 → A6 → Prop) (μ : A1 → A2 → A3 → A4 → A5 → A6 → Nat) (hs : ∀ (n : Nat) (a1 : A1) (a2 : A2) (a3 : A3) (a4 : A4) (a5 : A5) (a6 : A6), I a1 a2 a3 a4 a5 a6 → (∀ (b1 : A1) (b2 : A2) (b3 : A3) (b4 : A4) (b5 : A5) (b6 : A6), I b1 b2 b3 b4 b5 b6 → μ b1 b2 b3 b4 b5 b6 < μ a1 a2 a3 a4 a5 a6 → W n b1 b2 b3 b4 b5 b6) → W (n + 1) a1 a2 a3 a4 a5 a6) (a1 : A1) (a2 : A2) (a3 : A3) (a4 : A4) (a5 : A5) (a6 : A6) (h : I a1 a2 a3 a4 a5 a6) : ∃ n, W n a1 a2 a3 a4 a5 a6 :=
  loop_m (σ := A1 × A2 × A3 × A4 × A5 × A6) (fun n s => W n s.1 s.2.1 s.2.2.1 s.2.2.2.1 s.2.2.2.2.1 s.2.2.2.2.2) (fun s => I s.1 s.2.1 s.2.2.1 s.2.2.2.1 s.2.2.2.2.1 s.2.2.2.2.2) (fun s => μ s.1 s.2.1 s.2.2.1 s.2.2.2.1 s.2.2.2.2.1 s.2.2.2.2.2) (fun n s hI hk => hs n s.1 s.2.1 s.2.2.1 s.2.2.2.1 s.2.2.2.2.1 s.2.2.2.2.2 hI (fun b1 b2 b3 b4 b5 b6 h9 hm => hk (b1, b2, b3, b4, b5, b6) h9 hm)) (a1, a2, a3, a4, a5, a6) h
theorem lp7 {A1 A2 A3 A4 A5 A6 A7 : Type} (W : Nat → A1 → A2 → A3 → A4 → A5 → A6 → A7 → Prop) (I : A1 → A2 → A3 → A4 → A5 → A6 → A7 → Prop) (μ : A1 → A2 → A3 → A4 → A5 → A6 → A7 → Nat) (hs : ∀ (n : Nat) (a1 : A1) (a2 : A2) (a3 : A3) (a4 : A4) (a5 : A5) (a6 : A6) (a7 : A7), I a1 a2 a3 a4 a5 a6 a7 → (∀ (b1 : A1) (b2 : A2) (b3 : A3) (b4 : A4) (b5 : A5) (b6 : A6) (b7 : A7), I b1 b2 b3 b4 b5 b6 b7 → μ b1 b2 b3 b4 b5 b6 b7 < μ a1 a2 a3 a4 a5 a6 a7 → W n b1 b2 b3 b4 b5 b6 b7) → W (n + 1) a1 a2 a3 a4 a5 a6 a7) (a1 : A1) (a2 : A2) (a3 : A3) (a4 : A4) (a5 : A5) (a6 : A6) (a7 : A7) (h : I a1 a2 a3 a4 a5 a6 a7) : ∃ n, W n a1 a2 a3 a4 a5 a6 a7 :=
  loop_m (σ := A1 × A2 × A3 × A4 × A5 × A6 × A7) (fun n s => W n s.1 s.2.1 s.2.2.1 s.2.2.2.1 s.2.2.2.2.1 s.2.2.2.2.2.1 s.2.2.2.2.2.2) (fun s => I s.1 s.2.1 s.2.2.1 s.2.2.2.1 s.2.2.2.2.1 s.2.2.2.2.2.1 s.2.2.2.2.2.2) (fun s => μ s.1 s.2.1 s.2.2.1 s.2.2.2.1 s.2.2.2.2.1 s.2.2.2.2.2.1 s.2.2.2.2.2.2) (fun n s hI hk => hs n s.1 s.2.1 s.2.2.1 s.2.2.2.1 s.2.2.2.2.1 s.2.2.2.2.2.1 s.2.2.2.2.2.2 hI (fun b1 b2 b3 b4 b5 b6 b7 h9 hm => hk (b1, b2, b3, b4, b5, b6, b7) h9 hm)) (a1, a2, a3, a4, a5, a6, a7) h
theorem lp8 {A1 A2 A3 A4 A5 A6 A7 A8 : Type} (W : Nat → A1 → A2 → A3 → A4 → A5 → A6 → A7 → A8 → Prop) (I : A1 → A2 → A3 → A4 → A5 → A6 → A7 → A8 → Prop) (μ : A1 → A2 → A3 → A4 → A5 → A6 → A7 → A8 → Nat) (hs : ∀ (n : Nat) (a1 : A1) (a2 : A2) (a3 : A3) (a4 : A4) (a5 : A5) (a6 : A6) (a7 : A7) (a8 : A8), I a1 a2 a3 a4 a5 a6 a7 a8 → (∀ (b1 : A1) (b2 : A2) (b3 : A3) (b4 : A4) (b5 : A5) (b6 : A6) (b7 : A7) (b8 : A8), I b1 b2 b3 b4 b5 b6 b7 b8 → μ b1 b2 b3 b4 b5 b6 b7 b8 < μ a1 a2 a3 a4 a5 a6 a7 a8 → W n b1 b2 b3 b4 b5 b6 b7 b8) → W (n + 1) a1 a2 a3 a4 a5 a6 a7 a8) (a1 : A1) (a2 : A2) (a3 : A3) (a4 : A4) (a5 : A5) (a6 : A6) (a7 : A7) (a8 : A8) (h : I a1 a2 a3 a4 a5 a6 a7 a8) : ∃ n, W n a1 a2 a3 a4 a5 a6 a7 a8 :=
  loop_m (σ := A1 × A2 × A3 × A4 × A5 × A6 × A7 × A8) (fun n s => W n s.1 s.2.1 s.2.2.1 s.2.2.2.1 s.2.2.2.2.1 s.2.2.2.2.2.1 s.2.2.2.2.2.2.1 s.2.2.2.2.2.2.2) (fun s => I s.1 s.2.1 s.2.2.1 s.2.2.2.1 s.2.2.2.2.1 s.2.2.2.2.2.1 s.2.2.2.2.2.2.1 s.2.2.2.2.2.2.2) (fun s => μ s.1 s.2.1 s.2.2.1 s.2.2.2.1 s.2.2.2.2.1 s.2.2.2.2.2.1 s.2.2.2.2.2.2.1 s.2.2.2.2.2.2.2) (fun n s hI hk => hs n s.1 s.2.1 s.2.2.1 s.2.2.2.1 s.2.2.2.2.1 s.2.2.2.2.2.1 s.2.2.2.2.2.2.1 s.2.2.2.2.2.2.2 hI (fun b1 b2 b3 b4 b5 b6 b7 b8 h9 hm => hk (b1, b2, b3, b4, b5, b6, b7, b8) h9 hm)) (a1, a2, a3, a4, a5, a6, a7, a8) h
theorem lp9 {A1 A2 A3 A4 A5 A6 A7 A8 A9 : Type} (W : Nat → A1 → A2 → A3 → A4 → A5 → A6 → A7 → A8 → A9 → Prop) (I : A1 → A2 → A3 → A4 → A5 → A6 → A7 → A8 → A9 → Prop) (μ : A1 → A2 → A3 → A4 → A5 → A6 → A7 → A8 → A9 → Nat) (hs : ∀ (n : Nat) (a1 : A1) (a2 : A2) (a3 : A3) (a4 : A4) (a5 : A5) (a6 : A6) (a7 : A7) (a8 : A8) (a9 : A9), I a1 a2 a3 a4 a5 a6 a7 a8 a9 → (∀ (b1 : A1) (b2 : A2) (b3 : A3) (b4 : A4) (b5 : A5) (b6 : A6) (b7 : A7) (b8 : A8) (b9 : A9), I b1 b2 b3 b4 b5 b6 b7 b8 b9 → μ b1 b2 b3 b4 b5 b6 b7 b8 b9 < μ a1 a2 a3 a4 a5 a6 a7 a8 a9 → W n b1 b2 b3 b4 b5 b6 b7 b8 b9) → W (n + 1) a1 a2 a3 a4 a5 a6 a7 a8 a9) (a1 : A1) (a2 : A2) (a3 : A3) (a4 : A4) (a5 : A5) (a6 : A6) (a7 : A7) (a8 : A8) (a9 : A9) (h : I a1 a2 a3 a4 a5 a6 a7 a8 a9) : ∃ n, W n a1 a2 a3 a4 a5 a6 a7 a8 a9 :=
  loop_m (σ := A1 × A2 × A3 × A4 × A5 × A6 × A7 × A8 × A9) (fun n s => W n s.1 s.2.1 s.2.2.1 s.2.2.2.1 s.2.2.2.2.1 s.2.2.2.2.2.1 s.2.2.2.2.2.2.1 s.2.2.2.2.2.2.2.1 s.2.2.2.2.2.2.2.2) (fun s => I s.1 s.2.1 s.2.2.1 s.2.2.2.1 s.2.2.2.2.1 s.2.2.2.2.2.1 s.2.2.2.2.2.2.1 s.2.2.2.2.2.2.2.1 s.2.2.2.2.2.2.2.2) (fun s => μ s.1 s.2.1 s.2.2.1 s.2.2.2.1 s.2.2.2.2.1 s.2.2.2.2.2.1 s.2.2.2.2.2.2.1 s.2.2.2.2.2.2.2.1 s.2.2.2.2.2.2.2.2) (fun n s hI hk => hs n s.1 s.2.1 s.2.2.1 s.2.2.2.1 s.2.2.2.2.1 s.2.2.2.2.2.1 s.2.2.2.2.2.2.1 s.2.2.2.2.2.2.2.1 s.2.2.2.2.2.2.2.2 hI (fun b1 b2 b3 b4 b5 b6 b7 b8 b9 h9 hm => hk (b1, b2, b3, b4, b5, b6, b7, b8, b9) h9 hm)) (a1, a2, a3, a4, a5, a6, a7, a8, a9) h
theorem lp10 {A1 A2 A3 A4 A5 A6 A7 A8 A9 A10 : Type} (W : Nat → A1 → A2 → A3 → A4 → A5 → A6 → A7 → A8 → A9 → A10 → Prop) (I : A1 → A2 → A3 → A4 → A5 → A6 → A7 → A8 → A9 → A10 → Prop) (μ : A1 → A2 → A3 → A4 → A5 → A6 → A7 → A8 → A9 → A10 → Nat) (hs : ∀ (n : Nat) (a1 : A1) (a2 : A2) (a3 : A3) (a4 : A4) (a5 : A5) (a6 : A6) (a7 : A7) (a8 : A8) (a9 : A9) (a10 : A10), I a1 a2 a3 a4 a5 a6 a7 a8 a9 a10 → (∀ (b1 : A1) (b2 : A2) (b3 : A3) (b4 : A4) (b5 : A5) (b6 : A6) (b7 : A7) (b8 : A8) (b9 : A9) (b10 : A10), I b1 b2 b3 b4 b5 b6 b7 b8 b9 b10 → μ b1 b2 b3 b4 b5 b6 b7 b8 b9 b10 < μ a1 a2 a3 a4 a5 a6 a7 a8 a9 a10 → W n b1 b2 b3 b4 b5 b6 b7 b8 b9 b10) → W (n + 1) a1 a2 a3 a4 a5 a6 a7 a8 a9 a10) (a1 : A1) (a2 : A2) (a3 : A3) (a4 : A4) (a5 : A5) (a6 : A6) (a7 : A7) (a8 : A8) (a9 : A9) (a10 : A10) (h : I a1 a2 a3 a4 a5 a6 a7 a8 a9 a10) : ∃ n, W n a1 a2 a3 a4 a5 a6 a7 a8 a9 a10 :=
  loop_m (σ := A1 × A2 × A3 × A4 × A5 × A6 × A7 × A8 × A9 × A10) (fun n s => W n s.1 s.2.1 s.2.2.1 s.2.2.2.1 s.2.2.2.2.1 s.2.2.2.2.2.1 s.2.2.2.2.2.2.1 s.2.2.2.2.2.2.2.1 s.2.2.2.2.2.2.2.2.1 s.2.2.2.2.2.2.2.2.2) (fun s => I s.1 s.2.1 s.2.2.1 s.2.2.2.1 s.2.2.2.2.1 s.2.2.2.2.2.1 s.2.2.2.2.2.2.1 s.2.2.2.2.2.2.2.1 s.2.2.2.2.2.2.2.2.1 s.2.2.2.2.2.2.2.2.2) (fun s => μ s.1 s.2.1 s.2.2.1 s.2.2.2.1 s.2.2.2.2.1 s.2.2.2.2.2.1 s.2.2.2.2.2.2.1 s.2.2.2.2.2.2.2.1 s.2.2.2.2.2.2.2.2.1 s.2.2.2.2.2.2.2.2.2) (fun n s hI hk => hs n s.1 s.2.1 s.2.2.1 s.2.2.2.1 s.2.2.2.2.1 s.2.2.2.2.2.1 s.2.2.2.2.2.2.1 s.2.2.2.2.2.2.2.1 s.2.2.2.2.2.2.2.2.1 s.2.2.2.2.2.2.2.2.2 hI (fun b1 b2 b3 b4 b5 b6 b7 b8 b9 b10 h9 hm => hk (b1, b2, b3, b4, b5, b6, b7, b8, b9, b10) h9 hm)) (a1, a2, a3, a4, a5, a6, a7, a8, a9, a10) h
theorem lp11 {A1 A2 A3 A4 A5 A6 A7 A8 A9 A10 A11 : Type} (W : Nat → A1 → A2 → A3 → A4 → A5 → A6 → A7 → A8 → A9 → A10 → A11 → Prop) (I : A1 → A2 → A3 → A4 → A5 → A6 → A7 → A8 → A9 → A10 → A11 → Prop) (μ : A1 → A2 → A3 → A4 → A5 → A6 → A7 → A8 → A9 → A10 → A11 → Nat) (hs : ∀ (n : Nat) (a1 : A1) (a2 : A2) (a3 : A3) (a4 : A4) (a5 : A5) (a6 : A6) (a7 : A7) (a8 : A8) (a9 : A9) (a10 : A10) (a11 : A11), I a1 a2 a3 a4 a5 a6 a7 a8 a9 a10 a11 → (∀ (b1 : A1) (b2 : A2) (b3 : A3) (b4 : A4) (b5 : A5) (b6 : A6) (b7 : A7) (b8 : A8) (b9 : A9) (b10 : A10) (b11 : A11), I b1 b2 b3 b4 b5 b6 b7 b8 b9 b10 b11 → μ b1 b2 b3 b4 b5 b6 b7 b8 b9 b10 b11 < μ a1 a2 a3 a4 a5 a6 a7 a8 a9 a10 a11 → W n b1 b2 b3 b4 b5 b6 b7 b8 b9 b10 b11) → W (n + 1) a1 a2 a3 a4 a5 a6 a7 a8 a9 a10 a11) (a1 : A1) (a2 : A2) (a3 : A3) (a4 : A4) (a5 : A5) (a6 : A6) (a7 : A7) (a8 : A8) (a9 : A9) (a10 : A10) (a11 : A11) (h : I a1 a2 a3 a4 a5 a6 a7 a8 a9 a10 a11) : ∃ n, W n a1 a2 a3 a4 a5 a6 a7 a8 a9 a10 a11 :=
  loop_m (σ := A1 × A2 × A3 × A4 × A5 × A6 × A7 × A8 × A9 × A10 × A11) (fun n s => W n s.1 s.2.1 s.2.2.1 s.2.2.2.1 s.2.2.2.2.1 s.2.2.2.2.2.1 s.2.2.2.2.2.2.1 s.2.2.2.2.2.2.2.1 s.2.2.2.2.2.2.2.2.1 s.2.2.2.2.2.2.2.2.2.1 s.2.2.2.2.2.2.2.2.2.2) (fun s => I s.1 s.2.1 s.2.2.1 s.2.2.2.1 s.2.2.2.2.1 s.2.2.2.2.2.1 s.2.2.2.2.2.2.1 s.2.2.2.2.2.2.2.1 s.2.2.2.2.2.2.2.2.1 s.2.2.2.2.2.2.2.2.2.1 s.2.2.2.2.2.2.2.2.2.2) (fun s => μ s.1 s.2.1 s.2.2.1 s.2.2.2.1 s.2.2.2.2.1 s.2.2.2.2.2.1 s.2.2.2.2.2.2.1 s.2.2.2.2.2.2.2.1 s.2.2.2.2.2.2.2.2.1 s.2.2.2.2.2.2.2.2.2.1 s.2.2.2.2.2.2.2.2.2.2) (fun n s hI hk => hs n s.1 s.2.1 s.2.2.1 s.2.2.2.1 s.2.2.2.2.1 s.2.2.2.2.2.1 s.2.2.2.2.2.2.1 s.2.2.2.2.2.2.2.1 s.2.2.2.2.2.2.2.2.1 s.2.2.2.2.2.2.2.2.2.1 s.2.2.2.2.2.2.2.2.2.2 hI (fun b1 b2 b3 b4 b5 b6 b7 b8 b9 b10 b11 h9 hm => hk (b1, b2, b3, b4, b5, b6, b7, b8, b9, b10, b11) h9 hm)) (a1, a2, a3, a4, a5, a6, a7, a8, a9, a10, a11) h
theorem lp12 {A1 A2 A3 A4 A5 A6 A7 A8 A9 A10 A11 A12 : Type} (W : Nat → A1 → A2 → A3 → A4 → A5 → A6 → A7 → A8 → A9 → A10 → A11 → A12 → Prop) (I : A1 → A2 → A3 → A4 → A5 → A6 → A7 → A8 → A9 → A10 → A11 → A12 → Prop) (μ : A1 → A2 → A3 → A4 → A5 → A6 → A7 → A8 → A9 → A10 → A11 → A12 → Nat) (hs : ∀ (n : Nat) (a1 : A1) (a2 : A2) (a3 : A3) (a4 : A4) (a5 : A5) (a6 : A6) (a7 : A7) (a8 : A8) (a9 : A9) (a10 : A10) (a11 : A11) (a12 : A12), I a1 a2 a3 a4 a5 a6 a7 a8 a9 a10 a11 a12 → (∀ (b1 : A1) (b2 : A2) (b3 : A3) (b4 : A4) (b5 : A5) (b6 : A6) (b7 : A7) (b8 : A8) (b9 : A9) (b10 : A10) (b11 : A11) (b12 : A12), I b1 b2 b3 b4 b5 b6 b7 b8 b9 b10 b11 b12 → μ b1 b2 b3 b4 b5 b6 b7 b8 b9 b10 b11 b12 < μ a1 a2 a3 a4 a5 a6 a7 a8 a9 a10 a11 a12 → W n b1 b2 b3 b4 b5 b6 b7 b8 b9 b10 b11 b12) → W (n + 1) a1 a2 a3 a4 a5 a6 a7 a8 a9 a10 a11 a12) (a1 : A1) (a2 : A2) (a3 : A3) (a4 : A4) (a5 : A5) (a6 : A6) (a7 : A7) (a8 : A8) (a9 : A9) (a10 : A10) (a11 : A11) (a12 : A12) (h : I a1 a2 a3 a4 a5 a6 a7 a8 a9 a10 a11 a12) : ∃ n, W n a1 a2 a3 a4 a5 a6 a7 a8 a9 a10 a11 a12 :=
  loop_m (σ := A1 × A2 × A3 × A4 × A5 × A6 × A7 × A8 × A9 × A10 × A11 × A12) (fun n s => W n s.1 s.2.1 s.2.2.1 s.2.2.2.1 s.2.2.2.2.1 s.2.2.2.2.2.1 s.2.2.2.2.2.2.1 s.2.2.2.2.2.2.2.1 s.2.2.2.2.2.2.2.2.1 s.2.2.2.2.2.2.2.2.2.1 s.2.2.2.2.2.2.2.2.2.2.1 s.2.2.2.2.2.2.2.2.2.2.2) (fun s => I s.1 s.2.1 s.2.2.1 s.2.2.2.1 s.2.2.2.2.1 s.2.2.2.2.2.1 s.2.2.2.2.2.2.1 s.2.2.2.2.2.2.2.1 s.2.2.2.2.2.2.2.2.1 s.2.2.2.2.2.2.2.2.2.1 s.2.2.2.2.2.2.2.2.2.2.1 s.2.2.2.2.2.2.2.2.2.2.2) (fun s => μ s.1 s.2.1 s.2.2.1 s.2.2.2.1 s.2.2.2.2.1 s.2.2.2.2.2.1 s.2.2.2.2.2.2.1 s.2.2.2.2.2.2.2.1 s.2.2.2.2.2.2.2.2.1 s.2.2.2.2.2.2.2.2.2.1 s.2.2.2.2.2.2.2.2.2.2.1 s.2.2.2.2.2.2.2.2.2.2.2) (fun n s hI hk => hs n s.1 s.2.1 s.2.2.1 s.2.2.2.1 s.2.2.2.2.1 s.2.2.2.2.2.1 s.2.2.2.2.2.2.1 s.2.2.2.2.2.2.2.1 s.2.2.2.2.2.2.2.2.1 s.2.2.2.2.2.2.2.2.2.1 s.2.2.2.2.2.2.2.2.2.2.1 s.2.2.2.2.2.2.2.2.2.2.2 hI (fun b1 b2 b3 b4 b5 b6 b7 b8 b9 b10 b11 b12 h9 hm => hk (b1, b2, b3, b4, b5, b6, b7, b8, b9, b10, b11, b12) h9 hm)) (a1, a2, a3, a4, a5, a6, a7, a8, a9, a10, a11, a12) h
theorem lp13 {A1 A2 A3 A4 A5 A6 A7 A8 A9 A10 A11 A12 A13 : Type} (W : Nat → A1 → A2 → A3 → A4 → A5 → A6 → A7 → A8 → A9 → A10 → A11 → A12 → A13 → Prop) (I : A1 → A2 → A3 → A4 → A5 → A6 → A7 → A8 → A9 → A10 → A11 → A12 → A13 → Prop) (μ : A1 → A2 → A3 → A4 → A5 → A6 → A7 → A8 → A9 → A10 → A11 → A12 → A13 → Nat) (hs : ∀ (n : Nat) (a1 : A1) (a2 : A2) (a3 : A3) (a4 : A4) (a5 : A5) (a6 : A6) (a7 : A7) (a8 : A8) (a9 : A9) (a10 : A10) (a11 : A11) (a12 : A12) (a13 : A13), I a1 a2 a3 a4 a5 a6 a7 a8 a9 a10 a11 a12 a13 → (∀ (b1 : A1) (b2 : A2) (b3 : A3) (b4 : A4) (b5 : A5) (b6 : A6) (b7 : A7) (b8 : A8) (b9 : A9) (b10 : A10) (b11 : A11) (b12 : A12) (b13 : A13), I b1 b2 b3 b4 b5 b6 b7 b8 b9 b10 b11 b12 b13 → μ b1 b2 b3 b4 b5 b6 b7 b8 b9 b10 b11 b12 b13 < μ a1 a2 a3 a4 a5 a6 a7 a8 a9 a10 a11 a12 a13 → W n b1 b2 b3 b4 b5 b6 b7 b8 b9 b10 b11 b12 b13) → W (n + 1) a1 a2 a3 a4 a5 a6 a7 a8 a9 a10 a11 a12 a13) (a1 : A1) (a2 : A2) (a3 : A3) (a4 : A4) (a5 : A5) (a6 : A6) (a7 : A7) (a8 : A8) (a9 : A9) (a10 : A10) (a11 : A11) (a12 : A12) (a13 : A13) (h : I a1 a2 a3 a4 a5 a6 a7 a8 a9 a10 a11 a12 a13) : ∃ n, W n a1 a2 a3 a4 a5 a6 a7 a8 a9 a10 a11 a12 a13 :=
  loop_m (σ := A1 × A2 × A3 × A4 × A5 × A6 × A7 × A8 × A9 × A10 × A11 × A12 × A13) (fun n s => W n s.1 s.2.1 s.2.2.1 s.2.2.2.1 s.2.2.2.2.1 s.2.2.2.2.2.1 s.2.2.2.2.2.2.1 s.2.2.2.2.2.2.2.1 s.2.2.2.2.2.2.2.2.1 s.2.2.2.2.2.2.2.2.2.1 s.2.2.2.2.2.2.2.2.2.2.1 s.2.2.2.2.2.2.2.2.2.2.2.1 s.2.2.2.2.2.2.2.2.2.2.2.2) (fun s => I s.1 s.2.1 s.2.2.1 s.2.2.2.1 s.2.2.2.2.1 s.2.2.2.2.2.1 s.2.2.2.2.2.2.1 s.2.2.2.2.2.2.2.1 s.2.2.2.2.2.2.2.2.1 s.2.2.2.2.2.2.2.2.2.1 s.2.2.2.2.2.2.2.2.2.2.1 s.2.2.2.2.2.2.2.2.2.2.2.1 s.2.2.2.2.2.2.2.2.2.2.2.2) (fun s => μ s.1 s.2.1 s.2.2.1 s.2.2.2.1 s.2.2.2.2.1 s.2.2.2.2.2.1 s.2.2.2.2.2.2.1 s.2.2.2.2.2.2.2.1 s.2.2.2.2.2.2.2.2.1 s.2.2.2.2.2.2.2.2.2.1 s.2.2.2.2.2.2.2.2.2.2.1 s.2.2.2.2.2.2.2.2.2.2.2.1 s.2.2.2.2.2.2.2.2.2.2.2.2) (fun n s hI hk => hs n s.1 s.2.1 s.2.2.1 s.2.2.2.1 s.2.2.2.2.1 s.2.2.2.2.2.1 s.2.2.2.2.2.2.1 s.2.2.2.2.2.2.2.1 s.2.2.2.2.2.2.2.2.1 s.2.2.2.2.2.2.2.2.2.1 s.2.2.2.2.2.2.2.2.2.2.1 s.2.2.2.2.2.2.2.2.2.2.2.1 s.2.2.2.2.2.2.2.2.2.2.2.2 hI (fun b1 b2 b3 b4 b5 b6 b7 b8 b9 b10 b11 b12 b13 h9 hm => hk (b1, b2, b3, b4, b5, b6, b7, b8, b9, b10, b11, b12, b13) h9 hm)) (a1, a2, a3, a4, a5, a6, a7, a8, a9, a10, a11, a12, a13) h
theorem lp14 {A1 A2 A3 A4 A5 A6 A7 A8 A9 A10 A11 A12 A13 A14 : Type} (W : Nat → A1 → A2 → A3 → A4 → A5 → A6 → A7 → A8 → A9 → A10 → A11 → A12 → A13 → A14 → Prop) (I : A1 → A2 → A3 → A4 → A5 → A6 → A7 → A8 → A9 → A10 → A11 → A12 → A13 → A14 → Prop) (μ : A1 → A2 → A3 → A4 → A5 → A6 → A7 → A8 → A9 → A10 → A11 → A12 → A13 → A14 → Nat) (hs : ∀ (n : Nat) (a1 : A1) (a2 : A2) (a3 : A3) (a4 : A4) (a5 : A5) (a6 : A6) (a7 : A7) (a8 : A8) (a9 : A9) (a10 : A10) (a11 : A11) (a12 : A12) (a13 : A13) (a14 : A14), I a1 a2 a3 a4 a5 a6 a7 a8 a9 a10 a11 a12 a13 a14 → (∀ (b1 : A1) (b2 : A2) (b3 : A3) (b4 : A4) (b5 : A5) (b6 : A6) (b7 : A7) (b8 : A8) (b9 : A9) (b10 : A10) (b11 : A11) (b12 : A12) (b13 : A13) (b14 : A14), I b1 b2 b3 b4 b5 b6 b7 b8 b9 b10 b11 b12 b13 b14 → μ b1 b2 b3 b4 b5 b6 b7 b8 b9 b10 b11 b12 b13 b14 < μ a1 a2 a3 a4 a5 a6 a7 a8 a9 a10 a11 a12 a13 a14 → W n b1 b2 b3 b4 b5 b6 b7 b8 b9 b10 b11 b12 b13 b14) → W (n + 1) a1 a2 a3 a4 a5 a6 a7 a8 a9 a10 a11 a12 a13 a14) (a1 : A1) (a2 : A2) (a3 : A3) (a4 : A4) (a5 : A5) (a6 : A6) (a7 : A7) (a8 : A8) (a9 : A9) (a10 : A10) (a11 : A11) (a12 : A12) (a13 : A13) (a14 : A14) (h : I a1 a2 a3 a4 a5 a6 a7 a8 a9 a10 a11 a12 a13 a14) : ∃ n, W n a1 a2 a3 a4 a5 a6 a7 a8 a9 a10 a11 a12 a13 a14 :=
  loop_m (σ := A1 × A2 × A3 × A4 × A5 × A6 × A7 × A8 × A9 × A10 × A11 × A12 × A13 × A14) (fun n s => W n s.1 s.2.1 s.2.2.1 s.2.2.2.1 s.2.2.2.2.1 s.2.2.2.2.2.1 s.2.2.2.2.2.2.1 s.2.2.2.2.2.2.2.1 s.2.2.2.2.2.2.2.2.1 s.2.2.2.2.2.2.2.2.2.1 s.2.2.2.2.2.2.2.2.2.2.1 s.2.2.2.2.2.2.2.2.2.2.2.1 s.2.2.2.2.2.2.2.2.2.2.2.2.1 s.2.2.2.2.2.2.2.2.2.2.2.2.2) (fun s => I s.1 s.2.1 s.2.2.1 s.2.2.2.1 s.2.2.2.2.1 s.2.2.2.2.2.1 s.2.2.2.2.2.2.1 s.2.2.2.2.2.2.2.1 s.2.2.2.2.2.2.2.2.1 s.2.2.2.2.2.2.2.2.2.1 s.2.2.2.2.2.2.2.2.2.2.1 s.2.2.2.2.2.2.2.2.2.2.2.1 s.2.2.2.2.2.2.2.2.2.2.2.2.1 s.2.2.2.2.2.2.2.2.2.2.2.2.2) (fun s => μ s.1 s.2.1 s.2.2.1 s.2.2.2.1 s.2.2.2.2.1 s.2.2.2.2.2.1 s.2.2.2.2.2.2.1 s.2.2.2.2.2.2.2.1 s.2.2.2.2.2.2.2.2.1 s.2.2.2.2.2.2.2.2.2.1 s.2.2.2.2.2.2.2.2.2.2.1 s.2.2.2.2.2.2.2.2.2.2.2.1 s.2.2.2.2.2.2.2.2.2.2.2.2.1 s.2.2.2.2.2.2.2.2.2.2.2.2.2) (fun n s hI hk => hs n s.1 s.2.1 s.2.2.1 s.2.2.2.1 s.2.2.2.2.1 s.2.2.2.2.2.1 s.2.2.2.2.2.2.1 s.2.2.2.2.2.2.2.1 s.2.2.2.2.2.2.2.2.1 s.2.2.2.2.2.2.2.2.2.1 s.2.2.2.2.2.2.2.2.2.2.1 s.2.2.2.2.2.2.2.2.2.2.2.1 s.2.2.2.2.2.2.2.2.2.2.2.2.1 s.2.2.2.2.2.2.2.2.2.2.2.2.2 hI (fun b1 b2 b3 b4 b5 b6 b7 b8 b9 b10 b11 b12 b13 b14 h9 hm => hk (b1, b2, b3, b4, b5, b6, b7, b8, b9, b10, b11, b12, b13, b14) h9 hm)) (a1, a2, a3, a4, a5, a6, a7, a8, a9, a10, a11, a12, a13, a14) h
theorem lp15 {A1 A2 A3 A4 A5 A6 A7 A8 A9 A10 A11 A12 A13 A14 A15 : Type} (W : Nat → A1 → A2 → A3 → A4 → A5 → A6 → A7 → A8 → A9 → A10 → A11 → A12 → A13 → A14 → A15 → Prop) (I : A1 → A2 → A3 → A4 → A5 → A6 → A7 → A8 → A9 → A10 → A11 → A12 → A13 → A14 → A15 → Prop) (μ : A1 → A2 → A3 → A4 → A5 → A6 → A7 → A8 → A9 → A10 → A11 → A12 → A13 → A14 → A15 → Nat) (hs : ∀ (n : Nat) (a1 : A1) (a2 : A2) (a3 : A3) (a4 : A4) (a5 : A5) (a6 : A6) (a7 : A7) (a8 : A8) (a9 : A9) (a10 : A10) (a11 : A11) (a12 : A12) (a13 : A13) (a14 : A14) (a15 : A15), I a1 a2 a3 a4 a5 a6 a7 a8 a9 a10 a11 a12 a13 a14 a15 → (∀ (b1 : A1) (b2 : A2) (b3 : A3) (b4 : A4) (b5 : A5) (b6 : A6) (b7 : A7) (b8 : A8) (b9 : A9) (b10 : A10) (b11 : A11) (b12 : A12) (b13 : A13) (b14 : A14) (b15 : A15), I b1 b2 b3 b4 b5 b6 b7 b8 b9 b10 b11 b12 b13 b14 b15 → μ b1 b2 b3 b4 b5 b6 b7 b8 b9 b10 b11 b12 b13 b14 b15 < μ a1 a2 a3 a4 a5 a6 a7 a8 a9 a10 a11 a12 a13 a14 a15 → W n b1 b2 b3 b4 b5 b6 b7 b8 b9 b10 b11 b12 b13 b14 b15) → W (n + 1) a1 a2 a3 a4 a5 a6 a7 a8 a9 a10 a11 a12 a13 a14 a15) (a1 : A1) (a2 : A2) (a3 : A3) (a4 : A4) (a5 : A5) (a6 : A6) (a7 : A7) (a8 : A8) (a9 : A9) (a10 : A10) (a11 : A11) (a12 : A12) (a13 : A13) (a14 : A14) (a15 : A15) (h : I a1 a2 a3 a4 a5 a6 a7 a8 a9 a10 a11 a12 a13 a14 a15) : ∃ n, W n a1 a2 a3 a4 a5 a6 a7 a8 a9 a10 a11 a12 a13 a14 a15 :=
  loop_m (σ := A1 × A2 × A3 × A4 × A5 × A6 × A7 × A8 × A9 × A10 × A11 × A12 × A13 × A14 × A15) (fun n s => W n s.1 s.2.1 s.2.2.1 s.2.2.2.1 s.2.2.2.2.1 s.2.2.2.2.2.1 s.2.2.2.2.2.2.1 s.2.2.2.2.2.2.2.1 s.2.2.2.2.2.2.2.2.1 s.2.2.2.2.2.2.2.2.2.1 s.2.2.2.2.2.2.2.2.2.2.1 s.2.2.2.2.2.2.2.2.2.2.2.1 s.2.2.2.2.2.2.2.2.2.2.2.2.1 s.2.2.2.2.2.2.2.2.2.2.2.2.2.1 s.2.2.2.2.2.2.2.2.2.2.2.2.2.2) (fun s => I s.1 s.2.1 s.2.2.1 s.2.2.2.1 s.2.2.2.2.1 s.2.2.2.2.2.1 s.2.2.2.2.2.2.1 s.2.2.2.2.2.2.2.1 s.2.2.2.2.2.2.2.2.1 s.2.2.2.2.2.2.2.2.2.1 s.2.2.2.2.2.2.2.2.2.2.1 s.2.2.2.2.2.2.2.2.2.2.2.1 s.2.2.2.2.2.2.2.2.2.2.2.2.1 s.2.2.2.2.2.2.2.2.2.2.2.2.2.1 s.2.2.2.2.2.2.2.2.2.2.2.2.2.2) (fun s => μ s.1 s.2.1 s.2.2.1 s.2.2.2.1 s.2.2.2.2.1 s.2.2.2.2.2.1 s.2.2.2.2.2.2.1 s.2.2.2.2.2.2.2.1 s.2.2.2.2.2.2.2.2.1 s.2.2.2.2.2.2.2.2.2.1 s.2.2.2.2.2.2.2.2.2.2.1 s.2.2.2.2.2.2.2.2.2.2.2.1 s.2.2.2.2.2.2.2.2.2.2.2.2.1 s.2.2.2.2.2.2.2.2.2.2.2.2.2.1 s.2.2.2.2.2.2.2.2.2.2.2.2.2.2) (fun n s hI hk => hs n s.1 s.2.1 s.2.2.1 s.2.2.2.1 s.2.2.2.2.1 s.2.2.2.2.2.1 s.2.2.2.2.2.2.1 s.2.2.2.2.2.2.2.1 s.2.2.2.2.2.2.2.2.1 s.2.2.2.2.2.2.2.2.2.1 s.2.2.2.2.2.2.2.2.2.2.1 s.2.2.2.2.2.2.2.2.2.2.2.1 s.2.2.2.2.2.2.2.2.2.2.2.2.1 s.2.2.2.2.2.2.2.2.2.2.2.2.2.1 s.2.2.2.2.2.2.2.2.2.2.2.2.2.2 hI (fun b1 b2 b3 b4 b5 b6 b7 b8 b9 b10 b11 b12 b13 b14 b15 h9 hm => hk (b1, b2, b3, b4, b5, b6, b7, b8, b9, b10, b11, b12, b13, b14, b15) h9 hm)) (a1, a2, a3, a4, a5, a6, a7, a8, a9, a10, a11, a12, a13, a14, a15) h
theorem lp16 {A1 A2 A3 A4 A5 A6 A7 A8 A9 A10 A11 A12 A13 A14 A15 A16 : Type} (W : Nat → A1 → A2 → A3 → A4 → A5 → A6 → A7 → A8 → A9 → A10 → A11 → A12 → A13 → A14 → A15 → A16 → Prop) (I : A1 → A2 → A3 → A4 → A5 → A6 → A7 → A8 → A9 → A10 → A11 → A12 → A13 → A14 → A15 → A16 → Prop) (μ : A1 → A2 → A3 → A4 → A5 → A6 → A7 → A8 → A9 → A10 → A11 → A12 → A13 → A14 → A15 → A16 → Nat) (hs : ∀ (n : Nat) (a1 : A1) (a2 : A2) (a3 : A3) (a4 : A4) (a5 : A5) (a6 : A6) (a7 : A7) (a8 : A8) (a9 : A9) (a10 : A10) (a11 : A11) (a12 : A12) (a13 : A13) (a14 : A14) (a15 : A15) (a16 : A16), I a1 a2 a3 a4 a5 a6 a7 a8 a9 a10 a11 a12 a13 a14 a15 a16 → (∀ (b1 : A1) (b2 : A2) (b3 : A3) (b4 : A4) (b5 : A5) (b6 : A6) (b7 : A7) (b8 : A8) (b9 : A9) (b10 : A10) (b11 : A11) (b12 : A12) (b13 : A13) (b14 : A14) (b15 : A15) (b16 : A16), I b1 b2 b3 b4 b5 b6 b7 b8 b9 b10 b11 b12 b13 b14 b15 b16 → μ b1 b2 b3 b4 b5 b6 b7 b8 b9 b10 b11 b12 b13 b14 b15 b16 < μ a1 a2 a3 a4 a5 a6 a7 a8 a9 a10 a11 a12 a13 a14 a15 a16 → W n b1 b2 b3 b4 b5 b6 b7 b8 b9 b10 b11 b12 b13 b14 b15 b16) → W (n + 1) a1 a2 a3 a4 a5 a6 a7 a8 a9 a10 a11 a12 a13 a14 a15 a16) (a1 : A1) (a2 : A2) (a3 : A3) (a4 : A4) (a5 : A5) (a6 : A6) (a7 : A7) (a8 : A8) (a9 : A9) (a10 : A10) (a11 : A11) (a12 : A12) (a13 : A13) (a14 : A14) (a15 : A15) (a16 : A16) (h : I a1 a2 a3 a4 a5 a6 a7 a8 a9 a10 a11 a12 a13 a14 a15 a16) : ∃ n, W n a1 a2 a3 a4 a5 a6 a7 a8 a9 a10 a11 a12 a13 a14 a15 a16 :=
  loop_m (σ := A1 × A2 × A3 × A4 × A5 × A6 × A7 × A8 × A9 × A10 × A11 × A12 × A13 × A14 × A15 × A16) (fun n s => W n s.1 s.2.1 s.2.2.1 s.2.2.2.1 s.2.2.2.2.1 s.2.2.2.2.2.1 s.2.2.2.2.2.2.1 s.2.2.2.2.2.2.2.1 s.2.2.2.2.2.2.2.2.1 s.2.2.2.2.2.2.2.2.2.1 s.2.2.2.2.2.2.2.2.2.2.1 s.2.2.2.2.2.2.2.2.2.2.2.1 s.2.2.2.2.2.2.2.2.2.2.2.2.1 s.2.2.2.2.2.2.2.2.2.2.2.2.2.1 s.2.2.2.2.2.2.2.2.2.2.2.2.2.2.1 s.2.2.2.2.2.2.2.2.2.2.2.2.2.2.2) (fun s => I s.1 s.2.1 s.2.2.1 s.2.2.2.1 s.2.2.2.2.1 s.2.2.2.2.2.1 s.2.2.2.2.2.2.1 s.2.2.2.2.2.2.2.1 s.2.2.2.2.2.2.2.2.1 s.2.2.2.2.2.2.2.2.2.1 s.2.2.2.2.2.2.2.2.2.2.1 s.2.2.2.2.2.2.2.2.2.2.2.1 s.2.2.2.2.2.2.2.2.2.2.2.2.1 s.2.2.2.2.2.2.2.2.2.2.2.2.2.1 s.2.2.2.2.2.2.2.2.2.2.2.2.2.2.1 s.2.2.2.2.2.2.2.2.2.2.2.2.2.2.2) (fun s => μ s.1 s.2.1 s.2.2.1 s.2.2.2.1 s.2.2.2.2.1 s.2.2.2.2.2.1 s.2.2.2.2.2.2.1 s.2.2.2.2.2.2.2.1 s.2.2.2.2.2.2.2.2.1 s.2.2.2.2.2.2.2.2.2.1 s.2.2.2.2.2.2.2.2.2.2.1 s.2.2.2.2.2.2.2.2.2.2.2.1 s.2.2.2.2.2.2.2.2.2.2.2.2.1 s.2.2.2.2.2.2.2.2.2.2.2.2.2.1 s.2.2.2.2.2.2.2.2.2.2.2.2.2.2.1 s.2.2.2.2.2.2.2.2.2.2.2.2.2.2.2) (fun n s hI hk => hs n s.1 s.2.1 s.2.2.1 s.2.2.2.1 s.2.2.2.2.1 s.2.2.2.2.2.1 s.2.2.2.2.2.2.1 s.2.2.2.2.2.2.2.1 s.2.2.2.2.2.2.2.2.1 s.2.2.2.2.2.2.2.2.2.1 s.2.2.2.2.2.2.2.2.2.2.1 s.2.2.2.2.2.2.2.2.2.2.2.1 s.2.2.2.2.2.2.2.2.2.2.2.2.1 s.2.2.2.2.2.2.2.2.2.2.2.2.2.1 s.2.2.2.2.2.2.2.2.2.2.2.2.2.2.1 s.2.2.2.2.2.2.2.2.2.2.2.2.2.2.2 hI (fun b1 b2 b3 b4 b5 b6 b7 b8 b9 b10 b11 b12 b13 b14 b15 b16 h9 hm => hk (b1, b2, b3, b4, b5, b6, b7, b8, b9, b10, b11, b12, b13, b14, b15, b16) h9 hm)) (a1, a2, a3, a4, a5, a6, a7, a8, a9, a10, a11, a12, a13, a14, a15, a16) h
theorem pk_least (P : Nat → Prop) (h : ∃ k, P k) : ∃ k, P k ∧ ∀ j, j < k → ¬ P j := by
  obtain ⟨k, hk⟩ := h
  induction k using Nat.strongRecOn with
  | ind k ih =>
    by_cases e : ∃ j, j < k ∧ P j
    · obtain ⟨j, hj, pj⟩ := e
      exact ih j hj pj
    · exact ⟨k, hk, fun j hj pj => e ⟨j, hj, pj⟩⟩
theorem rp1 {ρ A1 : Type} (W : Nat → (ρ → Prop) → A1 → Prop) (ok : A1 → Prop) (μ : A1 → Nat) (val : A1 → ρ)
    (hs : ∀ (d : Nat) (post : ρ → Prop) (a1 : A1), ok a1 → post (val a1) → (∀ (post' : ρ → Prop) (b1 : A1), ok b1 → μ b1 < μ a1 → post' (val b1) → W d post' b1) → W (d + 1) post a1) :
    ∀ (d : Nat) (post : ρ → Prop) (a1 : A1), ok a1 → μ a1 < d → post (val a1) → W d post a1 := by
  intro d
  induction d with
  | zero => intro post a1 _ h; omega
  | succ d ih =>
    intro post a1 ho hm hp
    exact hs d post a1 ho hp (fun post' b1 ho' hm' hp' => ih post' b1 ho' (by omega) hp')
theorem rp2 {ρ A1 A2 : Type} (W : Nat → (ρ → Prop) → A1 → A2 → Prop) (ok : A1 → A2 → Prop) (μ : A1 → A2 → Nat) (val : A1 → A2 → ρ)
    (hs : ∀ (d : Nat) (post : ρ → Prop) (a1 : A1) (a2 : A2), ok a1 a2 → post (val a1 a2) → (∀ (post' : ρ → Prop) (b1 : A1) (b2 : A2), ok b1 b2 → μ b1 b2 < μ a1 a2 → post' (val b1 b2) → W d post' b1 b2) → W (d + 1) post a1 a2) :
    ∀ (d : Nat) (post : ρ → Prop) (a1 : A1) (a2 : A2), ok a1 a2 → μ a1 a2 < d → post (val a1 a2) → W d post a1 a2 := by
  intro d
  induction d with
  | zero => intro post a1 a2 _ h; omega
  | succ d ih =>
    intro post a1 a2 ho hm hp
    exact hs d post a1 a2 ho hp (fun post' b1 b2 ho' hm' hp' => ih post' b1 b2 ho' (by omega) hp')
theorem rp3 {ρ A1 A2 A3 : Type} (W : Nat → (ρ → Prop) → A1 → A2 → A3 → Prop) (ok : A1 → A2 → A3 → Prop) (μ : A1 → A2 → A3 → Nat) (val : A1 → A2 → A3 → ρ)
    (hs : ∀ (d : Nat) (post : ρ → Prop) (a1 : A1) (a2 : A2) (a3 : A3), ok a1 a2 a3 → post (val a1 a2 a3) → (∀ (post' : ρ → Prop) (b1 : A1) (b2 : A2) (b3 : A3), ok b1 b2 b3 → μ b1 b2 b3 < μ a1 a2 a3 → post' (val b1 b2 b3) → W d post' b1 b2 b3) → W (d + 1) post a1 a2 a3) :
    ∀ (d : Nat) (post : ρ → Prop) (a1 : A1) (a2 : A2) (a3 : A3), ok a1 a2 a3 → μ a1 a2 a3 < d → post (val a1 a2 a3) → W d post a1 a2 a3 := by
  intro d
  induction d with
  | zero => intro post a1 a2 a3 _ h; omega
  | succ d ih =>
    intro post a1 a2 a3 ho hm hp
    exact hs d post a1 a2 a3 ho hp (fun post' b1 b2 b3 ho' hm' hp' => ih post' b1 b2 b3 ho' (by omega) hp')
theorem rp4 {ρ A1 A2 A3 A4 : Type} (W : Nat → (ρ → Prop) → A1 → A2 → A3 → A4 → Prop) (ok : A1 → A2 → A3 → A4 → Prop) (μ : A1 → A2 → A3 → A4 → Nat) (val : A1 → A2 → A3 → A4 → ρ)
    (hs : ∀ (d : Nat) (post : ρ → Prop) (a1 : A1) (a2 : A2) (a3 : A3) (a4 : A4), ok a1 a2 a3 a4 → post (val a1 a2 a3 a4) → (∀ (post' : ρ → Prop) (b1 : A1) (b2 : A2) (b3 : A3) (b4 : A4), ok b1 b2 b3 b4 → μ b1 b2 b3 b4 < μ a1 a2 a3 a4 → post' (val b1 b2 b3 b4) → W d post' b1 b2 b3 b4) → W (d + 1) post a1 a2 a3 a4) :
    ∀ (d : Nat) (post : ρ → Prop) (a1 : A1) (a2 : A2) (a3 : A3) (a4 : A4), ok a1 a2 a3 a4 → μ a1 a2 a3 a4 < d → post (val a1 a2 a3 a4) → W d post a1 a2 a3 a4 := by
  intro d
  induction d with
  | zero => intro post a1 a2 a3 a4 _ h; omega
  | succ d ih =>
    intro post a1 a2 a3 a4 ho hm hp
    exact hs d post a1 a2 a3 a4 ho hp (fun post' b1 b2 b3 b4 ho' hm' hp' => ih post' b1 b2 b3 b4 ho' (by omega) hp')
theorem rp5 {ρ A1 A2 A3 A4 A5 : Type} (W : Nat → (ρ → Prop) → A1 → A2 → A3 → A4 → A5 → Prop) (ok : A1 → A2 → A3 → A4 → A5 → Prop) (μ : A1 → A2 → A3 → A4 → A5 → Nat) (val : A1 → A2 → A3 → A4 → A5 → ρ)
    (hs : ∀ (d : Nat) (post : ρ → Prop) (a1 : A1) (a2 : A2) (a3 : A3) (a4 : A4) (a5 : A5), ok a1 a2 a3 a4 a5 → post (val a1 a2 a3 a4 a5) → (∀ (post' : ρ → Prop) (b1 : A1) (b2 : A2) (b3 : A3) (b4 : A4) (b5 : A5), ok b1 b2 b3 b4 b5 → μ b1 b2 b3 b4 b5 < μ a1 a2 a3 a4 a5 → post' (val b1 b2 b3 b4 b5) → W d post' b1 b2 b3 b4 b5) → W (d + 1) post a1 a2 a3 a4 a5) :
    ∀ (d : Nat) (post : ρ → Prop) (a1 : A1) (a2 : A2) (a3 : A3) (a4 : A4) (a5 : A5), ok a1 a2 a3 a4 a5 → μ a1 a2 a3 a4 a5 < d → post (val a1 a2 a3 a4 a5) → W d post a1 a2 a3 a4 a5 := by
  intro d
  induction d with
  | zero => intro post a1 a2 a3 a4 a5 _ h; omega
  | succ d ih =>
    intro post a1 a2 a3 a4 a5 ho hm hp
    exact hs d post a1 a2 a3 a4 a5 ho hp (fun post' b1 b2 b3 b4 b5 ho' hm' hp' => ih post' b1 b2 b3 b4 b5 ho' (by omega) hp')
theorem rp6 {ρ A1 A2 A3 A4 A5 A6 : Type} (W : Nat → (ρ → Prop) → A1 → A2 → A3 → A4 → A5 → A6 → Prop) (ok : A1 → A2 → A3 → A4 → A5 → A6 → Prop) (μ : A1 → A2 → A3 → A4 → A5 → A6 → Nat) (val : A1 → A2 → A3 → A4 → A5 → A6 → ρ)
    (hs : ∀ (d : Nat) (post : ρ → Prop) (a1 : A1) (a2 : A2) (a3 : A3) (a4 : A4) (a5 : A5) (a6 : A6), ok a1 a2 a3 a4 a5 a6 → post (val a1 a2 a3 a4 a5 a6) → (∀ (post' : ρ → Prop) (b1 : A1) (b2 : A2) (b3 : A3) (b4 : A4) (b5 : A5) (b6 : A6), ok b1 b2 b3 b4 b5 b6 → μ b1 b2 b3 b4 b5 b6 < μ a1 a2 a3 a4 a5 a6 → post' (val b1 b2 b3 b4 b5 b6) → W d post' b1 b2 b3 b4 b5 b6) → W (d + 1) post a1 a2 a3 a4 a5 a6) :
    ∀ (d : Nat) (post : ρ → Prop) (a1 : A1) (a2 : A2) (a3 : A3) (a4 : A4) (a5 : A5) (a6 : A6), ok a1 a2 a3 a4 a5 a6 → μ a1 a2 a3 a4 a5 a6 < d → post (val a1 a2 a3 a4 a5 a6) → W d post a1 a2 a3 a4 a5 a6 := by
  intro d
  induction d with
  | zero => intro post a1 a2 a3 a4 a5 a6 _ h; omega
  | succ d ih =>
    intro post a1 a2 a3 a4 a5 a6 ho hm hp
    exact hs d post a1 a2 a3 a4 a5 a6 ho hp (fun post' b1 b2 b3 b4 b5 b6 ho' hm' hp' => ih post' b1 b2 b3 b4 b5 b6 ho' (by omega) hp')
theorem rec_p {σ ρ : Type} (W : Nat → (ρ → Prop) → σ → Prop) (ok : σ → Prop) (μ : σ → Nat) (val : σ → ρ)
    (hs : ∀ d s post, ok s → post (val s) → (∀ s' post', ok s' → μ s' < μ s → post' (val s') → W d post' s') → W (d + 1) post s) :
    ∀ d s post, ok s → μ s < d → post (val s) → W d post s := by
  intro d
  induction d with
  | zero => intro s post _ h; omega
  | succ d ih =>
    intro s post ho hm hp
    exact hs d s post ho hp (fun s' post' ho' hm' hp' => ih s' post' ho' (by omega) hp')
theorem rec_q {σ ρ : Type} (W : Nat → (ρ → Prop) → σ → Prop) (ok : σ → Prop) (μ : σ → Nat) (Q : σ → ρ → Prop)
    (hs : ∀ d s post, ok s → (∀ r, Q s r → post r) → (∀ s' post', ok s' → μ s' < μ s → (∀ r, Q s' r → post' r) → W d post' s') → W (d + 1) post s) :
    ∀ d s post, ok s → μ s < d → (∀ r, Q s r → post r) → W d post s := by
  intro d
  induction d with
  | zero => intro s post _ h; omega
  | succ d ih =>
    intro s post ho hm hp
    exact hs d s post ho hp (fun s' post' ho' hm' hp' => ih s' post' ho' (by omega) hp')
def bx_sum (f : Nat → Int32) : Nat → Int32
  | 0 => 0
  | n + 1 => bx_sum f n + f n
theorem ek_u {A : Prop} {B : Nat → Prop} {k N : Nat} (hk : k < N) (h : B k) : (some k = none → A) ∧ (∀ y : Nat, some k = some y → (y < N ∧ B y)) :=
  ⟨fun z => absurd z (Option.some_ne_none k), fun _ e => (by cases e; exact ⟨hk, h⟩)⟩
theorem ek_nu {A : Prop} {B : Nat → Prop} (h : A) : ((none : Option Nat) = none → A) ∧ (∀ y : Nat, (none : Option Nat) = some y → B y) :=
  ⟨fun _ => h, fun _ e => (by cases e)⟩
theorem ek_if {c d A B : Prop} (e : c ↔ d) (f : d → A) (g : ¬ d → B) : (c → A) ∧ (¬ c → B) :=
  ⟨fun z => f (e.mp z), fun z => g (fun y => z (e.mpr y))⟩
theorem ek_v {α : Sort _} {P : α → Prop} {a b : α} (e : a = b) (h : P b) : P a := e ▸ h
theorem co_some {x : Option Nat} {A : Prop} {B : Nat → Prop} (i : Nat) (h : B i) (hx : x = some i := by rfl) : (x = none → A) ∧ (∀ y : Nat, x = some y → B y) := by
  subst hx
  exact ⟨fun e => (nomatch e), fun y e => Option.some.inj e ▸ h⟩
theorem co_none {x : Option Nat} {A : Prop} {B : Nat → Prop} (h : A) (hx : x = none := by rfl) : (x = none → A) ∧ (∀ y : Nat, x = some y → B y) := by
  subst hx
  exact ⟨fun _ => h, fun y e => (nomatch e)⟩
theorem co_any {x : Option Nat} {A : Prop} {B : Nat → Prop} (hn : x = none → A) (hs : ∀ i : Nat, x = some i → B i) : (x = none → A) ∧ (∀ y : Nat, x = some y → B y) := ⟨hn, hs⟩
theorem co_2 {P : Nat → Prop} (h0 : P 0) (h1 : P 1) {i : Nat} (hi : i < 2) : P i :=
  match i, hi with
  | 0, _ => h0
  | 1, _ => h1
theorem co_3 {P : Nat → Prop} (h0 : P 0) (h1 : P 1) (h2 : P 2) {i : Nat} (hi : i < 3) : P i :=
  match i, hi with
  | 0, _ => h0
  | 1, _ => h1
  | 2, _ => h2
theorem co_4 {P : Nat → Prop} (h0 : P 0) (h1 : P 1) (h2 : P 2) (h3 : P 3) {i : Nat} (hi : i < 4) : P i :=
  match i, hi with
  | 0, _ => h0
  | 1, _ => h1
  | 2, _ => h2
  | 3, _ => h3
theorem co_dec {N : Nat} {P : Nat → Prop} [DecidablePred P] (h : (List.range N).all (fun i => decide (P i)) = true) {i : Nat} (hi : i < N) : P i := by
  have := List.all_eq_true.mp h i (List.mem_range.mpr hi)
  exact of_decide_eq_true this
theorem co_tab {α : Type} {l : List α} {d : α} {P : α → Prop} (h : ∀ a, a ∈ l → P a) {i : Nat} (hi : i < l.length) : P (l.getD i d) := by
  rw [List.getD_eq_getElem?_getD, List.getElem?_eq_getElem hi]
  exact h _ (List.getElem_mem hi)
theorem pk_mu {x : Int32} {L : Nat} (h0 : ¬ x < 0) (h : ¬ nI L ≤ x) (hL : L < 2 ^ 31) : ∃ j : Nat, j < L ∧ x = nI j ∧ x + 1 = nI (j + 1) ∧ x.toNatClampNeg = j ∧ L - (x + 1).toNatClampNeg < L - x.toNatClampNeg := by
  obtain ⟨j, hj, rfl⟩ := nI_of h0
  have hl : j < L := Nat.not_le.mp fun q => h (nI_le q hj)
  refine ⟨j, hl, rfl, nI_1 j, nI_clamp hj, ?_⟩
  rw [nI_1, nI_clamp (by omega), nI_clamp hj]
  omega
theorem op_s {α : Type} {r : Option α} {A : Prop} {B : α → Prop} {y : α} (h : r = some y) (b : B y) : (r = none → A) ∧ ∀ z, r = some z → B z :=
  ⟨fun e => (by rw [h] at e; cases e), fun z e => (by rw [h] at e; cases e; exact b)⟩
def l_holds {α : Type} (a : Nat → Option Nat) (LP : List Nat) (p : Nat → α) (c : Nat) (b : Nat → α) : Prop :=
  ∀ j, j < c → ∃ y, a j = some y ∧ y ∈ LP ∧ p y = b j
theorem l_holds_0 {α : Type} {a : Nat → Option Nat} {LP : List Nat} {p b : Nat → α} : l_holds a LP p 0 b := fun j h => absurd h (Nat.not_lt_zero j)
theorem l_in_new (LP : List Nat) (q : Nat) : q ∈ LP ++ [q] := List.mem_append.mpr (Or.inr (List.mem_singleton.mpr rfl))
def l_sum (b : Nat → Int32) : Nat → Int32
  | 0 => 0
  | k + 1 => l_sum b k + b k
theorem sb_shr0 (x : Int32) : x >>> ((0 : Int32) &&& 31) = x := by
  rw [show ((0 : Int32) &&& 31) = 0 by decide]
  simp
theorem sb_shl0 (x : Int32) : x <<< ((0 : Int32) &&& 31) = x := by
  rw [show ((0 : Int32) &&& 31) = 0 by decide]
  simp
theorem sb_cl0 : (0 : Int32).toNatClampNeg = 0 := by decide
theorem sb_m1 {p : Nat} (h : 0 < p) : nI p + (-1) = nI (p - 1) := by
  obtain ⟨q, rfl⟩ : ∃ q, p = q + 1 := ⟨p - 1, by omega⟩
  exact pk_m1 q
def sb_b (c : Nat) : Int32 := (nI c).toInt8.toInt32
theorem sb_byte : ∀ c, c < 256 → sb_b c &&& 255 = nI c ∧ ((nI c).toUInt32 % 65536).toInt32 = nI c ∧ nI c ≤ 255 := by decide +kernel
def sb_Fit (a : Nat → Int32) : Prop := ∀ j, fits .byte (.int (a j)) = true
def sb_Lat (t : Nat → Nat) (n : Nat) (a : Nat → Int32) : Prop := ∀ j, j < n → t j < 256 ∧ a j = sb_b (t j)
theorem sb_fitB (c : Nat) : fits .byte (.int (sb_b c)) = true := pk_fb _
theorem sb_fit0 : sb_Fit (fun _ => 0) := fun _ => by
  show fits .byte (.int 0) = true
  decide
theorem sb_fitU {a : Nat → Int32} {k : Nat} {x : Int32} (h : sb_Fit a) (hx : fits .byte (.int x) = true) : sb_Fit (upd a k x) := by
  intro j
  by_cases e : j = k
  · subst e
    rw [pk_us]
    exact hx
  · rw [pk_un e]
    exact h j
def sb_cat (t : Nat → Nat) (n : Nat) (s : Nat → Nat) : Nat → Nat := fun j => if j < n then t j else s (j - n)
theorem sb_cat_lo {t s : Nat → Nat} {n j : Nat} (h : j < n) : sb_cat t n s j = t j := if_pos h
theorem sb_cat_hi {t s : Nat → Nat} {n j : Nat} : sb_cat t n s (n + j) = s j := by
  show (if n + j < n then t (n + j) else s (n + j - n)) = s j
  rw [if_neg (by omega), Nat.add_sub_cancel_left]
theorem sb_latPut {t s : Nat → Nat} {n w : Nat} {a a' : Nat → Int32} (h : sb_Lat t n a) (hk : ∀ j, j < n → a' j = a j) (hs : ∀ i, i < w → s i < 256 ∧ a' (n + i) = sb_b (s i)) : sb_Lat (sb_cat t n s) (n + w) a' := by
  intro j hj
  by_cases e : j < n
  · rw [sb_cat_lo e, hk j e]
    exact h j e
  · obtain ⟨i, rfl⟩ : ∃ i, j = n + i := ⟨j - n, by omega⟩
    rw [sb_cat_hi]
    exact hs i (by omega)
theorem sb_latKeep {t : Nat → Nat} {n : Nat} {a a' : Nat → Int32} (h : sb_Lat t n a) (hk : ∀ j, j < n → a' j = a j) : sb_Lat t n a' := fun j hj => by
  rw [hk j hj]
  exact h j hj
def sb_cap (q m : Nat) : Nat := if q ≤ m then m else if 2 * m + 2 < q then q else 2 * m + 2
def sb_Room (q m mc ms : Nat) : Prop := q ≤ m ∨ (1 ≤ mc ∧ sb_cap q m ≤ ms ∧ sb_cap q m ≤ 65536)
theorem sb_cap_ge (q m : Nat) : q ≤ sb_cap q m := by
  unfold sb_cap
  split
  · omega
  · split <;> omega
theorem sb_cap_gem (q m : Nat) : m ≤ sb_cap q m := by
  unfold sb_cap
  split
  · omega
  · split <;> omega
theorem sb_cap_le {q m mc ms : Nat} (hm : m ≤ 65536) (hr : sb_Room q m mc ms) : sb_cap q m ≤ 65536 := by
  rcases hr with h | h
  · rw [sb_cap, if_pos h]
    exact hm
  · exact h.2.2
theorem sb_at {P : Int32 → Prop} {x y : Int32} (e : x = y) (h : P y) : P x := e ▸ h
def sb_dg (w : Nat) : Nat := if w < 10 then 1 else if w < 100 then 2 else if w < 1000 then 3 else if w < 10000 then 4 else if w < 100000 then 5 else if w < 1000000 then 6 else if w < 10000000 then 7 else if w < 100000000 then 8 else if w < 1000000000 then 9 else 10
def sb_dec (v : Nat) : Nat → Nat := fun i => 48 + v / 10 ^ (sb_dg v - 1 - i) % 10
theorem sb_dg_in (w : Nat) : 1 ≤ sb_dg w ∧ sb_dg w ≤ 10 := by
  unfold sb_dg
  constructor <;> (repeat' split) <;> omega
theorem sb_dg100 {w : Nat} (h : 100 ≤ w) (hw : w < 2 ^ 31) : sb_dg w = sb_dg (w / 100) + 2 := by
  rw [sb_dg, sb_dg, if_neg (show ¬ w < 10 by omega), if_neg (show ¬ w < 100 by omega)]
  by_cases h3 : w < 1000
  · rw [if_pos h3, if_pos (show w / 100 < 10 by omega)]
  rw [if_neg h3, if_neg (show ¬ w / 100 < 10 by omega)]
  by_cases h4 : w < 10000
  · rw [if_pos h4, if_pos (show w / 100 < 100 by omega)]
  rw [if_neg h4, if_neg (show ¬ w / 100 < 100 by omega)]
  by_cases h5 : w < 100000
  · rw [if_pos h5, if_pos (show w / 100 < 1000 by omega)]
  rw [if_neg h5, if_neg (show ¬ w / 100 < 1000 by omega)]
  by_cases h6 : w < 1000000
  · rw [if_pos h6, if_pos (show w / 100 < 10000 by omega)]
  rw [if_neg h6, if_neg (show ¬ w / 100 < 10000 by omega)]
  by_cases h7 : w < 10000000
  · rw [if_pos h7, if_pos (show w / 100 < 100000 by omega)]
  rw [if_neg h7, if_neg (show ¬ w / 100 < 100000 by omega)]
  by_cases h8 : w < 100000000
  · rw [if_pos h8, if_pos (show w / 100 < 1000000 by omega)]
  rw [if_neg h8, if_neg (show ¬ w / 100 < 1000000 by omega)]
  by_cases h9 : w < 1000000000
  · rw [if_pos h9, if_pos (show w / 100 < 10000000 by omega)]
  rw [if_neg h9, if_neg (show ¬ w / 100 < 10000000 by omega)]
  rw [if_pos (show w / 100 < 100000000 by omega)]
theorem sb_negT {w : Nat} (h : w < 2 ^ 31) : (-nI w).toInt = -(w : Int) := by
  rw [Int32.toInt_neg, nI_toInt h]
  exact Int.bmod_eq_of_le (by omega) (by omega)
theorem sb_nle {a b : Nat} (ha : a < 2 ^ 31) (hb : b < 2 ^ 31) : -nI a ≤ -nI b ↔ b ≤ a := by
  rw [Int32.le_iff_toInt_le, sb_negT ha, sb_negT hb]
  omega
theorem sb_nlt {a b : Nat} (ha : a < 2 ^ 31) (hb : b < 2 ^ 31) : -nI a < -nI b ↔ b < a := by
  rw [Int32.lt_iff_toInt_lt, sb_negT ha, sb_negT hb]
  omega
theorem sb_cmp {A B : Prop} {x : Int32} (v c : Nat) (f : c ≤ v → A) (g : v < c → B) (hv : v < 2 ^ 31) (hx : x = -nI c := by rfl) (hc : c < 2 ^ 31 := by omega) : (-nI v ≤ x → A) ∧ (¬ -nI v ≤ x → B) := by
  subst hx
  rw [sb_nle hv hc]
  exact ⟨f, fun z => g (by omega)⟩
theorem sb_ndiv {w : Nat} (hw : w < 2 ^ 31) : (-nI w) / 100 = -nI (w / 100) := by
  apply Int32.toInt_inj.mp
  have h100 : (100 : Int32).toInt = 100 := by decide
  rw [Int32.toInt_div, sb_negT hw, h100, sb_negT (by omega), Int.neg_tdiv, Int.tdiv_eq_ediv_of_nonneg (by omega), Int.bmod_eq_of_le (by omega) (by omega)]
  omega
theorem sb_nrem {w : Nat} (hw : w < 2 ^ 31) : (-nI (w / 100)) * 100 - (-nI w) = nI (w % 100) := by
  have h := pk_rem (a := w) (d := 100) hw (by decide) (by decide)
  rw [pk_div hw (by decide) (by decide)] at h
  rw [← h]
  show (-nI (w / 100)) * nI 100 - (-nI w) = nI w - nI (w / 100) * nI 100
  rw [Int32.neg_mul, Int32.sub_neg, Int32.add_comm, ← Int32.sub_eq_add_neg]
end
section
/-! rows on bits, shifts and unsigned numbers, to paste: each family out of a closed proof of our own, whole with what it rests on; each by itself clean at Lean in its own claim (generation 39, form 5). Take a family whole -/
/-! ===== Int32 by its bits: bt x i ===== -/
def bt (x : Int32) (i : Nat) : Bool := x.toBitVec.getLsbD i
theorem b_ext {x y : Int32} (h : ∀ i, i < 32 → bt x i = bt y i) : x = y := Int32.toBitVec_inj.mp (BitVec.eq_of_getLsbD_eq (fun i hi => h i hi))
theorem b_or (x y : Int32) (i : Nat) : bt (x ||| y) i = (bt x i || bt y i) := by unfold bt; rw [Int32.toBitVec_or, BitVec.getLsbD_or]
theorem b_and (x y : Int32) (i : Nat) : bt (x &&& y) i = (bt x i && bt y i) := by unfold bt; rw [Int32.toBitVec_and, BitVec.getLsbD_and]
theorem b_xor (x y : Int32) (i : Nat) : bt (x ^^^ y) i = (bt x i ^^ bt y i) := by unfold bt; rw [Int32.toBitVec_xor, BitVec.getLsbD_xor]
theorem b_big {x : Int32} {i : Nat} (h : 32 ≤ i) : bt x i = false := BitVec.getLsbD_of_ge _ _ h
theorem b_255 (i : Nat) : bt 255 i = decide (i < 8) := by
  rcases Nat.lt_or_ge i 32 with h | h
  · exact (by decide +kernel : ∀ i, i < 32 → bt 255 i = decide (i < 8)) i h
  · rw [b_big h, decide_eq_false (by omega)]
theorem b_65535 (i : Nat) : bt 65535 i = decide (i < 16) := by
  rcases Nat.lt_or_ge i 32 with h | h
  · exact (by decide +kernel : ∀ i, i < 32 → bt 65535 i = decide (i < 16)) i h
  · rw [b_big h, decide_eq_false (by omega)]
theorem b_m1 : ∀ i, i < 32 → bt (-1) i = true := by decide +kernel
theorem b_0 (i : Nat) : bt 0 i = false := BitVec.getLsbD_zero
theorem s_l : ∀ n, n < 32 → ((nI n &&& 31).toBitVec.smod 32).toNat = n := by decide +kernel
theorem s_u : ∀ n, n < 32 → (((nI n).toUInt32 &&& Int32.toUInt32 31).toBitVec % 32).toNat = n := by decide +kernel
theorem b_shl (n : Nat) (hn : n < 32) (x : Int32) {i : Nat} (hi : i < 32) : bt (x <<< (nI n &&& 31)) i = (decide (n ≤ i) && bt x (i - n)) := by
  unfold bt
  rw [Int32.toBitVec_shiftLeft]
  show (x.toBitVec <<< ((nI n &&& 31).toBitVec.smod 32).toNat).getLsbD i = _
  rw [s_l n hn, BitVec.getLsbD_shiftLeft]
  rcases Nat.lt_or_ge i n with h | h
  · simp [h, Nat.not_le.mpr h]
  · simp [hi, h, Nat.not_lt.mpr h]
theorem b_ushr (n : Nat) (hn : n < 32) (x : Int32) (i : Nat) : bt ((x.toUInt32 >>> ((nI n).toUInt32 &&& Int32.toUInt32 31)).toInt32) i = bt x (n + i) := by
  show (x.toUInt32 >>> ((nI n).toUInt32 &&& Int32.toUInt32 31)).toBitVec.getLsbD i = x.toUInt32.toBitVec.getLsbD (n + i)
  rw [UInt32.toBitVec_shiftRight]
  show (x.toUInt32.toBitVec >>> (((nI n).toUInt32 &&& Int32.toUInt32 31).toBitVec % 32).toNat).getLsbD i = _
  rw [s_u n hn, BitVec.getLsbD_ushiftRight]
theorem b_sshr (n : Nat) (hn : n < 32) (x : Int32) {i : Nat} (hi : i < 32) : bt (x >>> (nI n &&& 31)) i = if n + i < 32 then bt x (n + i) else bt x 31 := by
  unfold bt
  rw [Int32.toBitVec_shiftRight]
  show (x.toBitVec.sshiftRight ((nI n &&& 31).toBitVec.smod 32).toNat).getLsbD i = _
  rw [s_l n hn, BitVec.getLsbD_sshiftRight, BitVec.msb_eq_getLsbD_last]
  simp [hi]
theorem b_shl8 (x : Int32) {i : Nat} (hi : i < 32) : bt (x <<< ((8 : Int32) &&& 31)) i = (decide (8 ≤ i) && bt x (i - 8)) := b_shl 8 (by omega) x hi
theorem b_shl16 (x : Int32) {i : Nat} (hi : i < 32) : bt (x <<< ((16 : Int32) &&& 31)) i = (decide (16 ≤ i) && bt x (i - 16)) := b_shl 16 (by omega) x hi
theorem b_shl24 (x : Int32) {i : Nat} (hi : i < 32) : bt (x <<< ((24 : Int32) &&& 31)) i = (decide (24 ≤ i) && bt x (i - 24)) := b_shl 24 (by omega) x hi
theorem b_sshr8 (x : Int32) {i : Nat} (hi : i < 32) : bt (x >>> ((8 : Int32) &&& 31)) i = if 8 + i < 32 then bt x (8 + i) else bt x 31 := b_sshr 8 (by omega) x hi
/-! ===== nI under and, xor, >>>, one bit, 65535 ===== -/
theorem nx_and (a b : Nat) : nI a &&& nI b = nI (a &&& b) := by
  apply Int32.toBitVec_inj.1
  show BitVec.ofNat 32 a &&& BitVec.ofNat 32 b = BitVec.ofNat 32 (a &&& b)
  apply BitVec.eq_of_getLsbD_eq
  intro i hi
  simp [hi]
theorem nx_xor (a b : Nat) : nI a ^^^ nI b = nI (a ^^^ b) := by
  apply Int32.toBitVec_inj.1
  show BitVec.ofNat 32 a ^^^ BitVec.ofNat 32 b = BitVec.ofNat 32 (a ^^^ b)
  apply BitVec.eq_of_getLsbD_eq
  intro i hi
  simp [hi]
theorem nx_cnt : ∀ j : Fin 32, (UInt32.ofNat j.val &&& Int32.toUInt32 31).toNat % 32 = j.val := by decide +kernel
theorem nx_ush {k j : Nat} (hk : k < 65536) (hj : j < 32) : ((nI k).toUInt32 >>> ((nI j).toUInt32 &&& Int32.toUInt32 31)).toInt32 = nI (k >>> j) := by
  have hs : k >>> j ≤ k := by
    rw [Nat.shiftRight_eq_div_pow]
    exact Nat.div_le_self _ _
  have e2 : UInt32.ofNat k >>> (UInt32.ofNat j &&& Int32.toUInt32 31) = UInt32.ofNat (k >>> j) := by
    apply UInt32.toNat_inj.1
    have h1 : (UInt32.ofNat k).toNat = k := Nat.mod_eq_of_lt (by omega)
    have h2 : (UInt32.ofNat (k >>> j)).toNat = k >>> j := Nat.mod_eq_of_lt (by omega)
    rw [UInt32.toNat_shiftRight, nx_cnt ⟨j, hj⟩, h1, h2]
  show (UInt32.ofNat k >>> (UInt32.ofNat j &&& Int32.toUInt32 31)).toInt32 = _
  rw [e2]
  rfl
theorem nx_bit {k j : Nat} (hk : k < 65536) (hj : j < 16) : (((nI k).toUInt32 >>> ((nI j).toUInt32 &&& Int32.toUInt32 31)).toInt32 &&& 1) = 0 ↔ k.testBit j = false := by
  rw [nx_ush hk (by omega)]
  show nI (k >>> j) &&& nI 1 = 0 ↔ _
  rw [nx_and, Nat.and_one_is_mod, ← nI_0, nI_eq (by omega) (by omega), Nat.testBit_eq_decide_div_mod_eq, Nat.shiftRight_eq_div_pow, decide_eq_false_iff_not]
  generalize k / 2 ^ j = z
  omega
theorem nx_mod (k : Nat) : nI k &&& 65535 = nI (k % 65536) := by
  show nI k &&& nI 65535 = _
  rw [nx_and, show (65535 : Nat) = 2 ^ 16 - 1 from rfl, Nat.and_two_pow_sub_one_eq_mod]
theorem nx_m16 {k : Nat} (h : k < 65536) : nI k &&& 65535 = nI k := by rw [nx_mod, Nat.mod_eq_of_lt h]
theorem nx_mask (x : Int32) : ∃ k, k < 65536 ∧ x &&& 65535 = nI k := by
  have e : x = nI x.toBitVec.toNat := by
    apply Int32.toBitVec_inj.1
    show x.toBitVec = BitVec.ofNat 32 x.toBitVec.toNat
    simp
  refine ⟨x.toBitVec.toNat % 65536, Nat.mod_lt _ (by omega), ?_⟩
  rw [← nx_mod, ← e]
/-! ===== Int32 as a set of bits: test, set ===== -/
def nf_M (m : Int32) : Nat := 4294967296 - m.toBitVec.toNat
theorem nf_sh : ∀ l, l < 32 → ((1 : Int32) <<< (nI l &&& 31)).toBitVec = BitVec.twoPow 32 l := by decide +kernel
theorem nf_sl : ∀ l, l < 32 → (((nI l).toUInt32 &&& Int32.toUInt32 31).toBitVec % 32).toNat = l := by decide +kernel
theorem nf_tp : ∀ l, l < 32 → BitVec.twoPow 32 l ≠ 0#32 := by decide +kernel
theorem nf_bit (m : Int32) (l : Nat) (hl : l < 32) : ((m.toUInt32 >>> ((nI l).toUInt32 &&& Int32.toUInt32 31)).toInt32 &&& 1) = 0 ↔ (m &&& ((1 : Int32) <<< (nI l &&& 31))) = 0 := by
  have e : ((m.toUInt32 >>> ((nI l).toUInt32 &&& Int32.toUInt32 31)).toInt32).toBitVec = m.toBitVec >>> l := by
    show m.toBitVec >>> (((nI l).toUInt32 &&& Int32.toUInt32 31).toBitVec % 32) = m.toBitVec >>> l
    rw [BitVec.ushiftRight_eq', nf_sl l hl]
  rw [← Int32.toBitVec_inj, ← Int32.toBitVec_inj, Int32.toBitVec_and, Int32.toBitVec_and, nf_sh l hl, e, BitVec.and_twoPow]
  show (m.toBitVec >>> l &&& 1#32) = 0#32 ↔ _ = 0#32
  rw [BitVec.and_one_eq_setWidth_ofBool_getLsbD, BitVec.getLsbD_ushiftRight, Nat.add_zero]
  cases hb : m.toBitVec.getLsbD l
  · exact ⟨fun _ => by simp, fun _ => by decide⟩
  · exact ⟨fun z => absurd z (by decide), fun z => absurd ((if_pos rfl).symm.trans z) (nf_tp l hl)⟩
theorem nf_gr (m k : Int32) (h : m &&& k = 0) (hk : k ≠ 0) : nf_M (m ||| k) < nf_M m := by
  have hm := m.toBitVec.isLt
  have hm' := (m ||| k).toBitVec.isLt
  have h1 : m.toBitVec.toNat ≤ (m ||| k).toBitVec.toNat := by
    rw [Int32.toBitVec_or, BitVec.toNat_or]
    exact Nat.left_le_or
  have h2 : m.toBitVec.toNat ≠ (m ||| k).toBitVec.toNat := by
    intro e
    have e2 : m = m ||| k := Int32.toBitVec_inj.mp (BitVec.eq_of_toNat_eq e)
    apply hk
    apply Int32.toBitVec_inj.mp
    show k.toBitVec = 0#32
    apply BitVec.eq_of_getLsbD_eq
    intro i hi
    have a : m.toBitVec.getLsbD i = (m.toBitVec.getLsbD i || k.toBitVec.getLsbD i) := by rw [← BitVec.getLsbD_or, ← Int32.toBitVec_or, ← e2]
    have b : (m.toBitVec.getLsbD i && k.toBitVec.getLsbD i) = false := by
      rw [← BitVec.getLsbD_and, ← Int32.toBitVec_and, h]
      exact BitVec.getLsbD_zero
    rw [BitVec.getLsbD_zero]
    revert a b
    cases m.toBitVec.getLsbD i <;> cases k.toBitVec.getLsbD i <;> simp
  unfold nf_M
  omega
/-! ===== a byte read unsigned ===== -/
theorem bp_b (x : Int32) : x.toInt8.toInt32 &&& 255 = x &&& 255 := by
  apply Int32.toBitVec_inj.mp
  rw [Int32.toBitVec_and, Int32.toBitVec_and, Int8.toBitVec_toInt32, Int32.toBitVec_toInt8]
  apply BitVec.eq_of_getLsbD_eq
  intro i hi
  rw [BitVec.getLsbD_and, BitVec.getLsbD_and]
  have hm : ∀ i < 32, 8 ≤ i → (255 : Int32).toBitVec.getLsbD i = false := by decide
  rcases Nat.lt_or_ge i 8 with z | z
  · rw [BitVec.getLsbD_signExtend, BitVec.getLsbD_signExtend, if_pos z, if_pos hi]
    simp only [z, hi, decide_true, Bool.true_and]
  · rw [hm i hi z]; simp
/-! ===== the char cast and 65535 ===== -/
theorem em_w (v : Int32) : ∃ w : Nat, w < 65536 ∧ (v.toUInt32 % 65536).toInt32 = nI w ∧ v &&& 65535 = nI w := by
  have hr := lw_u16_r v
  have h0 : (0 : Int32).toInt = 0 := by decide
  obtain ⟨w, h1, h2⟩ := nI_of (x := lw_u16 v) (by rw [Int32.lt_iff_toInt_lt]; omega)
  have h3 : (v.toUInt32 % 65536).toInt32 = nI w := h2
  rw [h2, nI_toInt h1] at hr
  exact ⟨w, by omega, h3, by rw [← lg_i2c_mask, ← lg_i2c_nf, h3]⟩
/-! ===== Int64 as a set of bits: test, set, clear ===== -/
theorem ts_nf {x : Bool} (h : ¬ x = false) : x = true := by cases x <;> first | rfl | exact absurd rfl h
theorem ts_nt {x : Bool} (h : ¬ x = true) : x = false := by cases x <;> first | rfl | exact absurd rfl h
theorem ts_bit {w : Int64} {s : UInt64} {j : Nat} (hj : j < 64) (hs : s.toNat = j) : ((w.toUInt64 >>> s).toInt64 &&& 1) = 0 ↔ w.toBitVec.getLsbD j = false := by
  have e : (w.toUInt64 >>> s).toInt64.toBitVec = w.toBitVec >>> j := by
    apply BitVec.eq_of_toNat_eq
    show (w.toUInt64 >>> s).toNat = _
    rw [UInt64.toNat_shiftRight, hs, Nat.mod_eq_of_lt hj, BitVec.toNat_ushiftRight]
    rfl
  rw [← Int64.toBitVec_inj, Int64.toBitVec_and, e]
  show w.toBitVec >>> j &&& 1#64 = 0#64 ↔ _
  constructor
  · intro h
    have t := congrArg (fun x => x.getLsbD 0) h
    simpa using t
  · intro h
    apply BitVec.eq_of_getLsbD_eq
    intro i hi
    cases i with
    | zero => simp [h]
    | succ i => simp
theorem ts_or {w m : Int64} {j : Nat} (hj : j < 64) (hm : m.toBitVec = BitVec.twoPow 64 j) : (w ||| m) = w ↔ w.toBitVec.getLsbD j = true := by
  rw [← Int64.toBitVec_inj, Int64.toBitVec_or, hm]
  constructor
  · intro h
    have t := congrArg (fun x => x.getLsbD j) h
    simp only [BitVec.getLsbD_or, BitVec.getLsbD_twoPow] at t
    simpa [hj] using t.symm
  · intro h
    apply BitVec.eq_of_getLsbD_eq
    intro i hi
    rw [BitVec.getLsbD_or, BitVec.getLsbD_twoPow]
    by_cases e : j = i
    · subst e; rw [h, Bool.true_or]
    · simp [e]
theorem ts_and {w m : Int64} {j : Nat} (hj : j < 64) (hm : m.toBitVec = BitVec.twoPow 64 j) : (w &&& (m ^^^ (-1))) = w ↔ w.toBitVec.getLsbD j = false := by
  have ha : (-1 : Int64).toBitVec = BitVec.allOnes 64 := by decide
  rw [← Int64.toBitVec_inj, Int64.toBitVec_and, Int64.toBitVec_xor, hm, ha]
  constructor
  · intro h
    have t := congrArg (fun x => x.getLsbD j) h
    simp only [BitVec.getLsbD_and, BitVec.getLsbD_xor, BitVec.getLsbD_twoPow, BitVec.getLsbD_allOnes] at t
    simpa [hj] using t.symm
  · intro h
    apply BitVec.eq_of_getLsbD_eq
    intro i hi
    rw [BitVec.getLsbD_and, BitVec.getLsbD_xor, BitVec.getLsbD_twoPow, BitVec.getLsbD_allOnes]
    by_cases e : j = i
    · subst e; rw [h, Bool.false_and]
    · simp [e, hi]
/-! ===== lN n to 2^64: shifts, and, or, masks, one bit ===== -/
theorem wb_tb (n : Nat) : (lN n).toBitVec = BitVec.ofNat 64 n := rfl
theorem wb_inj {a b : Int64} (h : a.toBitVec = b.toBitVec) : a = b := Int64.toBitVec_inj.mp h
theorem wb_tn {n : Nat} (h : n < 2 ^ 64) : (lN n).toBitVec.toNat = n := by rw [wb_tb, BitVec.toNat_ofNat, Nat.mod_eq_of_lt h]
theorem wb_of (x : Int64) : ∃ n, n < 2 ^ 64 ∧ x = lN n := ⟨x.toBitVec.toNat, x.toBitVec.isLt, wb_inj (by rw [wb_tb]; simp)⟩
theorem wb_of32 (x : Int32) : ∃ n, n < 2 ^ 32 ∧ x = nI n := ⟨x.toBitVec.toNat, x.toBitVec.isLt, Int32.toBitVec_inj.mp (by show _ = BitVec.ofNat 32 _; simp)⟩
theorem wb_c : ∀ k, k < 64 → ((nI k).toInt64 &&& 63) = lN k := by decide +kernel
theorem wb_cu : ∀ k, k < 64 → ((nI k).toInt64.toUInt64 &&& Int64.toUInt64 63) = UInt64.ofNat k := by decide +kernel
theorem wb_sm : ∀ k, k < 64 → (BitVec.ofNat 64 k).smod 64 = BitVec.ofNat 64 k := by decide +kernel
theorem wb_pw {a b : Nat} (h : a ≤ b) : 2 ^ b = 2 ^ a * 2 ^ (b - a) := by rw [← Nat.pow_add]; congr 1; omega
theorem wb_lt2 {a b : Nat} (h : a < b) : 2 ^ a < 2 ^ b := Nat.pow_lt_pow_right (by decide) h
theorem wb_mod (n : Nat) : lN n = lN (n % 2 ^ 64) := wb_inj (by rw [wb_tb, wb_tb]; apply BitVec.eq_of_toNat_eq; rw [BitVec.toNat_ofNat, BitVec.toNat_ofNat, Nat.mod_mod])
theorem wb_shr {n k : Nat} (hn : n < 2 ^ 64) (hk : k < 64) : ((lN n).toUInt64 >>> ((nI k).toInt64.toUInt64 &&& Int64.toUInt64 63)).toInt64 = lN (n / 2 ^ k) := by
  rw [wb_cu k hk]
  apply wb_inj
  apply BitVec.eq_of_toNat_eq
  show ((lN n).toUInt64 >>> UInt64.ofNat k).toNat = (BitVec.ofNat 64 _).toNat
  have h1 : (UInt64.ofNat k).toNat = k := by
    show (BitVec.ofNat 64 k).toNat = k
    rw [BitVec.toNat_ofNat, Nat.mod_eq_of_lt (by omega)]
  have h2 : (lN n).toUInt64.toNat = n := wb_tn hn
  rw [UInt64.toNat_shiftRight, h1, h2, Nat.mod_eq_of_lt hk, Nat.shiftRight_eq_div_pow, BitVec.toNat_ofNat, Nat.mod_eq_of_lt (Nat.lt_of_le_of_lt (Nat.div_le_self _ _) hn)]
theorem wb_shl (n : Nat) {k : Nat} (hk : k < 64) : lN n <<< ((nI k).toInt64 &&& 63) = lN (n * 2 ^ k) := by
  rw [wb_c k hk]
  apply wb_inj
  rw [Int64.toBitVec_shiftLeft, wb_tb, wb_tb, wb_tb, wb_sm k hk]
  apply BitVec.eq_of_toNat_eq
  rw [BitVec.shiftLeft_eq', BitVec.toNat_shiftLeft, BitVec.toNat_ofNat, BitVec.toNat_ofNat, BitVec.toNat_ofNat, Nat.mod_eq_of_lt (show k < 2 ^ 64 by omega), Nat.shiftLeft_eq, Nat.mul_mod, Nat.mod_mod, ← Nat.mul_mod]
theorem wb_and {a b : Nat} (ha : a < 2 ^ 64) (hb : b < 2 ^ 64) : lN a &&& lN b = lN (a &&& b) := by
  apply wb_inj
  rw [Int64.toBitVec_and, wb_tb, wb_tb, wb_tb]
  apply BitVec.eq_of_toNat_eq
  rw [BitVec.toNat_and, BitVec.toNat_ofNat, BitVec.toNat_ofNat, BitVec.toNat_ofNat, Nat.mod_eq_of_lt ha, Nat.mod_eq_of_lt hb, Nat.mod_eq_of_lt (Nat.and_lt_two_pow _ hb)]
theorem wb_or {a b : Nat} (ha : a < 2 ^ 64) (hb : b < 2 ^ 64) : lN a ||| lN b = lN (a ||| b) := by
  apply wb_inj
  rw [Int64.toBitVec_or, wb_tb, wb_tb, wb_tb]
  apply BitVec.eq_of_toNat_eq
  rw [BitVec.toNat_or, BitVec.toNat_ofNat, BitVec.toNat_ofNat, BitVec.toNat_ofNat, Nat.mod_eq_of_lt ha, Nat.mod_eq_of_lt hb, Nat.mod_eq_of_lt (Nat.or_lt_two_pow ha hb)]
theorem wb_mask {n k : Nat} (hn : n < 2 ^ 64) (hk : k < 64) : lN n &&& lN (2 ^ k - 1) = lN (n % 2 ^ k) := by
  rw [wb_and hn (by have := wb_lt2 hk; omega), Nat.and_two_pow_sub_one_eq_mod]
theorem wb_a1 {n : Nat} (hn : n < 2 ^ 64) : lN n &&& 1 = lN (n % 2) := wb_mask (k := 1) hn (by decide)
theorem wb_bit {n k : Nat} (hn : n < 2 ^ 64) (hk : k < 64) : ((lN n).toUInt64 >>> ((nI k).toInt64.toUInt64 &&& Int64.toUInt64 63)).toInt64 &&& 1 = lN (n / 2 ^ k % 2) := by
  rw [wb_shr hn hk, wb_a1 (Nat.lt_of_le_of_lt (Nat.div_le_self _ _) hn)]
theorem wb_xor {q k : Nat} (hk : k < 63) (h : 2 ^ k ≤ q) (h2 : q < 2 ^ (k + 1)) : lN q ^^^ lN (2 ^ k) = lN (q - 2 ^ k) := by
  obtain ⟨r, rfl⟩ : ∃ r, q = 2 ^ k + r := ⟨q - 2 ^ k, by omega⟩
  have hr : r < 2 ^ k := by rw [Nat.pow_succ] at h2; omega
  have hx : (2 ^ k + r) ^^^ 2 ^ k = r := by
    apply Nat.eq_of_testBit_eq
    intro i
    rw [Nat.testBit_xor, Nat.testBit_two_pow]
    rcases Nat.lt_trichotomy i k with h | h | h
    · rw [Nat.testBit_two_pow_add_gt h]
      simp [show ¬ k = i by omega]
    · subst h
      rw [Nat.testBit_two_pow_add_eq]
      simp
    · have a1 : 2 ^ (k + 1) ≤ 2 ^ i := Nat.pow_le_pow_right (by decide) h
      rw [Nat.testBit_lt_two_pow (show 2 ^ k + r < 2 ^ i by omega), Nat.testBit_lt_two_pow (show r < 2 ^ i by omega)]
      simp [show ¬ k = i by omega]
  have b1 := wb_lt2 (show k + 1 < 64 by omega)
  have b2 := wb_lt2 (show k < 64 by omega)
  apply wb_inj
  rw [Int64.toBitVec_xor, wb_tb, wb_tb, wb_tb]
  apply BitVec.eq_of_toNat_eq
  rw [BitVec.toNat_xor, BitVec.toNat_ofNat, BitVec.toNat_ofNat, BitVec.toNat_ofNat, Nat.mod_eq_of_lt (by omega : 2 ^ k + r < 2 ^ 64), Nat.mod_eq_of_lt b2, hx, Nat.add_sub_cancel_left, Nat.mod_eq_of_lt (by omega)]
/-! ===== lN: masks, 'or' of parts that don't overlap is a sum ===== -/
theorem u_tn {n : Nat} (h : n < 2 ^ 64) : (UInt64.ofNat n).toNat = n := Nat.mod_eq_of_lt h
theorem g_and {a b c : Nat} (ha : a < 2 ^ 64) (hb : b < 2 ^ 64) (hc : a &&& b = c) : lN a &&& lN b = lN c := by
  subst hc
  have h : UInt64.ofNat a &&& UInt64.ofNat b = UInt64.ofNat (a &&& b) := UInt64.toNat_inj.mp (by rw [UInt64.toNat_and, u_tn ha, u_tn hb, u_tn (Nat.and_lt_two_pow a hb)])
  have h2 := congrArg UInt64.toInt64 h
  exact h2
theorem g_and1 {a : Nat} (ha : a < 2 ^ 64) : lN a &&& 1 = lN (a % 2) := g_and (b := 1) ha (by decide) (Nat.and_two_pow_sub_one_eq_mod a 1)
theorem g_mask {a s p : Nat} (hp : 2 ^ s = p) (hs : s < 64) (ha : a < 2 ^ 64) : lN a &&& lN (p - 1) = lN (a % p) := by
  subst hp
  have := Nat.pow_lt_pow_right (show 1 < 2 by decide) hs
  exact g_and ha (by omega) (Nat.and_two_pow_sub_one_eq_mod a s)
theorem g_or {k p a b : Nat} (hp : 2 ^ k = p) (ha : a < p) (h : b * p + a < 2 ^ 64) : lN (b * p) ||| lN a = lN (b * p + a) := by
  subst hp
  have h1 : b * 2 ^ k ||| a = b * 2 ^ k + a := by rw [← Nat.shiftLeft_eq, Nat.shiftLeft_add_eq_or_of_lt ha]
  have h3 : UInt64.ofNat (b * 2 ^ k) ||| UInt64.ofNat a = UInt64.ofNat (b * 2 ^ k + a) := UInt64.toNat_inj.mp (by rw [UInt64.toNat_or, u_tn (by omega), u_tn (by omega), u_tn h, h1])
  have h2 := congrArg UInt64.toInt64 h3
  exact h2
theorem g_or' {k p a b : Nat} (hp : 2 ^ k = p) (ha : a < p) (h : a + b * p < 2 ^ 64) : lN a ||| lN (b * p) = lN (a + b * p) := by
  rw [Int64.or_comm, g_or hp ha (by omega), Nat.add_comm]
theorem g_ushr {a k p : Nat} {y : UInt64} (hy : y = UInt64.ofNat k) (hk : k < 64) (hp : 2 ^ k = p) (ha : a < 2 ^ 64) : ((lN a).toUInt64 >>> y).toInt64 = lN (a / p) := by
  subst hy hp
  have h : UInt64.ofNat a >>> UInt64.ofNat k = UInt64.ofNat (a / 2 ^ k) := UInt64.toNat_inj.mp (by rw [UInt64.toNat_shiftRight, u_tn ha, u_tn (by omega), u_tn (Nat.lt_of_le_of_lt (Nat.div_le_self _ _) ha), Nat.mod_eq_of_lt hk, Nat.shiftRight_eq_div_pow])
  have h2 := congrArg UInt64.toInt64 h
  exact h2
theorem g_shl {a k p : Nat} {y : Int64} (hy : y.toBitVec.smod 64 = BitVec.ofNat 64 k) (hk : k < 64) (hp : 2 ^ k = p) (ha : a < 2 ^ 64) : lN a <<< y = lN (a * p) := by
  subst hp
  apply Int64.toBitVec_inj.mp
  rw [Int64.toBitVec_shiftLeft, hy]
  apply BitVec.eq_of_toNat_eq
  have hb : (lN a).toBitVec.toNat = a := Nat.mod_eq_of_lt ha
  have hk' : (BitVec.ofNat 64 k).toNat = k := Nat.mod_eq_of_lt (by omega)
  have h : ((lN a).toBitVec <<< BitVec.ofNat 64 k).toNat = (a * 2 ^ k) % 2 ^ 64 := by simp only [BitVec.shiftLeft_eq', BitVec.toNat_shiftLeft, hb, hk', Nat.shiftLeft_eq]
  exact h
/-! ===== lN to 2^62 under >> and >>> ===== -/
theorem pf_lI {a : Nat} (h : a < 2 ^ 63) : (lN a).toInt = (a : Int) := lg_ofNat_toInt h
theorem pf_shr {a d : Nat} {D : Int64} (hD : (D.toBitVec.smod 64).toNat = d) (h : a < 2 ^ 62) : lN a >>> D = lN (a / 2 ^ d) := by
  have hd : a / 2 ^ d ≤ a := Nat.div_le_self _ _
  apply Int64.toInt_inj.mp
  have e : (lN a >>> D).toInt = (lN a).toInt >>> d := by
    rw [← hD]
    exact BitVec.toInt_sshiftRight ..
  rw [e, Int.shiftRight_eq_div_pow, pf_lI (by omega), pf_lI (by omega)]
  rfl
theorem pf_ushr {a d : Nat} {D : UInt64} (hD : D.toNat % 64 = d) (h : a < 2 ^ 62) : ((lN a).toUInt64 >>> D).toInt64 = lN (a / 2 ^ d) := by
  have hd : a / 2 ^ d ≤ a := Nat.div_le_self _ _
  have e : (lN a).toUInt64 >>> D = UInt64.ofNat (a / 2 ^ d) := UInt64.toNat_inj.mp (by
    rw [UInt64.toNat_shiftRight, hD, Nat.shiftRight_eq_div_pow, UInt64.toNat_ofNat']
    show (UInt64.ofNat a).toNat / 2 ^ d = _
    rw [UInt64.toNat_ofNat', Nat.mod_eq_of_lt (by omega), Nat.mod_eq_of_lt (by omega)])
  rw [e]
  rfl
theorem pf_andw (x : Int64) : ∃ m, m < 2 ^ 32 ∧ x &&& 4294967295 = lN m := ⟨x.toBitVec.toNat % 2 ^ 32, Nat.mod_lt _ (by decide), Int64.toBitVec_inj.mp (BitVec.eq_of_toNat_eq (by
  show (x.toBitVec &&& 4294967295#64).toNat = (BitVec.ofNat 64 (x.toBitVec.toNat % 2 ^ 32)).toNat
  rw [BitVec.toNat_and, show (4294967295#64).toNat = 2 ^ 32 - 1 from by decide, Nat.and_two_pow_sub_one_eq_mod, BitVec.toNat_ofNat]
  omega))⟩
/-! ===== Int64 as an unsigned number: uN x ===== -/
def uN (x : Int64) : Nat := x.toUInt64.toNat
theorem uN_lt (x : Int64) : uN x < 18446744073709551616 := x.toUInt64.toNat_lt
theorem uN_inj {x y : Int64} (h : uN x = uN y) : x = y := congrArg UInt64.toInt64 (UInt64.toNat_inj.mp h)
theorem uN_add (x y : Int64) : uN (x + y) = (uN x + uN y) % 18446744073709551616 := by
  show (x.toUInt64 + y.toUInt64).toNat = _
  exact UInt64.toNat_add _ _
theorem uN_mul (x y : Int64) : uN (x * y) = (uN x * uN y) % 18446744073709551616 := by
  show (x.toUInt64 * y.toUInt64).toNat = _
  exact UInt64.toNat_mul _ _
theorem uN_shl (x : Int64) : uN (x <<< ((1 : Int32).toInt64 &&& 63)) = (2 * uN x) % 18446744073709551616 := by
  have h : (((1 : Int32).toInt64 &&& 63).toBitVec.smod 64).toNat = 1 := by decide
  show (x.toBitVec <<< (((1 : Int32).toInt64 &&& 63).toBitVec.smod 64).toNat).toNat = _
  rw [h, BitVec.toNat_shiftLeft, Nat.shiftLeft_eq, Nat.mul_comm]
  rfl
theorem uN_shr (x : Int64) (s : UInt64) : uN (x.toUInt64 >>> s).toInt64 = uN x / 2 ^ (s.toNat % 64) := by
  show (x.toUInt64 >>> s).toNat = _
  rw [UInt64.toNat_shiftRight, Nat.shiftRight_eq_div_pow]
  rfl
theorem uN_s32 (x : Int64) : uN (x.toUInt64 >>> ((32 : Int32).toInt64.toUInt64 &&& Int64.toUInt64 63)).toInt64 = uN x / 4294967296 := by
  have h : ((32 : Int32).toInt64.toUInt64 &&& Int64.toUInt64 63).toNat % 64 = 32 := by decide
  rw [uN_shr, h]
theorem uN_s63 (x : Int64) : uN (x.toUInt64 >>> ((63 : Int32).toInt64.toUInt64 &&& Int64.toUInt64 63)).toInt64 = uN x / 9223372036854775808 := by
  have h : ((63 : Int32).toInt64.toUInt64 &&& Int64.toUInt64 63).toNat % 64 = 63 := by decide
  rw [uN_shr, h]
theorem uN_lo (x : Int64) : uN (x &&& 4294967295) = uN x % 4294967296 := by
  show (x.toUInt64 &&& Int64.toUInt64 4294967295).toNat = _
  rw [UInt64.toNat_and]
  exact Nat.and_two_pow_sub_one_eq_mod _ 32
theorem uN_bit (x : Int64) : (x &&& 1) = 0 ↔ uN x % 2 = 0 := by
  have h : uN (x &&& 1) = uN x % 2 := by
    show (x.toUInt64 &&& Int64.toUInt64 1).toNat = _
    rw [UInt64.toNat_and]
    exact Nat.and_two_pow_sub_one_eq_mod _ 1
  rw [← h]
  exact ⟨fun z => by rw [z]; rfl, fun z => uN_inj (z.trans rfl)⟩
theorem uN_or {x y : Int64} (hy : uN y < 2) : uN ((x <<< ((1 : Int32).toInt64 &&& 63)) ||| y) = (2 * uN x) % 18446744073709551616 + uN y := by
  have h1 : uN ((x <<< ((1 : Int32).toInt64 &&& 63)) ||| y) = uN (x <<< ((1 : Int32).toInt64 &&& 63)) ||| uN y := UInt64.toNat_or _ _
  have h2 : (2 * uN x) % 18446744073709551616 = 2 ^ 1 * (uN x % 9223372036854775808) := by omega
  rw [h1, uN_shl, h2]
  exact (Nat.two_pow_add_eq_or_of_lt (i := 1) hy _).symm
theorem nat_xor {a : Nat} (h : a < 18446744073709551616) : a ^^^ 2 ^ 63 = (a + 9223372036854775808) % 18446744073709551616 := by
  have h1 : (a ^^^ 2 ^ 63) % 2 ^ 63 = a % 2 ^ 63 := by rw [Nat.xor_mod_two_pow, Nat.mod_self, Nat.xor_zero]
  have h2 : (a ^^^ 2 ^ 63) / 2 ^ 63 = (a / 2 ^ 63) ^^^ 1 := by rw [Nat.xor_div_two_pow, Nat.div_self (Nat.two_pow_pos 63)]
  have h3 : a / 2 ^ 63 = 0 ∨ a / 2 ^ 63 = 1 := by omega
  generalize a ^^^ 2 ^ 63 = t at h1 h2
  rcases h3 with h3 | h3
  · rw [h3] at h2
    have h2 : t / 2 ^ 63 = 1 := h2
    omega
  · rw [h3] at h2
    have h2 : t / 2 ^ 63 = 0 := h2
    omega
theorem uN_xor (x : Int64) : uN (x ^^^ (-9223372036854775808)) = (uN x + 9223372036854775808) % 18446744073709551616 := by
  rw [← nat_xor (uN_lt x)]
  exact UInt64.toNat_xor _ _
theorem uN_int (x : Int64) : x.toInt = if 2 * uN x < 18446744073709551616 then (uN x : Int) else (uN x : Int) - 18446744073709551616 := BitVec.toInt_eq_toNat_cond _
theorem uN_le (x y : Int64) : (x ^^^ (-9223372036854775808)) ≤ (y ^^^ (-9223372036854775808)) ↔ uN x ≤ uN y := by
  have hx := uN_lt x
  have hy := uN_lt y
  rw [Int64.le_iff_toInt_le, uN_int, uN_int, uN_xor, uN_xor]
  omega
theorem uN_sk (x : Int64) {k : Nat} (hk : k < 64) : uN (x.toUInt64 >>> ((nI k).toInt64.toUInt64 &&& Int64.toUInt64 63)).toInt64 = uN x / 2 ^ k := by
  have h : ((nI k).toInt64.toUInt64 &&& Int64.toUInt64 63).toNat % 64 = k := by
    rw [nI_l (by omega), UInt64.toNat_and]
    have e : (lN k).toUInt64.toNat = k % 2 ^ 64 := rfl
    have e2 : (Int64.toUInt64 63).toNat = 2 ^ 6 - 1 := by decide
    rw [e, e2, Nat.and_two_pow_sub_one_eq_mod]
    omega
  rw [uN_shr, h]
/-! ===== unsigned comparison by xor with the least ===== -/
theorem lN_bv (n : Nat) : (lN n).toBitVec = BitVec.ofNat 64 n := rfl
theorem lN_nat {n : Nat} (h : n < 2 ^ 64) : (lN n).toBitVec.toNat = n := by rw [lN_bv, BitVec.toNat_ofNat]; exact Nat.mod_eq_of_lt h
theorem lN_xor (a b : Nat) : lN a ^^^ lN b = lN (a ^^^ b) := by
  apply Int64.toBitVec_inj.mp; rw [Int64.toBitVec_xor, lN_bv, lN_bv, lN_bv]; apply BitVec.eq_of_getLsbD_eq; intro i hi; simp [BitVec.getLsbD_ofNat, Nat.testBit_xor, hi]
theorem lN_ti {m : Nat} (h : m < 2 ^ 64) : (lN m).toInt = if m < 2 ^ 63 then (m : Int) else (m : Int) - 2 ^ 64 := by
  have c := BitVec.toInt_eq_toNat_cond (lN m).toBitVec
  rw [lN_nat h] at c
  show (lN m).toBitVec.toInt = _
  rw [c]
  split <;> split <;> omega
theorem xor63 {x : Nat} (h : x < 2 ^ 63) : x ^^^ 2 ^ 63 = 2 ^ 63 + x := by
  apply Nat.eq_of_testBit_eq
  intro i
  rw [Nat.testBit_xor, Nat.testBit_two_pow]
  rcases Nat.lt_trichotomy i 63 with z | z | z
  · rw [Nat.testBit_two_pow_add_gt z, decide_eq_false (by omega)]; simp
  · subst z; rw [Nat.testBit_two_pow_add_eq]; simp
  · have hp : 2 ^ 64 ≤ 2 ^ i := Nat.pow_le_pow_right (by decide) z
    rw [Nat.testBit_lt_two_pow (show x < 2 ^ i by omega), Nat.testBit_lt_two_pow (show 2 ^ 63 + x < 2 ^ i by omega), decide_eq_false (by omega)]; rfl
theorem xorS {a : Nat} (h : a < 2 ^ 64) : (lN a ^^^ (-9223372036854775808)).toInt = (a : Int) - 2 ^ 63 := by
  rw [show (-9223372036854775808 : Int64) = lN (2 ^ 63) from by decide +kernel, lN_xor]
  rcases Nat.lt_or_ge a (2 ^ 63) with z | z
  · rw [xor63 z, lN_ti (by omega), if_neg (by omega)]; omega
  · obtain ⟨x, rfl⟩ : ∃ x, a = 2 ^ 63 + x := ⟨a - 2 ^ 63, by omega⟩
    rw [← xor63 (by omega), Nat.xor_assoc, Nat.xor_self, Nat.xor_zero, lN_ti (by omega), if_pos (by omega), xor63 (by omega)]; omega
theorem ultL {a b : Nat} (ha : a < 2 ^ 64) (hb : b < 2 ^ 64) : ((lN b ^^^ (-9223372036854775808)) ≤ (lN a ^^^ (-9223372036854775808))) ↔ b ≤ a := by
  rw [Int64.le_iff_toInt_le, xorS ha, xorS hb]; omega
/-! ===== Int64 masks of n low bits ===== -/
theorem cr_bits (W U M : BitVec 64) : ((W &&& U) &&& (U &&& (M ^^^ BitVec.allOnes 64))) = 0#64 ↔ (W &&& U) &&& M = W &&& U := by
  constructor
  · intro h
    apply BitVec.eq_of_getLsbD_eq
    intro i hi
    have e := congrArg (fun x => BitVec.getLsbD x i) h
    simp only [BitVec.getLsbD_and, BitVec.getLsbD_xor, BitVec.getLsbD_allOnes, BitVec.getLsbD_zero, hi, decide_true] at e ⊢
    revert e
    cases W.getLsbD i <;> cases U.getLsbD i <;> cases M.getLsbD i <;> decide
  · intro h
    apply BitVec.eq_of_getLsbD_eq
    intro i hi
    have e := congrArg (fun x => BitVec.getLsbD x i) h
    simp only [BitVec.getLsbD_and, BitVec.getLsbD_xor, BitVec.getLsbD_allOnes, BitVec.getLsbD_zero, hi, decide_true] at e ⊢
    revert e
    cases W.getLsbD i <;> cases U.getLsbD i <;> cases M.getLsbD i <;> decide
theorem cr_mask (w U m : Int64) (n : Nat) (hm : m.toBitVec.toNat = 2 ^ n - 1) : ((w &&& U) &&& (U &&& (m ^^^ (-1)))) = 0 ↔ (w &&& U).toBitVec.toNat < 2 ^ n := by
  have e0 : (-1 : Int64).toBitVec = BitVec.allOnes 64 := by decide
  have z0 : (0 : Int64).toBitVec = 0#64 := by decide
  rw [← Int64.toBitVec_inj, z0, Int64.toBitVec_and, Int64.toBitVec_and, Int64.toBitVec_and, Int64.toBitVec_xor, e0, cr_bits]
  generalize w.toBitVec &&& U.toBitVec = T
  rw [← BitVec.toNat_inj, BitVec.toNat_and, hm, Nat.and_two_pow_sub_one_eq_mod]
  constructor
  · intro h
    have t := Nat.mod_lt T.toNat (Nat.two_pow_pos n)
    rw [h] at t
    exact t
  · exact Nat.mod_eq_of_lt
theorem cr_shr (t : Int64) (x : UInt64) (n : Nat) (hx : x.toNat % 64 = n) : (t.toUInt64 >>> x).toInt64 = 0 ↔ t.toBitVec.toNat < 2 ^ n := by
  rw [← Int64.toBitVec_inj, ← BitVec.toNat_inj]
  show (t.toUInt64 >>> x).toNat = 0 ↔ t.toUInt64.toNat < 2 ^ n
  rw [UInt64.toNat_shiftRight, hx, Nat.shiftRight_eq_div_pow]
  constructor
  · intro h
    have d : t.toUInt64.toNat / 2 ^ n < 1 := by
      rw [h]
      decide
    have e := (Nat.div_lt_iff_lt_mul (Nat.two_pow_pos n)).mp d
    rw [Nat.one_mul] at e
    exact e
  · exact Nat.div_eq_of_lt
theorem cr_amt (s : Int64) : ∃ n, n < 64 ∧ s &&& 63 = lN n ∧ (s.toUInt64 &&& Int64.toUInt64 63).toNat % 64 = n := by
  have e : (s.toUInt64 &&& Int64.toUInt64 63).toNat = s.toUInt64.toNat % 2 ^ 6 := by
    rw [UInt64.toNat_and, show (Int64.toUInt64 63).toNat = 2 ^ 6 - 1 from by decide, Nat.and_two_pow_sub_one_eq_mod]
  refine ⟨s.toUInt64.toNat % 2 ^ 6, by omega, ?_, by omega⟩
  rw [← Int64.toBitVec_inj, ← BitVec.toNat_inj]
  show (s.toUInt64 &&& Int64.toUInt64 63).toNat = (BitVec.ofNat 64 (s.toUInt64.toNat % 2 ^ 6)).toNat
  rw [e, BitVec.toNat_ofNat]
  omega
end
section
/-! counts, closures, components by their least members -/
noncomputable def cc_i (p : Prop) : Nat := @ite Nat p (Classical.propDecidable p) 1 0
theorem cc_i_t {p : Prop} (h : p) : cc_i p = 1 := by unfold cc_i; exact if_pos h
theorem cc_i_f {p : Prop} (h : ¬ p) : cc_i p = 0 := by unfold cc_i; exact if_neg h
theorem cc_i_le (p : Prop) : cc_i p ≤ 1 := by
  by_cases h : p
  · rw [cc_i_t h]; exact Nat.le_refl 1
  · rw [cc_i_f h]; exact Nat.zero_le 1
theorem cc_i_mono {p q : Prop} (h : p → q) : cc_i p ≤ cc_i q := by
  by_cases hp : p
  · rw [cc_i_t hp, cc_i_t (h hp)]; exact Nat.le_refl 1
  · rw [cc_i_f hp]; exact Nat.zero_le _
theorem cc_i_congr {p q : Prop} (h : p ↔ q) : cc_i p = cc_i q := by rw [propext h]
noncomputable def cc_n (p : Nat → Prop) : Nat → Nat
  | 0 => 0
  | n + 1 => cc_n p n + cc_i (p n)
theorem cc_n_0 (p : Nat → Prop) : cc_n p 0 = 0 := rfl
theorem cc_n_s (p : Nat → Prop) (n : Nat) : cc_n p (n + 1) = cc_n p n + cc_i (p n) := rfl
theorem cc_n_t {p : Nat → Prop} {n : Nat} (h : p n) : cc_n p (n + 1) = cc_n p n + 1 := by rw [cc_n_s, cc_i_t h]
theorem cc_n_f {p : Nat → Prop} {n : Nat} (h : ¬ p n) : cc_n p (n + 1) = cc_n p n := by rw [cc_n_s, cc_i_f h]; rfl
theorem cc_le {p q : Nat → Prop} : ∀ {n : Nat}, (∀ i, i < n → p i → q i) → cc_n p n ≤ cc_n q n := by
  intro n
  induction n with
  | zero => intro _; exact Nat.le_refl _
  | succ n ih =>
    intro h
    rw [cc_n_s, cc_n_s]
    exact Nat.add_le_add (ih (fun i hi => h i (by omega))) (cc_i_mono (h n (by omega)))
theorem cc_congr {p q : Nat → Prop} {n : Nat} (h : ∀ i, i < n → (p i ↔ q i)) : cc_n p n = cc_n q n :=
  Nat.le_antisymm (cc_le (fun i hi => (h i hi).mp)) (cc_le (fun i hi => (h i hi).mpr))
theorem cc_max (p : Nat → Prop) (n : Nat) : cc_n p n ≤ n := by
  induction n with
  | zero => exact Nat.le_refl _
  | succ n ih =>
    rw [cc_n_s]
    have := cc_i_le (p n)
    omega
theorem cc_all {p : Nat → Prop} : ∀ {n : Nat}, (∀ i, i < n → p i) → cc_n p n = n := by
  intro n
  induction n with
  | zero => intro _; rfl
  | succ n ih =>
    intro h
    rw [cc_n_t (h n (by omega)), ih (fun i hi => h i (by omega))]
theorem cc_none {p : Nat → Prop} : ∀ {n : Nat}, (∀ i, i < n → ¬ p i) → cc_n p n = 0 := by
  intro n
  induction n with
  | zero => intro _; rfl
  | succ n ih =>
    intro h
    rw [cc_n_f (h n (by omega)), ih (fun i hi => h i (by omega))]
theorem cc_split (p q : Nat → Prop) (n : Nat) : cc_n p n = cc_n (fun i => p i ∧ q i) n + cc_n (fun i => p i ∧ ¬ q i) n := by
  induction n with
  | zero => rfl
  | succ n ih =>
    rw [cc_n_s, cc_n_s, cc_n_s, ih]
    by_cases hp : p n
    · by_cases hq : q n
      · rw [cc_i_t hp, cc_i_t (p := p n ∧ q n) ⟨hp, hq⟩, cc_i_f (p := p n ∧ ¬ q n) (fun z => z.2 hq)]; omega
      · rw [cc_i_t hp, cc_i_f (p := p n ∧ q n) (fun z => hq z.2), cc_i_t (p := p n ∧ ¬ q n) ⟨hp, hq⟩]; omega
    · rw [cc_i_f hp, cc_i_f (p := p n ∧ q n) (fun z => hp z.1), cc_i_f (p := p n ∧ ¬ q n) (fun z => hp z.1)]; omega
theorem cc_pos {p : Nat → Prop} : ∀ {n i : Nat}, i < n → p i → 1 ≤ cc_n p n := by
  intro n
  induction n with
  | zero => intro i hi; omega
  | succ n ih =>
    intro i hi hp
    by_cases e : i = n
    · subst e
      rw [cc_n_t hp]
      omega
    · have := ih (i := i) (by omega) hp
      rw [cc_n_s]
      omega
theorem cc_lt {p q : Nat → Prop} {n i : Nat} (h : ∀ j, j < n → p j → q j) (hi : i < n) (hq : q i) (hp : ¬ p i) : cc_n p n + 1 ≤ cc_n q n := by
  rw [cc_split q p n]
  have h1 : cc_n p n ≤ cc_n (fun j => q j ∧ p j) n := cc_le (fun j hj z => ⟨h j hj z, z⟩)
  have h2 : 1 ≤ cc_n (fun j => q j ∧ ¬ p j) n := cc_pos (p := fun j => q j ∧ ¬ p j) hi ⟨hq, hp⟩
  omega
theorem cc_one {p : Nat → Prop} {n i : Nat} (hi : i < n) (hp : p i) (hu : ∀ j, j < n → p j → j = i) : cc_n p n = 1 := by
  induction n with
  | zero => omega
  | succ n ih =>
    by_cases e : i = n
    · subst e
      rw [cc_n_t hp, cc_none (fun j hj z => by have := hu j (by omega) z; omega)]
    · rw [cc_n_f (fun z => e (hu n (by omega) z).symm)]
      exact ih (by omega) (fun j hj z => hu j (by omega) z)
theorem cc_add {p : Nat → Prop} {n i : Nat} (hi : i < n) (hp : ¬ p i) : cc_n (fun j => p j ∨ j = i) n = cc_n p n + 1 := by
  rw [cc_split (fun j => p j ∨ j = i) p n]
  have h1 : cc_n (fun j => (p j ∨ j = i) ∧ p j) n = cc_n p n := cc_congr (fun j _ => ⟨fun z => z.2, fun z => ⟨Or.inl z, z⟩⟩)
  have h2 : cc_n (fun j => (p j ∨ j = i) ∧ ¬ p j) n = 1 := cc_one (p := fun j => (p j ∨ j = i) ∧ ¬ p j) hi ⟨Or.inr rfl, hp⟩ (fun j _ z => z.1.elim (fun y => absurd y z.2) id)
  rw [h1, h2]
theorem cc_inj {p q : Nat → Prop} {N : Nat} (J : Nat → Nat → Prop) : ∀ {n : Nat}, (∀ i, i < n → p i → ∃ j, j < N ∧ q j ∧ J i j) → (∀ i i' j, i < n → i' < n → p i → p i' → J i j → J i' j → i = i') → cc_n p n ≤ cc_n q N := by
  intro n
  induction n generalizing q with
  | zero => intro _ _; exact Nat.zero_le _
  | succ n ih =>
    intro h u
    by_cases hp : p n
    · obtain ⟨j, hj, hq, hJ⟩ := h n (by omega) hp
      rw [cc_n_t hp]
      have h1 : cc_n p n ≤ cc_n (fun k => q k ∧ k ≠ j) N := by
        apply ih
        · intro i hi hpi
          obtain ⟨k, hk, hqk, hJk⟩ := h i (by omega) hpi
          refine ⟨k, hk, ⟨hqk, ?_⟩, hJk⟩
          intro e
          subst e
          have := u i n k (by omega) (by omega) hpi hp hJk hJ
          omega
        · intro i i' k hi hi'
          exact u i i' k (by omega) (by omega)
      have h2 : cc_n (fun k => q k ∧ k ≠ j) N + 1 ≤ cc_n q N := cc_lt (fun k _ z => z.1) hj hq (fun z => z.2 rfl)
      omega
    · rw [cc_n_f hp]
      exact ih (fun i hi => h i (by omega)) (fun i i' k hi hi' => u i i' k (by omega) (by omega))
/-! ===== the closure of a relation ===== -/
def cc_cl (R : Nat → Nat → Prop) (a b : Nat) : Prop := ∀ S : Nat → Prop, S a → (∀ x y, S x → R x y → S y) → S b
theorem cc_rf {R : Nat → Nat → Prop} {a : Nat} : cc_cl R a a := fun _ h _ => h
theorem cc_st {R : Nat → Nat → Prop} {a b c : Nat} (h : cc_cl R a b) (r : R b c) : cc_cl R a c := fun S s k => k b c (h S s k) r
theorem cc_on {R : Nat → Nat → Prop} {a b : Nat} (r : R a b) : cc_cl R a b := cc_st cc_rf r
theorem cc_tr {R : Nat → Nat → Prop} {a b c : Nat} (h : cc_cl R a b) (g : cc_cl R b c) : cc_cl R a c := g (fun x => cc_cl R a x) h (fun _ _ hx r => cc_st hx r)
def cc_Sy (R : Nat → Nat → Prop) : Prop := ∀ x y, R x y → R y x
theorem cc_sy {R : Nat → Nat → Prop} (hs : cc_Sy R) {a b : Nat} (h : cc_cl R a b) : cc_cl R b a := h (fun x => cc_cl R x a) cc_rf (fun _ _ hx r => cc_tr (cc_on (hs _ _ r)) hx)
theorem cc_mo {R Q : Nat → Nat → Prop} (hR : ∀ x y, R x y → Q x y) {a b : Nat} (h : cc_cl R a b) : cc_cl Q a b := h (fun x => cc_cl Q a x) cc_rf (fun x y hx r => cc_st hx (hR x y r))
theorem cc_cc {R Q : Nat → Nat → Prop} (hR : ∀ x y, R x y → cc_cl Q x y) {a b : Nat} (h : cc_cl R a b) : cc_cl Q a b := h (fun x => cc_cl Q a x) cc_rf (fun x y hx r => cc_tr hx (hR x y r))
/-! ===== components, counted by their least members ===== -/
def cc_rep (R : Nat → Nat → Prop) (V : Nat → Prop) (c : Nat) : Prop := V c ∧ ∀ d, d < c → V d → ¬ cc_cl R d c
noncomputable def cc_nc (R : Nat → Nat → Prop) (V : Nat → Prop) (N : Nat) : Nat := cc_n (cc_rep R V) N
theorem cc_least (P : Nat → Prop) {n : Nat} (h : P n) : ∃ k, P k ∧ k ≤ n ∧ ∀ j, j < k → ¬ P j := by
  induction n using Nat.strongRecOn with
  | ind n ih =>
    by_cases z : ∃ m, m < n ∧ P m
    · obtain ⟨m, hm, hP⟩ := z
      obtain ⟨k, h1, h2, h3⟩ := ih m hm hP
      exact ⟨k, h1, by omega, h3⟩
    · exact ⟨n, h, Nat.le_refl _, fun j hj hP => z ⟨j, hj, hP⟩⟩
theorem cc_hasRep {R : Nat → Nat → Prop} {V : Nat → Prop} {c : Nat} (hc : V c) : ∃ r, r ≤ c ∧ cc_rep R V r ∧ cc_cl R r c := by
  obtain ⟨k, h1, h2, h3⟩ := cc_least (fun k => V k ∧ cc_cl R k c) (n := c) ⟨hc, cc_rf⟩
  exact ⟨k, h2, ⟨h1.1, fun d hd hV hcl => h3 d hd ⟨hV, cc_tr hcl h1.2⟩⟩, h1.2⟩
theorem cc_repUniq {R : Nat → Nat → Prop} (hs : cc_Sy R) {V : Nat → Prop} {r s : Nat} (hr : cc_rep R V r) (h : cc_rep R V s) (e : cc_cl R r s) : r = s := by
  rcases Nat.lt_trichotomy r s with z | z | z
  · exact absurd e (h.2 r z hr.1)
  · exact z
  · exact absurd (cc_sy hs e) (hr.2 s z h.1)
theorem cc_cmp {R1 R2 : Nat → Nat → Prop} {V1 V2 : Nat → Prop} {N1 N2 : Nat} (s1 : cc_Sy R1) (s2 : cc_Sy R2) (T : Nat → Nat → Prop) (tot : ∀ c, c < N1 → V1 c → ∃ q, q < N2 ∧ V2 q ∧ T c q) (rfx : ∀ c c' q q', c < N1 → c' < N1 → V1 c → V1 c' → T c q → T c' q' → cc_cl R2 q q' → cc_cl R1 c c') : cc_nc R1 V1 N1 ≤ cc_nc R2 V2 N2 := by
  unfold cc_nc
  apply cc_inj (fun c r => ∃ q, T c q ∧ cc_cl R2 r q)
  · intro c hc hp
    obtain ⟨q, hq, hV, hT⟩ := tot c hc hp.1
    obtain ⟨r, h1, h2, h3⟩ := cc_hasRep (R := R2) (V := V2) hV
    exact ⟨r, by omega, h2, q, hT, h3⟩
  · intro c c' r hc hc' hp hp' ⟨q, hT, hr⟩ ⟨q', hT', hr'⟩
    exact cc_repUniq s1 hp hp' (rfx c c' q q' hc hc' hp.1 hp'.1 hT hT' (cc_tr (cc_sy s2 hr) hr'))
theorem cc_mono {R Q : Nat → Nat → Prop} {V : Nat → Prop} {N : Nat} (sub : ∀ x y, R x y → Q x y) : cc_nc Q V N ≤ cc_nc R V N :=
  cc_le (fun _ _ z => ⟨z.1, fun d hd hV h => z.2 d hd hV (cc_mo sub h)⟩)
theorem cc_strict {R Q : Nat → Nat → Prop} {V : Nat → Prop} {N a b : Nat} (sub : ∀ x y, R x y → Q x y) (s1 : cc_Sy R) (s2 : cc_Sy Q) (ha : a < N) (hb : b < N) (hVa : V a) (hVb : V b) (hn : ¬ cc_cl R a b) (hc : cc_cl Q a b) : cc_nc Q V N + 1 ≤ cc_nc R V N := by
  obtain ⟨r, r1, r2, r3⟩ := cc_hasRep (R := R) (V := V) hVa
  obtain ⟨s, t1, t2, t3⟩ := cc_hasRep (R := R) (V := V) hVb
  have sb : ∀ j, j < N → cc_rep Q V j → cc_rep R V j := fun _ _ z => ⟨z.1, fun d hd hV h => z.2 d hd hV (cc_mo sub h)⟩
  have e : cc_cl Q r s := cc_tr (cc_mo sub r3) (cc_tr hc (cc_sy s2 (cc_mo sub t3)))
  rcases Nat.lt_trichotomy r s with z | z | z
  · exact cc_lt sb (i := s) (by omega) t2 (fun y => y.2 r z r2.1 e)
  · subst z
    exact absurd (cc_tr (cc_sy s1 r3) t3) hn
  · exact cc_lt sb (i := r) (by omega) r2 (fun y => y.2 s z t2.1 (cc_sy s2 e))
theorem cc_nc_congr {R Q : Nat → Nat → Prop} {V W : Nat → Prop} {N : Nat} (hR : ∀ x y, R x y ↔ Q x y) (hV : ∀ x, V x ↔ W x) : cc_nc R V N = cc_nc Q W N := by
  have e1 : R = Q := funext (fun x => funext (fun y => propext (hR x y)))
  have e2 : V = W := funext (fun x => propext (hV x))
  rw [e1, e2]
theorem cc_nc_one {R : Nat → Nat → Prop} {V : Nat → Prop} {N : Nat} (hN : 0 < N) (h0 : V 0) (h : ∀ c, c < N → V c → cc_cl R 0 c) : cc_nc R V N = 1 := by
  unfold cc_nc
  refine cc_one (i := 0) hN ⟨h0, fun d hd => absurd hd (Nat.not_lt_zero d)⟩ (fun j hj z => ?_)
  rcases Nat.eq_zero_or_pos j with e | e
  · exact e
  · exact absurd (h j hj z.1) (z.2 0 e h0)
theorem cc_cl_none {R : Nat → Nat → Prop} (h : ∀ x y, ¬ R x y) {a b : Nat} (g : cc_cl R a b) : a = b := g (fun x => a = x) rfl (fun x y _ r => absurd r (h x y))
theorem cc_nc_none {R : Nat → Nat → Prop} {V : Nat → Prop} {N : Nat} (h : ∀ x y, ¬ R x y) (hV : ∀ c, c < N → V c) : cc_nc R V N = N := by
  unfold cc_nc
  refine cc_all (fun i hi => ⟨hV i hi, fun d hd _ g => ?_⟩)
  have := cc_cl_none h g
  omega
end
section
/-! the 10 by 10 grid: 100 cells, 180 edges, 82 faces (81 quads and the outer one, 81): components of an edge set and of the dual of its complement -/
def gd_fc (i j : Nat) : Nat := if i = 0 ∨ 10 ≤ i ∨ j = 0 ∨ 10 ≤ j then 81 else 9 * (j - 1) + (i - 1)
def gd_a (e : Nat) : Nat := if e < 90 then 10 * (e / 9) + e % 9 else e - 90
def gd_b (e : Nat) : Nat := if e < 90 then 10 * (e / 9) + e % 9 + 1 else e - 90 + 10
def gd_f (e : Nat) : Nat := if e < 90 then gd_fc (e % 9 + 1) (e / 9) else gd_fc ((e - 90) % 10) ((e - 90) / 10 + 1)
def gd_g (e : Nat) : Nat := if e < 90 then gd_fc (e % 9 + 1) (e / 9 + 1) else gd_fc ((e - 90) % 10 + 1) ((e - 90) / 10 + 1)
def gd_R (a b : Nat → Nat) (U : Nat → Prop) (x y : Nat) : Prop := ∃ e, e < 180 ∧ U e ∧ ((x = a e ∧ y = b e) ∨ (x = b e ∧ y = a e))
def gd_zh (z : Nat → Bool) (i y : Nat) : Bool := decide (1 ≤ i ∧ i ≤ 9) && z (9 * y + (i - 1))
def gd_zv (z : Nat → Bool) (x j : Nat) : Bool := decide (1 ≤ j ∧ j ≤ 9) && z (90 + 10 * (j - 1) + x)
def gd_bd (z : Nat → Bool) (x y : Nat) : Bool := (gd_zh z x y ^^ gd_zh z (x + 1) y) ^^ (gd_zv z x y ^^ gd_zv z x (y + 1))
def gd_tg (z : Nat → Bool) (e : Nat) : Nat → Bool := fun k => z k ^^ decide (k = e)
theorem gd_x8 : ∀ a b c d p q r s : Bool, (((a ^^ p) ^^ (b ^^ q)) ^^ ((c ^^ r) ^^ (d ^^ s))) = (((a ^^ b) ^^ (c ^^ d)) ^^ ((p ^^ q) ^^ (r ^^ s))) := by decide
theorem gd_x3 : ∀ a b c : Bool, ((a ^^ b) ^^ (b ^^ c)) = (a ^^ c) := by decide
theorem gd_x3' : ∀ a b c : Bool, ((a ^^ b) ^^ (c ^^ b)) = (a ^^ c) := by decide
theorem gd_x2 : ∀ a b : Bool, (a ^^ (a ^^ b)) = b := by decide
theorem gd_xe : ∀ {a b : Bool}, (a ^^ b) = false → a = b := by decide
theorem gd_x6 : ∀ {a b c d e f : Bool}, (a ^^ b) = e → ((c ^^ d) ^^ (e ^^ f)) = false → ((a ^^ c) ^^ (b ^^ d)) = f := by decide
theorem gd_ds : ∀ p u v : Bool, (p && (u ^^ v)) = ((p && u) ^^ (p && v)) := by decide
theorem gd_zh_tg (z : Nat → Bool) (e i y : Nat) : gd_zh (gd_tg z e) i y = (gd_zh z i y ^^ gd_zh (fun k => decide (k = e)) i y) := by
  unfold gd_zh gd_tg; exact gd_ds _ _ _
theorem gd_zv_tg (z : Nat → Bool) (e i y : Nat) : gd_zv (gd_tg z e) i y = (gd_zv z i y ^^ gd_zv (fun k => decide (k = e)) i y) := by
  unfold gd_zv gd_tg; exact gd_ds _ _ _
theorem gd_bd_tg (z : Nat → Bool) (e x y : Nat) : gd_bd (gd_tg z e) x y = (gd_bd z x y ^^ gd_bd (fun k => decide (k = e)) x y) := by
  unfold gd_bd
  rw [gd_zh_tg, gd_zh_tg, gd_zv_tg, gd_zv_tg]
  exact gd_x8 _ _ _ _ _ _ _ _
theorem gd_sg : ∀ e, e < 180 → ∀ y, y < 10 → ∀ x, x < 10 → gd_bd (fun k => decide (k = e)) x y = (decide (10 * y + x = gd_a e) ^^ decide (10 * y + x = gd_b e)) := by decide +kernel
theorem gd_chain {U : Nat → Prop} {a0 c : Nat} (h : cc_cl (gd_R gd_a gd_b U) a0 c) : ∃ z : Nat → Bool, (∀ e, z e = true → U e) ∧ ∀ x y, x < 10 → y < 10 → gd_bd z x y = (decide (10 * y + x = a0) ^^ decide (10 * y + x = c)) := by
  refine h (fun c => ∃ z : Nat → Bool, (∀ e, z e = true → U e) ∧ ∀ x y, x < 10 → y < 10 → gd_bd z x y = (decide (10 * y + x = a0) ^^ decide (10 * y + x = c))) ?_ ?_
  · refine ⟨fun _ => false, fun e h => Bool.noConfusion h, fun x y _ _ => ?_⟩
    simp [gd_bd, gd_zh, gd_zv]
  · rintro u v ⟨z, hz, hb⟩ ⟨e, he, hU, hv⟩
    refine ⟨gd_tg z e, ?_, ?_⟩
    · intro k hk
      by_cases ek : k = e
      · rw [ek]; exact hU
      · apply hz
        unfold gd_tg at hk
        rw [decide_eq_false ek, Bool.xor_false] at hk
        exact hk
    · intro x y hx hy
      rw [gd_bd_tg, hb x y hx hy, gd_sg e he y hy x hx]
      rcases hv with ⟨h1, h2⟩ | ⟨h1, h2⟩
      · rw [h1, h2]; exact gd_x3 _ _ _
      · rw [h1, h2]; exact gd_x3' _ _ _
def gd_hh (z : Nat → Bool) (i : Nat) : Nat → Bool
  | 0 => false
  | j + 1 => gd_hh z i j ^^ gd_zh z i j
theorem gd_zv0 (z : Nat → Bool) (x : Nat) : gd_zv z x 0 = false := by unfold gd_zv; rw [decide_eq_false (by omega)]; rfl
theorem gd_zv10 (z : Nat → Bool) (x : Nat) : gd_zv z x 10 = false := by unfold gd_zv; rw [decide_eq_false (by omega)]; rfl
theorem gd_zh0 (z : Nat → Bool) (y : Nat) : gd_zh z 0 y = false := by unfold gd_zh; rw [decide_eq_false (by omega)]; rfl
theorem gd_zh10 (z : Nat → Bool) (y : Nat) : gd_zh z 10 y = false := by unfold gd_zh; rw [decide_eq_false (by omega)]; rfl
theorem gd_hhB {z : Nat → Bool} (hz : ∀ x y, x < 10 → y < 10 → gd_bd z x y = false) : ∀ j x, j ≤ 10 → x < 10 → (gd_hh z x j ^^ gd_hh z (x + 1) j) = gd_zv z x j := by
  intro j
  induction j with
  | zero => intro x _ _; rw [gd_zv0]; rfl
  | succ j ih =>
    intro x hj hx
    have b := hz x j hx (by omega)
    unfold gd_bd at b
    exact gd_x6 (ih x (by omega) hx) b
theorem gd_hh0 (z : Nat → Bool) : ∀ j, gd_hh z 0 j = false := by
  intro j
  induction j with
  | zero => rfl
  | succ j ih => show (gd_hh z 0 j ^^ gd_zh z 0 j) = false; rw [ih, gd_zh0]; rfl
theorem gd_hh10 (z : Nat → Bool) : ∀ j, gd_hh z 10 j = false := by
  intro j
  induction j with
  | zero => rfl
  | succ j ih => show (gd_hh z 10 j ^^ gd_zh z 10 j) = false; rw [ih, gd_zh10]; rfl
theorem gd_hhT {z : Nat → Bool} (hz : ∀ x y, x < 10 → y < 10 → gd_bd z x y = false) : ∀ i, i ≤ 10 → gd_hh z i 10 = false := by
  intro i
  induction i with
  | zero => intro _; exact gd_hh0 z 10
  | succ i ih =>
    intro hi
    have b := gd_hhB hz 10 i (by omega) (by omega)
    rw [gd_zv10, ih (by omega)] at b
    exact (gd_xe b).symm
def gd_HH (z : Nat → Bool) (q : Nat) : Bool := if q = 81 then false else gd_hh z (q % 9 + 1) (q / 9 + 1)
theorem gd_HHfc {z : Nat → Bool} (hz : ∀ x y, x < 10 → y < 10 → gd_bd z x y = false) {i j : Nat} (hi : i ≤ 10) (hj : j ≤ 10) : gd_HH z (gd_fc i j) = gd_hh z i j := by
  unfold gd_fc
  by_cases h : i = 0 ∨ 10 ≤ i ∨ j = 0 ∨ 10 ≤ j
  · rw [if_pos h]
    unfold gd_HH
    rw [if_pos rfl]
    rcases h with h | h | h | h
    · rw [h, gd_hh0]
    · rw [show i = 10 by omega, gd_hh10]
    · rw [h]; rfl
    · rw [show j = 10 by omega, gd_hhT hz i hi]
  · rw [if_neg h]
    unfold gd_HH
    rw [if_neg (by omega), show (9 * (j - 1) + (i - 1)) % 9 + 1 = i by omega, show (9 * (j - 1) + (i - 1)) / 9 + 1 = j by omega]
theorem gd_HHe {z : Nat → Bool} (hz : ∀ x y, x < 10 → y < 10 → gd_bd z x y = false) {e : Nat} (he : e < 180) : (gd_HH z (gd_f e) ^^ gd_HH z (gd_g e)) = z e := by
  unfold gd_f gd_g
  by_cases h : e < 90
  · rw [if_pos h, if_pos h, gd_HHfc hz (by omega) (by omega), gd_HHfc hz (by omega) (by omega)]
    show (gd_hh z (e % 9 + 1) (e / 9) ^^ (gd_hh z (e % 9 + 1) (e / 9) ^^ gd_zh z (e % 9 + 1) (e / 9))) = z e
    rw [gd_x2]
    unfold gd_zh
    rw [decide_eq_true (by omega), Bool.true_and, show 9 * (e / 9) + (e % 9 + 1 - 1) = e by omega]
  · rw [if_neg h, if_neg h, gd_HHfc hz (by omega) (by omega), gd_HHfc hz (by omega) (by omega), gd_hhB hz _ _ (by omega) (by omega)]
    unfold gd_zv
    rw [decide_eq_true (by omega), Bool.true_and, show 90 + 10 * ((e - 90) / 10 + 1 - 1) + (e - 90) % 10 = e by omega]
theorem gd_jordan {U : Nat → Prop} {e0 : Nat} (he : e0 < 180) (hU : ¬ U e0) (h : cc_cl (gd_R gd_a gd_b U) (gd_a e0) (gd_b e0)) : ¬ cc_cl (gd_R gd_f gd_g (fun e => ¬ U e ∧ e ≠ e0)) (gd_f e0) (gd_g e0) := by
  obtain ⟨z, hz, hb⟩ := gd_chain h
  have b0 : ∀ x y, x < 10 → y < 10 → gd_bd (gd_tg z e0) x y = false := by
    intro x y hx hy
    rw [gd_bd_tg, hb x y hx hy, gd_sg e0 he y hy x hx]
    exact Bool.xor_self _
  have z0 : z e0 = false := by
    cases hc : z e0 with
    | false => rfl
    | true => exact absurd (hz e0 hc) hU
  have t0 : gd_tg z e0 e0 = true := by
    unfold gd_tg
    rw [z0, decide_eq_true rfl]
    rfl
  intro g
  have k : gd_HH (gd_tg z e0) (gd_g e0) = gd_HH (gd_tg z e0) (gd_f e0) := by
    refine g (fun q => gd_HH (gd_tg z e0) q = gd_HH (gd_tg z e0) (gd_f e0)) rfl ?_
    rintro u v hu ⟨e, he', ⟨hn, hne⟩, hv⟩
    have te : gd_tg z e0 e = false := by
      unfold gd_tg
      rw [decide_eq_false hne, Bool.xor_false]
      cases hc : z e with
      | false => rfl
      | true => exact absurd (hz e hc) hn
    have w := gd_HHe b0 he'
    rw [te] at w
    have eq := gd_xe w
    rcases hv with ⟨h1, h2⟩ | ⟨h1, h2⟩
    · rw [h1] at hu
      rw [h2, ← eq]
      exact hu
    · rw [h1] at hu
      rw [h2, eq]
      exact hu
  have w := gd_HHe b0 he
  rw [t0, k, Bool.xor_self] at w
  exact Bool.noConfusion w
noncomputable def gd_F (U : Nat → Prop) : Int := (cc_nc (gd_R gd_a gd_b U) (fun _ => True) 100 : Int) - (cc_nc (gd_R gd_f gd_g (fun e => ¬ U e)) (fun _ => True) 82 : Int)
theorem gd_sym (a b : Nat → Nat) (U : Nat → Prop) : cc_Sy (gd_R a b U) := fun _ _ ⟨e, he, hU, h⟩ => ⟨e, he, hU, h.elim (fun z => Or.inr ⟨z.2, z.1⟩) (fun z => Or.inl ⟨z.2, z.1⟩)⟩
theorem gd_ends : ∀ e, e < 180 → (gd_a e < 100 ∧ gd_b e < 100) ∧ gd_f e < 82 ∧ gd_g e < 82 := by decide +kernel
theorem gd_step {U : Nat → Prop} {e0 : Nat} (he : e0 < 180) (hU : ¬ U e0) : gd_F (fun e => U e ∨ e = e0) ≤ gd_F U - 1 := by
  unfold gd_F
  dsimp only
  have subP : ∀ x y, gd_R gd_a gd_b U x y → gd_R gd_a gd_b (fun e => U e ∨ e = e0) x y := fun x y ⟨e, h1, h2, h3⟩ => ⟨e, h1, Or.inl h2, h3⟩
  have subD : ∀ x y, gd_R gd_f gd_g (fun e => ¬ (U e ∨ e = e0)) x y → gd_R gd_f gd_g (fun e => ¬ U e) x y := fun x y ⟨e, h1, h2, h3⟩ => ⟨e, h1, fun z => h2 (Or.inl z), h3⟩
  have E := gd_ends e0 he
  by_cases h : cc_cl (gd_R gd_a gd_b U) (gd_a e0) (gd_b e0)
  · have m := cc_mono (V := fun _ => True) (N := 100) subP
    have s := cc_strict (V := fun _ => True) (N := 82) subD (gd_sym _ _ _) (gd_sym _ _ _) E.2.1 E.2.2 trivial trivial
      (fun hc => gd_jordan he hU h (cc_mo (fun x y ⟨e, h1, h2, h3⟩ => ⟨e, h1, ⟨fun z => h2 (Or.inl z), fun z => h2 (Or.inr z)⟩, h3⟩) hc))
      (cc_on ⟨e0, he, hU, Or.inl ⟨rfl, rfl⟩⟩)
    omega
  · have m := cc_mono (V := fun _ => True) (N := 82) subD
    have s := cc_strict (V := fun _ => True) (N := 100) subP (gd_sym _ _ _) (gd_sym _ _ _) E.1.1 E.1.2 trivial trivial h
      (cc_on ⟨e0, he, Or.inr rfl, Or.inl ⟨rfl, rfl⟩⟩)
    omega
theorem gd_Rc {a b : Nat → Nat} {U W : Nat → Prop} (h : ∀ e, e < 180 → (U e ↔ W e)) : gd_R a b U = gd_R a b W :=
  funext (fun x => funext (fun y => propext ⟨fun ⟨e, h1, h2, h3⟩ => ⟨e, h1, (h e h1).mp h2, h3⟩, fun ⟨e, h1, h2, h3⟩ => ⟨e, h1, (h e h1).mpr h2, h3⟩⟩))
theorem gd_Fc {U W : Nat → Prop} (h : ∀ e, e < 180 → (U e ↔ W e)) : gd_F U = gd_F W := by
  unfold gd_F
  rw [gd_Rc (a := gd_a) (b := gd_b) h, gd_Rc (a := gd_f) (b := gd_g) (U := fun e => ¬ U e) (W := fun e => ¬ W e) (fun e he => not_congr (h e he))]
theorem gd_run (U W : Nat → Prop) (dis : ∀ e, W e → ¬ U e) : ∀ k, k ≤ 180 → gd_F (fun e => U e ∨ (W e ∧ e < k)) + (cc_n W k : Int) ≤ gd_F U := by
  intro k
  induction k with
  | zero =>
    intro _
    have e : gd_F (fun e => U e ∨ (W e ∧ e < 0)) = gd_F U := gd_Fc (fun e _ => ⟨fun z => z.elim id (fun y => absurd y.2 (Nat.not_lt_zero e)), Or.inl⟩)
    rw [e, cc_n_0]
    omega
  | succ k ih =>
    intro hk
    have h0 := ih (by omega)
    by_cases hW : W k
    · have e : gd_F (fun e => U e ∨ (W e ∧ e < k + 1)) = gd_F (fun e => (U e ∨ (W e ∧ e < k)) ∨ e = k) := by
        apply gd_Fc
        intro e _
        constructor
        · intro z
          rcases z with z | ⟨z, y⟩
          · exact Or.inl (Or.inl z)
          · by_cases q : e = k
            · exact Or.inr q
            · exact Or.inl (Or.inr ⟨z, by omega⟩)
        · intro z
          rcases z with (z | ⟨z, y⟩) | z
          · exact Or.inl z
          · exact Or.inr ⟨z, by omega⟩
          · exact Or.inr ⟨z ▸ hW, by omega⟩
      have s := gd_step (U := fun e => U e ∨ (W e ∧ e < k)) (e0 := k) (by omega) (fun z => z.elim (dis k hW) (fun y => absurd y.2 (Nat.lt_irrefl k)))
      rw [e, cc_n_t hW]
      omega
    · have e : gd_F (fun e => U e ∨ (W e ∧ e < k + 1)) = gd_F (fun e => U e ∨ (W e ∧ e < k)) := by
        apply gd_Fc
        intro e _
        constructor
        · intro z
          rcases z with z | ⟨z, y⟩
          · exact Or.inl z
          · refine Or.inr ⟨z, ?_⟩
            have : e ≠ k := fun q => hW (q ▸ z)
            omega
        · intro z
          rcases z with z | ⟨z, y⟩
          · exact Or.inl z
          · exact Or.inr ⟨z, by omega⟩
      rw [e, cc_n_f hW]
      exact h0
theorem gd_conP : ∀ c, c < 100 → cc_cl (gd_R gd_a gd_b (fun _ => True)) 0 c := by
  intro c
  induction c using Nat.strongRecOn with
  | ind c ih =>
    intro hc
    by_cases h0 : c = 0
    · rw [h0]; exact cc_rf
    · by_cases h1 : 1 ≤ c % 10
      · refine cc_st (ih (c - 1) (by omega) (by omega)) ⟨9 * (c / 10) + (c % 10 - 1), by omega, trivial, Or.inl ⟨?_, ?_⟩⟩
        · unfold gd_a
          rw [if_pos (by omega)]
          omega
        · unfold gd_b
          rw [if_pos (by omega)]
          omega
      · refine cc_st (ih (c - 10) (by omega) (by omega)) ⟨90 + (c - 10), by omega, trivial, Or.inl ⟨?_, ?_⟩⟩
        · unfold gd_a
          rw [if_neg (by omega)]
          omega
        · unfold gd_b
          rw [if_neg (by omega)]
          omega
theorem gd_fcIn {i j : Nat} (h1 : 1 ≤ i) (h2 : i ≤ 9) (h3 : 1 ≤ j) (h4 : j ≤ 9) : gd_fc i j = 9 * (j - 1) + (i - 1) := by
  unfold gd_fc
  rw [if_neg (by omega)]
theorem gd_conD : ∀ q, q < 82 → cc_cl (gd_R gd_f gd_g (fun _ => True)) 0 q := by
  intro q
  induction q using Nat.strongRecOn with
  | ind q ih =>
    intro hq
    by_cases h0 : q = 0
    · rw [h0]; exact cc_rf
    · by_cases h8 : q = 81
      · rw [h8]
        exact cc_on ⟨0, by omega, trivial, Or.inr ⟨by decide, by decide⟩⟩
      · by_cases h1 : 1 ≤ q % 9
        · refine cc_st (ih (q - 1) (by omega) (by omega)) ⟨90 + (10 * (q / 9) + q % 9), by omega, trivial, Or.inl ⟨?_, ?_⟩⟩
          · unfold gd_f
            rw [if_neg (by omega), gd_fcIn (by omega) (by omega) (by omega) (by omega)]
            omega
          · unfold gd_g
            rw [if_neg (by omega), gd_fcIn (by omega) (by omega) (by omega) (by omega)]
            omega
        · refine cc_st (ih (q - 9) (by omega) (by omega)) ⟨q, by omega, trivial, Or.inl ⟨?_, ?_⟩⟩
          · unfold gd_f
            rw [if_pos (by omega), gd_fcIn (by omega) (by omega) (by omega) (by omega)]
            omega
          · unfold gd_g
            rw [if_pos (by omega), gd_fcIn (by omega) (by omega) (by omega) (by omega)]
            omega
theorem gd_noR (a b : Nat → Nat) {U : Nat → Prop} (h : ∀ e, ¬ U e) (x y : Nat) : ¬ gd_R a b U x y := fun ⟨e, _, h2, _⟩ => h e h2
theorem gd_F0 : gd_F (fun _ => False) = 99 := by
  unfold gd_F
  rw [cc_nc_none (gd_noR _ _ (fun _ h => h)) (fun _ _ => trivial),
    cc_nc_one (by omega) trivial (fun q hq _ => cc_mo (fun x y ⟨e, h1, _, h3⟩ => ⟨e, h1, fun z => z, h3⟩) (gd_conD q hq))]
  rfl
theorem gd_F1 : gd_F (fun _ => True) = -81 := by
  unfold gd_F
  rw [cc_nc_one (by omega) trivial (fun q hq _ => gd_conP q hq), cc_nc_none (gd_noR _ _ (fun _ h => h trivial)) (fun _ _ => trivial)]
  rfl
/-- Euler on the grid -/
theorem gd_euler (S : Nat → Prop) : gd_F S = 99 - (cc_n S 180 : Int) := by
  have h1 := gd_run (fun _ => False) S (fun _ _ h => h) 180 (Nat.le_refl _)
  have e1 : gd_F (fun e => False ∨ (S e ∧ e < 180)) = gd_F S := gd_Fc (fun e he => ⟨fun z => z.elim False.elim (fun y => y.1), fun z => Or.inr ⟨z, he⟩⟩)
  have h2 := gd_run S (fun e => ¬ S e) (fun _ h => h) 180 (Nat.le_refl _)
  have e2 : gd_F (fun e => S e ∨ (¬ S e ∧ e < 180)) = gd_F (fun _ => True) := gd_Fc (fun e he => ⟨fun _ => trivial, fun _ => (Classical.em (S e)).elim Or.inl (fun z => Or.inr ⟨z, he⟩)⟩)
  have hs : cc_n S 180 + cc_n (fun e => ¬ S e) 180 = 180 := by
    have t := cc_split (fun _ => True) S 180
    rw [cc_all (fun _ _ => trivial)] at t
    have t1 : cc_n (fun i => True ∧ S i) 180 = cc_n S 180 := cc_congr (fun _ _ => ⟨fun z => z.2, fun z => ⟨trivial, z⟩⟩)
    have t2 : cc_n (fun i => True ∧ ¬ S i) 180 = cc_n (fun e => ¬ S e) 180 := cc_congr (fun _ _ => ⟨fun z => z.2, fun z => ⟨trivial, z⟩⟩)
    omega
  rw [e1, gd_F0] at h1
  rw [e2, gd_F1] at h2
  omega
end
section
/-! cells of the 8 by 8 picture, its frame, faces around cells -/
abbrev gd_n4 (c d : Nat) : Prop := (c % 8 = d % 8 ∧ (c / 8 = d / 8 + 1 ∨ d / 8 = c / 8 + 1)) ∨ (c / 8 = d / 8 ∧ (c % 8 = d % 8 + 1 ∨ d % 8 = c % 8 + 1))
abbrev gd_n8 (c d : Nat) : Prop := c ≠ d ∧ c % 8 ≤ d % 8 + 1 ∧ d % 8 ≤ c % 8 + 1 ∧ c / 8 ≤ d / 8 + 1 ∧ d / 8 ≤ c / 8 + 1
def gd_nr (m : Bool) (c d : Nat) : Prop := if m = true then gd_n8 c d else gd_n4 c d
theorem gd_nr_t {c d : Nat} : gd_nr true c d ↔ gd_n8 c d := by unfold gd_nr; rw [if_pos rfl]
theorem gd_nr_f {c d : Nat} : gd_nr false c d ↔ gd_n4 c d := by unfold gd_nr; rw [if_neg (by decide)]
theorem gd_n4_sy {c d : Nat} (h : gd_n4 c d) : gd_n4 d c := by unfold gd_n4 at *; omega
theorem gd_n8_sy {c d : Nat} (h : gd_n8 c d) : gd_n8 d c := by unfold gd_n8 at *; omega
theorem gd_nr_sy {m : Bool} {c d : Nat} (h : gd_nr m c d) : gd_nr m d c := by
  cases m with
  | true => exact gd_nr_t.mpr (gd_n8_sy (gd_nr_t.mp h))
  | false => exact gd_nr_f.mpr (gd_n4_sy (gd_nr_f.mp h))
/-- one step from cell to cell within a set -/
def gd_w (m : Bool) (A : Nat → Prop) (x y : Nat) : Prop := (x < 64 ∧ y < 64) ∧ (A x ∧ A y) ∧ gd_nr m x y
theorem gd_w_sy (m : Bool) (A : Nat → Prop) : cc_Sy (gd_w m A) := fun _ _ h => ⟨⟨h.1.2, h.1.1⟩, ⟨h.2.1.2, h.2.1.1⟩, gd_nr_sy h.2.2⟩
theorem gd_w_in {m : Bool} {A : Nat → Prop} {c d : Nat} (hc : c < 64) (hA : A c) (h : cc_cl (gd_w m A) c d) : d < 64 ∧ A d := h (fun d => d < 64 ∧ A d) ⟨hc, hA⟩ (fun _ _ _ w => ⟨w.1.2, w.2.1.2⟩)
abbrev gd_ed (c : Nat) : Prop := c % 8 = 0 ∨ c % 8 = 7 ∨ c / 8 = 0 ∨ c / 8 = 7
abbrev gd_fr (p : Nat) : Prop := p % 10 = 0 ∨ p % 10 = 9 ∨ p / 10 = 0 ∨ p / 10 = 9
def gd_ph (c : Nat) : Nat := 10 * (c / 8) + c % 8 + 11
def gd_ps (p : Nat) : Nat := 8 * (p / 10 - 1) + (p % 10 - 1)
def gd_bs (q : Nat) : Nat := 10 * (q / 9) + q % 9
abbrev gd_tc (p q : Nat) : Prop := q < 81 ∧ (p = gd_bs q ∨ p = gd_bs q + 1 ∨ p = gd_bs q + 10 ∨ p = gd_bs q + 11)
theorem gd_ph_lt {c : Nat} (h : c < 64) : gd_ph c < 100 ∧ ¬ gd_fr (gd_ph c) := by unfold gd_ph gd_fr; omega
theorem gd_ps_ph {c : Nat} (h : c < 64) : gd_ps (gd_ph c) = c := by unfold gd_ps gd_ph; omega
theorem gd_ph_ps {p : Nat} (h : p < 100) (hf : ¬ gd_fr p) : gd_ps p < 64 ∧ gd_ph (gd_ps p) = p := by
  unfold gd_fr at hf
  unfold gd_ps gd_ph
  omega
theorem gd_ph_inj {c d : Nat} (hc : c < 64) (hd : d < 64) (h : gd_ph c = gd_ph d) : c = d := by rw [← gd_ps_ph hc, h, gd_ps_ph hd]
def gd_S (Q : Nat → Prop) (e : Nat) : Prop := Q (gd_a e) ∧ Q (gd_b e)
def gd_D (Q : Nat → Prop) : Nat → Nat → Prop := gd_R gd_f gd_g (fun e => ¬ gd_S Q e)
def gd_P (Q : Nat → Prop) : Nat → Nat → Prop := gd_R gd_a gd_b (gd_S Q)
theorem gd_D_sy (Q : Nat → Prop) : cc_Sy (gd_D Q) := gd_sym _ _ _
theorem gd_P_sy (Q : Nat → Prop) : cc_Sy (gd_P Q) := gd_sym _ _ _
theorem gd_hE {Q : Nat → Prop} {x y : Nat} (hx : x ≤ 10) (hy : y < 10) (h : 1 ≤ x → x ≤ 9 → ¬ gd_S Q (9 * y + (x - 1))) : cc_cl (gd_D Q) (gd_fc x y) (gd_fc x (y + 1)) := by
  by_cases z : 1 ≤ x ∧ x ≤ 9
  · refine cc_on ⟨9 * y + (x - 1), by omega, h z.1 z.2, Or.inl ⟨?_, ?_⟩⟩
    · unfold gd_f
      rw [if_pos (by omega), show (9 * y + (x - 1)) % 9 + 1 = x by omega, show (9 * y + (x - 1)) / 9 = y by omega]
    · unfold gd_g
      rw [if_pos (by omega), show (9 * y + (x - 1)) % 9 + 1 = x by omega, show (9 * y + (x - 1)) / 9 = y by omega]
  · have e : ∀ j, gd_fc x j = 81 := by
      intro j
      unfold gd_fc
      rw [if_pos (by omega)]
    rw [e, e]
    exact cc_rf
theorem gd_vE {Q : Nat → Prop} {x y : Nat} (hx : x < 10) (hy : y ≤ 10) (h : 1 ≤ y → y ≤ 9 → ¬ gd_S Q (90 + (10 * (y - 1) + x))) : cc_cl (gd_D Q) (gd_fc x y) (gd_fc (x + 1) y) := by
  by_cases z : 1 ≤ y ∧ y ≤ 9
  · refine cc_on ⟨90 + (10 * (y - 1) + x), by omega, h z.1 z.2, Or.inl ⟨?_, ?_⟩⟩
    · unfold gd_f
      rw [if_neg (by omega), show (90 + (10 * (y - 1) + x) - 90) % 10 = x by omega, show (90 + (10 * (y - 1) + x) - 90) / 10 + 1 = y by omega]
    · unfold gd_g
      rw [if_neg (by omega), show (90 + (10 * (y - 1) + x) - 90) % 10 = x by omega, show (90 + (10 * (y - 1) + x) - 90) / 10 + 1 = y by omega]
  · have e : ∀ i, gd_fc i y = 81 := by
      intro i
      unfold gd_fc
      rw [if_pos (by omega)]
    rw [e, e]
    exact cc_rf
theorem gd_a1 {x y : Nat} (hx : x < 9) (hy : y < 10) : gd_a (9 * y + x) = 10 * y + x := by
  unfold gd_a; rw [if_pos (by omega)]; omega
theorem gd_b1 {x y : Nat} (hx : x < 9) (hy : y < 10) : gd_b (9 * y + x) = 10 * y + x + 1 := by
  unfold gd_b; rw [if_pos (by omega)]; omega
theorem gd_a2 (t : Nat) : gd_a (90 + t) = t := by
  unfold gd_a; rw [if_neg (by omega)]; omega
theorem gd_b2 (t : Nat) : gd_b (90 + t) = t + 10 := by
  unfold gd_b; rw [if_neg (by omega)]; omega
theorem gd_E0a {Q : Nat → Prop} {x y i j : Nat} (hx : x < 10) (hy : y < 10) (hQ : ¬ Q (10 * y + x)) (hi : i = x ∨ i = x + 1) (hj : j = y ∨ j = y + 1) : cc_cl (gd_D Q) (gd_fc x y) (gd_fc i j) := by
  have H1 : cc_cl (gd_D Q) (gd_fc x y) (gd_fc x (y + 1)) := gd_hE (by omega) hy (fun h1 h2 hS => hQ (by
    have := hS.2
    rw [gd_b1 (by omega) hy, show 10 * y + (x - 1) + 1 = 10 * y + x by omega] at this
    exact this))
  have V1 : cc_cl (gd_D Q) (gd_fc x y) (gd_fc (x + 1) y) := gd_vE hx (by omega) (fun h1 h2 hS => hQ (by
    have := hS.2
    rw [gd_b2, show 10 * (y - 1) + x + 10 = 10 * y + x by omega] at this
    exact this))
  have H2 : cc_cl (gd_D Q) (gd_fc (x + 1) y) (gd_fc (x + 1) (y + 1)) := gd_hE (by omega) hy (fun h1 h2 hS => hQ (by
    have := hS.1
    rw [show x + 1 - 1 = x by omega, gd_a1 (by omega) hy] at this
    exact this))
  rcases hi with rfl | rfl
  · rcases hj with rfl | rfl
    · exact cc_rf
    · exact H1
  · rcases hj with rfl | rfl
    · exact V1
    · exact cc_tr V1 H2
theorem gd_tcf {p q : Nat} (h : gd_tc p q) : ∃ i j, (i = p % 10 ∨ i = p % 10 + 1) ∧ (j = p / 10 ∨ j = p / 10 + 1) ∧ q = gd_fc i j := by
  unfold gd_tc gd_bs at h
  refine ⟨q % 9 + 1, q / 9 + 1, by omega, by omega, ?_⟩
  rw [gd_fcIn (by omega) (by omega) (by omega) (by omega)]
  omega
theorem gd_E0 {Q : Nat → Prop} {p q r : Nat} (hp : p < 100) (hQ : ¬ Q p) (h : gd_tc p q) (g : gd_tc p r) : cc_cl (gd_D Q) q r := by
  obtain ⟨i, j, h1, h2, rfl⟩ := gd_tcf h
  obtain ⟨k, l, h3, h4, rfl⟩ := gd_tcf g
  have hQ' : ¬ Q (10 * (p / 10) + p % 10) := by rw [show 10 * (p / 10) + p % 10 = p by omega]; exact hQ
  exact cc_tr (cc_sy (gd_D_sy Q) (gd_E0a (by omega) (by omega) hQ' h1 h2)) (gd_E0a (by omega) (by omega) hQ' h3 h4)
theorem gd_E81 {Q : Nat → Prop} {p q : Nat} (hp : p < 100) (hQ : ¬ Q p) (hf : gd_fr p) (h : gd_tc p q) : cc_cl (gd_D Q) q 81 := by
  obtain ⟨i, j, h1, h2, rfl⟩ := gd_tcf h
  have hQ' : ¬ Q (10 * (p / 10) + p % 10) := by rw [show 10 * (p / 10) + p % 10 = p by omega]; exact hQ
  have key : ∃ k l, (k = p % 10 ∨ k = p % 10 + 1) ∧ (l = p / 10 ∨ l = p / 10 + 1) ∧ gd_fc k l = 81 := by
    unfold gd_fr at hf
    unfold gd_fc
    rcases hf with z | z | z | z
    · exact ⟨p % 10, p / 10, Or.inl rfl, Or.inl rfl, if_pos (by omega)⟩
    · exact ⟨p % 10 + 1, p / 10, Or.inr rfl, Or.inl rfl, if_pos (by omega)⟩
    · exact ⟨p % 10, p / 10, Or.inl rfl, Or.inl rfl, if_pos (by omega)⟩
    · exact ⟨p % 10, p / 10 + 1, Or.inl rfl, Or.inr rfl, if_pos (by omega)⟩
  obtain ⟨k, l, h3, h4, h5⟩ := key
  rw [← h5]
  exact cc_tr (cc_sy (gd_D_sy Q) (gd_E0a (by omega) (by omega) hQ' h1 h2)) (gd_E0a (by omega) (by omega) hQ' h3 h4)
theorem gd_ar1 : ∀ e, e < 180 → gd_f e < 81 → gd_tc (gd_a e) (gd_f e) := by decide +kernel
theorem gd_ar2 : ∀ e, e < 180 → gd_f e < 81 → gd_tc (gd_b e) (gd_f e) := by decide +kernel
theorem gd_ar3 : ∀ e, e < 180 → gd_g e < 81 → gd_tc (gd_a e) (gd_g e) := by decide +kernel
theorem gd_ar4 : ∀ e, e < 180 → gd_g e < 81 → gd_tc (gd_b e) (gd_g e) := by decide +kernel
theorem gd_ar (e : Nat) (h : e < 180) : (gd_f e < 81 → gd_tc (gd_a e) (gd_f e) ∧ gd_tc (gd_b e) (gd_f e)) ∧ (gd_g e < 81 → gd_tc (gd_a e) (gd_g e) ∧ gd_tc (gd_b e) (gd_g e)) := ⟨fun z => ⟨gd_ar1 e h z, gd_ar2 e h z⟩, fun z => ⟨gd_ar3 e h z, gd_ar4 e h z⟩⟩
theorem gd_out : ∀ e, e < 180 → (gd_f e = 81 ∨ gd_g e = 81) → gd_fr (gd_a e) ∧ gd_fr (gd_b e) := by decide +kernel
theorem gd_ab : ∀ e, e < 180 → (gd_b e = gd_a e + 1 ∧ gd_a e % 10 ≤ 8) ∨ gd_b e = gd_a e + 10 := by decide +kernel
theorem gd_shr {c d : Nat} (hc : c < 64) (hd : d < 64) (h : gd_n8 c d) : ∃ q, gd_tc (gd_ph c) q ∧ gd_tc (gd_ph d) q := by
  unfold gd_n8 at h
  obtain ⟨X, x1, x2⟩ : ∃ X, (X = c % 8 ∨ X = c % 8 + 1) ∧ (X = d % 8 ∨ X = d % 8 + 1) := by
    by_cases z : c % 8 ≤ d % 8
    · exact ⟨d % 8, by omega, by omega⟩
    · exact ⟨c % 8, by omega, by omega⟩
  obtain ⟨Y, y1, y2⟩ : ∃ Y, (Y = c / 8 ∨ Y = c / 8 + 1) ∧ (Y = d / 8 ∨ Y = d / 8 + 1) := by
    by_cases z : c / 8 ≤ d / 8
    · exact ⟨d / 8, by omega, by omega⟩
    · exact ⟨c / 8, by omega, by omega⟩
  have e : gd_bs (9 * Y + X) = 10 * Y + X := by unfold gd_bs; omega
  refine ⟨9 * Y + X, ⟨by omega, ?_⟩, ⟨by omega, ?_⟩⟩
  · rw [e]; unfold gd_ph; omega
  · rw [e]; unfold gd_ph; omega
theorem gd_same {c d q : Nat} (hc : c < 64) (hd : d < 64) (h : gd_tc (gd_ph c) q) (g : gd_tc (gd_ph d) q) : c = d ∨ gd_n8 c d := by
  unfold gd_tc gd_bs gd_ph at h g
  unfold gd_n8
  omega
def gd_full (Q : Nat → Prop) (q : Nat) : Prop := Q (gd_bs q) ∧ Q (gd_bs q + 1) ∧ Q (gd_bs q + 10) ∧ Q (gd_bs q + 11)
def gd_DF (Q : Nat → Prop) (q : Nat) : Prop := ¬ gd_full Q q ∧ ¬ cc_cl (gd_D Q) q 81
theorem gd_fQ {Q : Nat → Prop} {p q : Nat} (hf : gd_full Q q) (t : gd_tc p q) : Q p := by
  rcases t.2 with h | h | h | h
  · rw [h]; exact hf.1
  · rw [h]; exact hf.2.1
  · rw [h]; exact hf.2.2.1
  · rw [h]; exact hf.2.2.2
theorem gd_nf {Q : Nat → Prop} {q : Nat} (hq : q < 81) (hf : ¬ gd_full Q q) : ∃ p, p < 100 ∧ gd_tc p q ∧ ¬ Q p := by
  have hb : gd_bs q + 11 < 100 := by unfold gd_bs; omega
  by_cases h1 : Q (gd_bs q)
  · by_cases h2 : Q (gd_bs q + 1)
    · by_cases h3 : Q (gd_bs q + 10)
      · by_cases h4 : Q (gd_bs q + 11)
        · exact absurd ⟨h1, h2, h3, h4⟩ hf
        · exact ⟨_, by omega, ⟨hq, Or.inr (Or.inr (Or.inr rfl))⟩, h4⟩
      · exact ⟨_, by omega, ⟨hq, Or.inr (Or.inr (Or.inl rfl))⟩, h3⟩
    · exact ⟨_, by omega, ⟨hq, Or.inr (Or.inl rfl)⟩, h2⟩
  · exact ⟨_, by omega, ⟨hq, Or.inl rfl⟩, h1⟩
theorem gd_tc_lt {p q : Nat} (h : gd_tc p q) : p < 100 := by unfold gd_tc gd_bs at h; omega
theorem gd_E1 {Q A : Nat → Prop} (hQ : ∀ c, c < 64 → A c → ¬ Q (gd_ph c)) {c d q r : Nat} (hc : c < 64) (hA : A c) (h : cc_cl (gd_w true A) c d) (t : gd_tc (gd_ph c) q) (t' : gd_tc (gd_ph d) r) : cc_cl (gd_D Q) q r := by
  have k := h (fun d => (d < 64 ∧ A d) ∧ ∀ r, gd_tc (gd_ph d) r → cc_cl (gd_D Q) q r) ⟨⟨hc, hA⟩, fun r t' => gd_E0 (gd_ph_lt hc).1 (hQ c hc hA) t t'⟩ (by
    intro x y hx w
    refine ⟨⟨w.1.2, w.2.1.2⟩, fun r t' => ?_⟩
    obtain ⟨s, t1, t2⟩ := gd_shr w.1.1 w.1.2 (gd_nr_t.mp w.2.2)
    exact cc_tr (hx.2 s t1) (gd_E0 (gd_ph_lt w.1.2).1 (hQ y w.1.2 w.2.1.2) t2 t'))
  exact k.2 r t'
theorem gd_E2 {Q A V : Nat → Prop} (hA : ∀ c, V c → A c) (hcl : ∀ c d, V c → gd_w true A c d → V d) (h3 : ∀ c q p, c < 64 → V c → gd_tc (gd_ph c) q → gd_tc p q → ¬ Q p → ∃ u, u < 64 ∧ p = gd_ph u ∧ A u) {c q r : Nat} (hc : c < 64) (hV : V c) (t : gd_tc (gd_ph c) q) (h : cc_cl (gd_D Q) q r) : ∃ u, u < 64 ∧ V u ∧ gd_tc (gd_ph u) r ∧ cc_cl (gd_w true A) c u := by
  refine h (fun r => ∃ u, u < 64 ∧ V u ∧ gd_tc (gd_ph u) r ∧ cc_cl (gd_w true A) c u) ⟨c, hc, hV, t, cc_rf⟩ ?_
  rintro x y ⟨u, hu, hVu, tu, hcu⟩ ⟨e, he, hS, hxy⟩
  have key : ∃ p, ¬ Q p ∧ gd_tc p x ∧ (y < 81 → gd_tc p y) ∧ (¬ y < 81 → gd_fr p) := by
    have ar := gd_ar e he
    have en := (gd_ends e he).2
    have ou := gd_out e he
    have hx : x < 81 := tu.1
    have hp : ¬ Q (gd_a e) ∨ ¬ Q (gd_b e) := by
      by_cases z : Q (gd_a e)
      · exact Or.inr (fun w => hS ⟨z, w⟩)
      · exact Or.inl z
    rcases hxy with ⟨rfl, rfl⟩ | ⟨rfl, rfl⟩
    · rcases hp with hp | hp
      · exact ⟨gd_a e, hp, (ar.1 hx).1, fun hy => (ar.2 hy).1, fun hy => (ou (Or.inr (by omega))).1⟩
      · exact ⟨gd_b e, hp, (ar.1 hx).2, fun hy => (ar.2 hy).2, fun hy => (ou (Or.inr (by omega))).2⟩
    · rcases hp with hp | hp
      · exact ⟨gd_a e, hp, (ar.2 hx).1, fun hy => (ar.1 hy).1, fun hy => (ou (Or.inl (by omega))).1⟩
      · exact ⟨gd_b e, hp, (ar.2 hx).2, fun hy => (ar.1 hy).2, fun hy => (ou (Or.inl (by omega))).2⟩
  obtain ⟨p, hp, tx, ty, fy⟩ := key
  obtain ⟨v, hv, rfl, hAv⟩ := h3 u x p hu hVu tu tx hp
  have hy : y < 81 := by
    by_cases z : y < 81
    · exact z
    · exact absurd (fy z) (gd_ph_lt hv).2
  rcases gd_same hu hv tu tx with e1 | e1
  · subst e1
    exact ⟨u, hu, hVu, ty hy, hcu⟩
  · have w : gd_w true A u v := ⟨⟨hu, hv⟩, ⟨hA u hVu, hAv⟩, gd_nr_t.mpr e1⟩
    exact ⟨v, hv, hcl u v hVu w, ty hy, cc_st hcu w⟩
theorem gd_faces {Q A V : Nat → Prop} (hA : ∀ c, V c → A c) (hcl : ∀ c d, V c → gd_w true A c d → V d) (hQ : ∀ c, c < 64 → A c → ¬ Q (gd_ph c)) (h3 : ∀ c q p, c < 64 → V c → gd_tc (gd_ph c) q → gd_tc p q → ¬ Q p → ∃ u, u < 64 ∧ p = gd_ph u ∧ A u) (h4 : ∀ q, q < 81 → ¬ gd_full Q q → ¬ cc_cl (gd_D Q) q 81 → ∃ u, u < 64 ∧ gd_tc (gd_ph u) q ∧ V u) : cc_nc (gd_w true A) V 64 = cc_nc (gd_D Q) (gd_DF Q) 82 := by
  apply Nat.le_antisymm
  · apply cc_cmp (gd_w_sy _ _) (gd_D_sy Q) (fun c q => gd_tc (gd_ph c) q)
    · intro c hc hV
      have e : gd_bs (9 * (c / 8) + c % 8) + 11 = gd_ph c := by unfold gd_bs gd_ph; omega
      have t : gd_tc (gd_ph c) (9 * (c / 8) + c % 8) := ⟨by omega, Or.inr (Or.inr (Or.inr e.symm))⟩
      refine ⟨9 * (c / 8) + c % 8, by omega, ⟨fun hf => hQ c hc (hA c hV) (gd_fQ hf t), fun h => ?_⟩, t⟩
      obtain ⟨u, _, _, t', _⟩ := gd_E2 hA hcl h3 hc hV t h
      exact absurd t'.1 (Nat.lt_irrefl _)
    · intro c c' q q' hc hc' hV hV' t t' h
      obtain ⟨u, hu, hVu, tu, hcu⟩ := gd_E2 hA hcl h3 hc hV t h
      rcases gd_same hu hc' tu t' with e1 | e1
      · subst e1
        exact hcu
      · exact cc_st hcu ⟨⟨hu, hc'⟩, ⟨hA u hVu, hA c' hV'⟩, gd_nr_t.mpr e1⟩
  · apply cc_cmp (gd_D_sy Q) (gd_w_sy _ _) (fun q c => gd_tc (gd_ph c) q ∧ c < 64 ∧ V c)
    · intro q hq hD
      have hq' : q < 81 := by
        by_cases z : q = 81
        · exact absurd (z ▸ cc_rf) hD.2
        · omega
      obtain ⟨u, hu, tu, hVu⟩ := h4 q hq' hD.1 hD.2
      exact ⟨u, hu, hVu, tu, hu, hVu⟩
    · intro q q' c c' _ _ _ _ t t' h
      exact gd_E1 hQ t.2.1 (hA c t.2.2) h t.1 t'.1
theorem gd_iso {Q : Nat → Prop} {q d : Nat} (hq : q < 81) (hf : gd_full Q q) (h : cc_cl (gd_D Q) q d) : d = q := by
  refine h (fun d => d = q) rfl ?_
  rintro x y rfl ⟨e, he, hS, hxy⟩
  have ar := gd_ar e he
  exfalso
  apply hS
  rcases hxy with ⟨h1, _⟩ | ⟨h1, _⟩
  · rw [h1] at hq hf
    exact ⟨gd_fQ hf (ar.1 hq).1, gd_fQ hf (ar.1 hq).2⟩
  · rw [h1] at hq hf
    exact ⟨gd_fQ hf (ar.2 hq).1, gd_fQ hf (ar.2 hq).2⟩
theorem gd_dual (Q : Nat → Prop) : cc_nc (gd_D Q) (fun _ => True) 82 = cc_n (gd_full Q) 81 + 1 + cc_nc (gd_D Q) (gd_DF Q) 82 := by
  have hs := gd_D_sy Q
  unfold cc_nc
  rw [cc_split (cc_rep (gd_D Q) (fun _ => True)) (fun q => q < 81 ∧ gd_full Q q) 82]
  rw [cc_split (fun q => cc_rep (gd_D Q) (fun _ => True) q ∧ ¬ (q < 81 ∧ gd_full Q q)) (fun q => cc_cl (gd_D Q) q 81) 82]
  have n1 : cc_n (fun q => cc_rep (gd_D Q) (fun _ => True) q ∧ (q < 81 ∧ gd_full Q q)) 82 = cc_n (gd_full Q) 81 := by
    rw [show (82 : Nat) = 81 + 1 from rfl, cc_n_f (fun z => absurd z.2.1 (Nat.lt_irrefl 81))]
    refine cc_congr (fun q hq => ⟨fun z => z.2.2, fun z => ⟨⟨trivial, fun d hd _ h => ?_⟩, hq, z⟩⟩)
    have := gd_iso hq z (cc_sy hs h)
    omega
  have n2 : cc_n (fun q => (cc_rep (gd_D Q) (fun _ => True) q ∧ ¬ (q < 81 ∧ gd_full Q q)) ∧ cc_cl (gd_D Q) q 81) 82 = 1 := by
    obtain ⟨r, r1, r2, r3⟩ := cc_hasRep (R := gd_D Q) (V := fun _ => True) (c := 81) trivial
    refine cc_one (i := r) (by omega) ⟨⟨r2, fun z => ?_⟩, r3⟩ (fun j _ z => cc_repUniq hs z.1.1 r2 (cc_tr z.2 (cc_sy hs r3)))
    have := gd_iso z.1 z.2 r3
    omega
  have n3 : cc_n (fun q => (cc_rep (gd_D Q) (fun _ => True) q ∧ ¬ (q < 81 ∧ gd_full Q q)) ∧ ¬ cc_cl (gd_D Q) q 81) 82 = cc_n (cc_rep (gd_D Q) (gd_DF Q)) 82 := by
    refine cc_congr (fun q hq => ⟨fun z => ?_, fun z => ?_⟩)
    · have hq' : q < 81 := by
        by_cases w : q = 81
        · exact absurd (w ▸ cc_rf) z.2
        · omega
      exact ⟨⟨fun f => z.1.2 ⟨hq', f⟩, z.2⟩, fun d hd _ => z.1.1.2 d hd trivial⟩
    · refine ⟨⟨⟨trivial, fun d hd _ h => ?_⟩, fun w => z.1.1 w.2⟩, z.1.2⟩
      refine z.2 d hd ⟨fun f => ?_, fun g => z.1.2 (cc_tr (cc_sy hs h) g)⟩ h
      have := gd_iso (by omega) f h
      omega
  rw [n1, n2, n3, Nat.add_assoc]
theorem gd_prim (Q : Nat → Prop) : cc_nc (gd_P Q) (fun _ => True) 100 = cc_nc (gd_P Q) Q 100 + cc_n (fun p => ¬ Q p) 100 := by
  have hs := gd_P_sy Q
  have hst : ∀ x y, gd_P Q x y → Q x ∧ Q y := by
    rintro x y ⟨e, _, hS, hxy⟩
    rcases hxy with ⟨rfl, rfl⟩ | ⟨rfl, rfl⟩
    · exact hS
    · exact ⟨hS.2, hS.1⟩
  unfold cc_nc
  rw [cc_split (cc_rep (gd_P Q) (fun _ => True)) Q 100]
  have n1 : cc_n (fun p => cc_rep (gd_P Q) (fun _ => True) p ∧ Q p) 100 = cc_n (cc_rep (gd_P Q) Q) 100 := by
    refine cc_congr (fun p _ => ⟨fun z => ⟨z.2, fun d hd _ => z.1.2 d hd trivial⟩, fun z => ⟨⟨trivial, fun d hd _ h => ?_⟩, z.1⟩⟩)
    exact z.2 d hd ((cc_sy hs h) Q z.1 (fun x y _ r => (hst x y r).2)) h
  have n2 : cc_n (fun p => cc_rep (gd_P Q) (fun _ => True) p ∧ ¬ Q p) 100 = cc_n (fun p => ¬ Q p) 100 := by
    refine cc_congr (fun p _ => ⟨fun z => z.2, fun z => ⟨⟨trivial, fun d hd _ h => ?_⟩, z⟩⟩)
    have e : d = p := (cc_sy hs h) (fun d => d = p) rfl (fun x y hx r => absurd (hx ▸ (hst x y r).1) z)
    omega
  rw [n1, n2]
end
section
/-! pieces minus holes, by cells, edges and full faces -/
theorem gd_eH {Q : Nat → Prop} {p : Nat} (hp : p < 100) (h8 : p % 10 ≤ 8) (h1 : Q p) (h2 : Q (p + 1)) : gd_P Q p (p + 1) := by
  have ea : gd_a (9 * (p / 10) + p % 10) = p := by rw [gd_a1 (by omega) (by omega)]; omega
  have eb : gd_b (9 * (p / 10) + p % 10) = p + 1 := by rw [gd_b1 (by omega) (by omega)]; omega
  refine ⟨9 * (p / 10) + p % 10, by omega, ⟨?_, ?_⟩, Or.inl ⟨ea.symm, eb.symm⟩⟩
  · rw [ea]; exact h1
  · rw [eb]; exact h2
theorem gd_eV {Q : Nat → Prop} {p : Nat} (hp : p < 90) (h1 : Q p) (h2 : Q (p + 10)) : gd_P Q p (p + 10) := by
  refine ⟨90 + p, by omega, ⟨?_, ?_⟩, Or.inl ⟨(gd_a2 p).symm, (gd_b2 p).symm⟩⟩
  · rw [gd_a2]; exact h1
  · rw [gd_b2]; exact h2
theorem gd_L1 {Q A V : Nat → Prop} (hA : ∀ c, V c → A c) (hcl : ∀ c d, V c → gd_w false A c d → V d) (hQ : ∀ c, c < 64 → (Q (gd_ph c) ↔ A c)) (h1 : ∀ c p, c < 64 → V c → gd_P Q (gd_ph c) p → ∃ u, u < 64 ∧ p = gd_ph u) {c p : Nat} (hc : c < 64) (hV : V c) (h : cc_cl (gd_P Q) (gd_ph c) p) : ∃ u, u < 64 ∧ V u ∧ p = gd_ph u ∧ cc_cl (gd_w false A) c u := by
  refine h (fun p => ∃ u, u < 64 ∧ V u ∧ p = gd_ph u ∧ cc_cl (gd_w false A) c u) ⟨c, hc, hV, rfl, cc_rf⟩ ?_
  rintro x y ⟨u, hu, hVu, rfl, hcu⟩ hr
  obtain ⟨v, hv, rfl⟩ := h1 u y hu hVu hr
  obtain ⟨e, he, hS, hxy⟩ := hr
  have hQv : Q (gd_ph v) := by
    rcases hxy with ⟨_, z⟩ | ⟨_, z⟩
    · rw [z]; exact hS.2
    · rw [z]; exact hS.1
  have hn : gd_n4 u v := by
    have ab := gd_ab e he
    unfold gd_n4
    unfold gd_ph at hxy
    rcases hxy with ⟨z1, z2⟩ | ⟨z1, z2⟩
    · rw [← z1, ← z2] at ab
      omega
    · rw [← z1, ← z2] at ab
      omega
  have w : gd_w false A u v := ⟨⟨hu, hv⟩, ⟨hA u hVu, (hQ v hv).mp hQv⟩, gd_nr_f.mpr hn⟩
  exact ⟨v, hv, hcl u v hVu w, rfl, cc_st hcu w⟩
theorem gd_L2 {Q A : Nat → Prop} (hQ : ∀ c, c < 64 → (Q (gd_ph c) ↔ A c)) {c d : Nat} (h : cc_cl (gd_w false A) c d) : cc_cl (gd_P Q) (gd_ph c) (gd_ph d) := by
  refine h (fun d => cc_cl (gd_P Q) (gd_ph c) (gd_ph d)) cc_rf ?_
  intro x y hx w
  refine cc_st hx ?_
  have hx' := (hQ x w.1.1).mpr w.2.1.1
  have hy' := (hQ y w.1.2).mpr w.2.1.2
  have hn := gd_nr_f.mp w.2.2
  have hxl := w.1.1
  have hyl := w.1.2
  unfold gd_n4 at hn
  rcases hn with ⟨z, z' | z'⟩ | ⟨z, z' | z'⟩
  · have e : gd_ph x = gd_ph y + 10 := by unfold gd_ph; omega
    rw [e] at hx' ⊢
    exact gd_P_sy Q _ _ (gd_eV (by unfold gd_ph; omega) hy' hx')
  · have e : gd_ph y = gd_ph x + 10 := by unfold gd_ph; omega
    rw [e] at hy' ⊢
    exact gd_eV (by unfold gd_ph; omega) hx' hy'
  · have e : gd_ph x = gd_ph y + 1 := by unfold gd_ph; omega
    rw [e] at hx' ⊢
    exact gd_P_sy Q _ _ (gd_eH (by unfold gd_ph; omega) (by unfold gd_ph; omega) hy' hx')
  · have e : gd_ph y = gd_ph x + 1 := by unfold gd_ph; omega
    rw [e] at hy' ⊢
    exact gd_eH (by unfold gd_ph; omega) (by unfold gd_ph; omega) hx' hy'
theorem gd_cells {Q A V V2 : Nat → Prop} (hA : ∀ c, V c → A c) (hcl : ∀ c d, V c → gd_w false A c d → V d) (hQ : ∀ c, c < 64 → (Q (gd_ph c) ↔ A c)) (h1 : ∀ c p, c < 64 → V c → gd_P Q (gd_ph c) p → ∃ u, u < 64 ∧ p = gd_ph u) (h2 : ∀ c, c < 64 → V c → V2 (gd_ph c)) (h3 : ∀ p, p < 100 → V2 p → ∃ c, c < 64 ∧ V c ∧ p = gd_ph c) : cc_nc (gd_w false A) V 64 = cc_nc (gd_P Q) V2 100 := by
  apply Nat.le_antisymm
  · apply cc_cmp (gd_w_sy _ _) (gd_P_sy Q) (fun c p => p = gd_ph c)
    · intro c hc hV
      exact ⟨gd_ph c, (gd_ph_lt hc).1, h2 c hc hV, rfl⟩
    · intro c c' q q' hc hc' hV hV' t t' h
      rw [t, t'] at h
      obtain ⟨u, hu, _, e, hcu⟩ := gd_L1 hA hcl hQ h1 hc hV h
      rw [gd_ph_inj hc' hu e]
      exact hcu
  · apply cc_cmp (gd_P_sy Q) (gd_w_sy _ _) (fun p c => p = gd_ph c)
    · intro p hp hV
      obtain ⟨c, hc, hVc, e⟩ := h3 p hp hV
      exact ⟨c, hc, hVc, e⟩
    · intro p p' c c' _ _ _ _ t t' h
      rw [t, t']
      exact gd_L2 hQ h
/-- the picture with its frame of off cells -/
def gd_Q (P : Nat → Prop) (p : Nat) : Prop := ¬ gd_fr p ∧ P (gd_ps p)
/-- a cell whose piece has no cell at the border -/
def gd_in (m : Bool) (A : Nat → Prop) (c : Nat) : Prop := A c ∧ ∀ d, cc_cl (gd_w m A) c d → ¬ gd_ed d
noncomputable def gd_pc (m : Bool) (P : Nat → Prop) : Nat := cc_nc (gd_w m P) P 64
noncomputable def gd_ho (m : Bool) (P : Nat → Prop) : Nat := cc_nc (gd_w m (fun c => ¬ P c)) (gd_in m (fun c => ¬ P c)) 64
theorem gd_in_cl {m : Bool} {A : Nat → Prop} : ∀ c d, gd_in m A c → gd_w m A c d → gd_in m A d := fun _ _ h w => ⟨w.2.1.2, fun x g => h.2 x (cc_tr (cc_on w) g)⟩
theorem gd_Qph {P : Nat → Prop} {c : Nat} (hc : c < 64) : gd_Q P (gd_ph c) ↔ P c := by
  unfold gd_Q
  rw [gd_ps_ph hc]
  exact ⟨fun h => h.2, fun h => ⟨(gd_ph_lt hc).2, h⟩⟩
theorem gd_edf {d : Nat} (hd : d < 64) (h : gd_ed d) : ∃ p q, p < 100 ∧ gd_fr p ∧ gd_tc p q ∧ gd_tc (gd_ph d) q := by
  unfold gd_ed at h
  unfold gd_tc gd_bs gd_ph gd_fr
  rcases h with h | h | h | h
  · exact ⟨10 * (d / 8) + d % 8 + 10, 9 * (d / 8 + 1) + d % 8, by omega, by omega, by omega, by omega⟩
  · exact ⟨10 * (d / 8) + d % 8 + 12, 9 * (d / 8 + 1) + (d % 8 + 1), by omega, by omega, by omega, by omega⟩
  · exact ⟨10 * (d / 8) + d % 8 + 1, 9 * (d / 8) + (d % 8 + 1), by omega, by omega, by omega, by omega⟩
  · exact ⟨10 * (d / 8) + d % 8 + 21, 9 * (d / 8 + 1) + (d % 8 + 1), by omega, by omega, by omega, by omega⟩
theorem gd_mode4 (P : Nat → Prop) : (gd_pc false P : Int) - (gd_ho true P : Int) = (cc_n (gd_Q P) 100 : Int) - (cc_n (gd_S (gd_Q P)) 180 : Int) + (cc_n (gd_full (gd_Q P)) 81 : Int) := by
  have F : gd_ho true P = cc_nc (gd_D (gd_Q P)) (gd_DF (gd_Q P)) 82 := by
    have hQ : ∀ c, c < 64 → ¬ P c → ¬ gd_Q P (gd_ph c) := fun c hc h z => h ((gd_Qph hc).mp z)
    refine gd_faces (A := fun c => ¬ P c) (V := gd_in true (fun c => ¬ P c)) (fun c h => h.1) gd_in_cl hQ ?_ ?_
    · intro c q p hc hV t t' hp
      have hne := hV.2 c cc_rf
      have hpl := gd_tc_lt t'
      have hf : ¬ gd_fr p := by
        unfold gd_tc gd_bs gd_ph at t
        unfold gd_tc gd_bs at t'
        unfold gd_ed at hne
        unfold gd_fr
        omega
      have hps := gd_ph_ps hpl hf
      exact ⟨gd_ps p, hps.1, hps.2.symm, fun z => hp ⟨hf, z⟩⟩
    · intro q hq hnf hn81
      obtain ⟨p, hp, t, hQp⟩ := gd_nf hq hnf
      have hf : ¬ gd_fr p := fun z => hn81 (gd_E81 hp hQp z t)
      have hps := gd_ph_ps hp hf
      have hPu : ¬ P (gd_ps p) := fun z => hQp ⟨hf, z⟩
      have tu : gd_tc (gd_ph (gd_ps p)) q := by rw [hps.2]; exact t
      refine ⟨gd_ps p, hps.1, tu, hPu, fun d h hd => ?_⟩
      have hd' := gd_w_in hps.1 hPu h
      obtain ⟨r, s, h1, h2, h3, h4⟩ := gd_edf hd'.1 hd
      have hQr : ¬ gd_Q P r := fun z => z.1 h2
      exact hn81 (cc_tr (gd_E1 (A := fun c => ¬ P c) hQ hps.1 hPu h tu h4) (gd_E81 h1 hQr h2 h3))
  have C : gd_pc false P = cc_nc (gd_P (gd_Q P)) (gd_Q P) 100 := by
    refine gd_cells (A := P) (V := P) (fun c h => h) (fun c d _ w => w.2.1.2) (fun c hc => gd_Qph hc) ?_ (fun c hc h => (gd_Qph hc).mpr h) ?_
    · rintro c p hc hV ⟨e, he, hS, hxy⟩
      have en := (gd_ends e he).1
      have hp : p < 100 ∧ gd_Q P p := by
        rcases hxy with ⟨_, z⟩ | ⟨_, z⟩
        · rw [z]; exact ⟨en.2, hS.2⟩
        · rw [z]; exact ⟨en.1, hS.1⟩
      have hps := gd_ph_ps hp.1 hp.2.1
      exact ⟨gd_ps p, hps.1, hps.2.symm⟩
    · intro p hp h
      have hps := gd_ph_ps hp h.1
      exact ⟨gd_ps p, hps.1, h.2, hps.2.symm⟩
  have E := gd_euler (gd_S (gd_Q P))
  have E1 : gd_F (gd_S (gd_Q P)) = (cc_nc (gd_P (gd_Q P)) (fun _ => True) 100 : Int) - (cc_nc (gd_D (gd_Q P)) (fun _ => True) 82 : Int) := rfl
  rw [E1, gd_prim, gd_dual, ← F, ← C] at E
  have s := cc_split (fun _ => True) (gd_Q P) 100
  rw [cc_all (fun _ _ => trivial)] at s
  have t1 : cc_n (fun i => True ∧ gd_Q P i) 100 = cc_n (gd_Q P) 100 := cc_congr (fun _ _ => ⟨fun z => z.2, fun z => ⟨trivial, z⟩⟩)
  have t2 : cc_n (fun i => True ∧ ¬ gd_Q P i) 100 = cc_n (fun p => ¬ gd_Q P p) 100 := cc_congr (fun _ _ => ⟨fun z => z.2, fun z => ⟨trivial, z⟩⟩)
  omega
/-! ===== the other mode: the complement with its frame on ===== -/
theorem gd_frame {Q : Nat → Prop} (hQ : ∀ p, gd_fr p → Q p) : ∀ p, p < 100 → gd_fr p → cc_cl (gd_P Q) 0 p := by
  intro p
  induction p using Nat.strongRecOn with
  | ind p ih =>
    intro hp hf
    by_cases h0 : p = 0
    · rw [h0]; exact cc_rf
    · by_cases h1 : 1 ≤ p % 10 ∧ (p / 10 = 0 ∨ p / 10 = 9)
      · have hf' : gd_fr (p - 1) := by unfold gd_fr; omega
        refine cc_st (ih (p - 1) (by omega) (by omega) hf') ?_
        have e : p = p - 1 + 1 := by omega
        have k := gd_eH (Q := Q) (p := p - 1) (by omega) (by omega) (hQ _ hf') (by rw [← e]; exact hQ _ hf)
        rw [← e] at k
        exact k
      · have hf' : gd_fr (p - 10) := by unfold gd_fr at hf ⊢; omega
        have h10 : 10 ≤ p := by unfold gd_fr at hf; omega
        refine cc_st (ih (p - 10) (by omega) (by omega) hf') ?_
        have e : p = p - 10 + 10 := by omega
        have k := gd_eV (Q := Q) (p := p - 10) (by omega) (hQ _ hf') (by rw [← e]; exact hQ _ hf)
        rw [← e] at k
        exact k
theorem gd_edg {Q : Nat → Prop} (hQ : ∀ p, gd_fr p → Q p) {d : Nat} (hd : d < 64) (hQd : Q (gd_ph d)) (h : gd_ed d) : ∃ p, p < 100 ∧ gd_fr p ∧ gd_P Q (gd_ph d) p := by
  unfold gd_ed at h
  have key : ∃ p, p < 100 ∧ gd_fr p ∧ ((gd_ph d = p + 1 ∧ p % 10 ≤ 8) ∨ (p = gd_ph d + 1 ∧ gd_ph d % 10 ≤ 8) ∨ gd_ph d = p + 10 ∨ (p = gd_ph d + 10 ∧ gd_ph d < 90)) := by
    unfold gd_ph gd_fr
    rcases h with h | h | h | h
    · exact ⟨10 * (d / 8) + d % 8 + 10, by omega, by omega, by omega⟩
    · exact ⟨10 * (d / 8) + d % 8 + 12, by omega, by omega, by omega⟩
    · exact ⟨10 * (d / 8) + d % 8 + 1, by omega, by omega, by omega⟩
    · exact ⟨10 * (d / 8) + d % 8 + 21, by omega, by omega, by omega⟩
  obtain ⟨p, hp, hf, hc⟩ := key
  have hQp := hQ p hf
  refine ⟨p, hp, hf, ?_⟩
  rcases hc with ⟨z, z'⟩ | ⟨z, z'⟩ | z | ⟨z, z'⟩
  · rw [z] at hQd ⊢
    exact gd_P_sy Q _ _ (gd_eH hp z' hQp hQd)
  · rw [z] at hQp ⊢
    exact gd_eH (gd_ph_lt hd).1 z' hQd hQp
  · have hl := (gd_ph_lt hd).1
    rw [z] at hQd ⊢
    exact gd_P_sy Q _ _ (gd_eV (by omega) hQp hQd)
  · rw [z] at hQp ⊢
    exact gd_eV z' hQd hQp
theorem gd_mode8 (P : Nat → Prop) : (gd_pc true P : Int) - (gd_ho false P : Int) = 1 - ((cc_n (fun p => ¬ gd_Q P p) 100 : Int) - (cc_n (gd_S (fun p => ¬ gd_Q P p)) 180 : Int) + (cc_n (gd_full (fun p => ¬ gd_Q P p)) 81 : Int)) := by
  have hfQ : ∀ p, gd_fr p → ¬ gd_Q P p := fun p h z => z.1 h
  have F : gd_pc true P = cc_nc (gd_D (fun p => ¬ gd_Q P p)) (gd_DF (fun p => ¬ gd_Q P p)) 82 := by
    refine gd_faces (A := P) (V := P) (fun c h => h) (fun c d _ w => w.2.1.2) (fun c hc h z => z ((gd_Qph hc).mpr h)) ?_ ?_
    · intro c q p hc hV t t' hp
      have hQp : gd_Q P p := Classical.not_not.mp hp
      have hps := gd_ph_ps (gd_tc_lt t') hQp.1
      exact ⟨gd_ps p, hps.1, hps.2.symm, hQp.2⟩
    · intro q hq hnf _
      obtain ⟨p, hp, t, hQ⟩ := gd_nf hq hnf
      have hQp : gd_Q P p := Classical.not_not.mp hQ
      have hps := gd_ph_ps hp hQp.1
      exact ⟨gd_ps p, hps.1, by rw [hps.2]; exact t, hQp.2⟩
  have hQc : ∀ c, c < 64 → ((¬ gd_Q P (gd_ph c)) ↔ ¬ P c) := fun c hc => not_congr (gd_Qph hc)
  have hs := gd_P_sy (fun p => ¬ gd_Q P p)
  have h1 : ∀ c p, c < 64 → gd_in false (fun c => ¬ P c) c → gd_P (fun p => ¬ gd_Q P p) (gd_ph c) p → ∃ u, u < 64 ∧ p = gd_ph u := by
    rintro c p hc hV ⟨e, he, hS, hxy⟩
    have en := (gd_ends e he).1
    have ab := gd_ab e he
    have hne := hV.2 c cc_rf
    have hp : p < 100 := by
      rcases hxy with ⟨_, z⟩ | ⟨_, z⟩
      · rw [z]; exact en.2
      · rw [z]; exact en.1
    have hf : ¬ gd_fr p := by
      unfold gd_ph at hxy
      unfold gd_ed at hne
      unfold gd_fr
      rcases hxy with ⟨z1, z2⟩ | ⟨z1, z2⟩
      · rw [← z1, ← z2] at ab
        omega
      · rw [← z1, ← z2] at ab
        omega
    have hps := gd_ph_ps hp hf
    exact ⟨gd_ps p, hps.1, hps.2.symm⟩
  have C : gd_ho false P = cc_nc (gd_P (fun p => ¬ gd_Q P p)) (fun p => ¬ gd_Q P p ∧ ¬ cc_cl (gd_P (fun p => ¬ gd_Q P p)) 0 p) 100 := by
    refine gd_cells (Q := fun p => ¬ gd_Q P p) (A := fun c => ¬ P c) (V := gd_in false (fun c => ¬ P c)) (fun c h => h.1) gd_in_cl hQc h1 ?_ ?_
    · intro c hc hV
      refine ⟨(hQc c hc).mpr hV.1, fun h => ?_⟩
      obtain ⟨u, _, _, e, _⟩ := gd_L1 (Q := fun p => ¬ gd_Q P p) (A := fun c => ¬ P c) (V := gd_in false (fun c => ¬ P c)) (fun c h => h.1) gd_in_cl hQc h1 hc hV (cc_sy hs h)
      unfold gd_ph at e
      omega
    · intro p hp h
      have hf : ¬ gd_fr p := fun z => h.2 (gd_frame (Q := fun p => ¬ gd_Q P p) hfQ p hp z)
      have hps := gd_ph_ps hp hf
      have hPu : ¬ P (gd_ps p) := fun z => h.1 ⟨hf, z⟩
      refine ⟨gd_ps p, hps.1, ⟨hPu, fun d g hd => ?_⟩, hps.2.symm⟩
      have hd' := gd_w_in hps.1 hPu g
      obtain ⟨r, r1, r2, r3⟩ := gd_edg (Q := fun p => ¬ gd_Q P p) hfQ hd'.1 ((hQc d hd'.1).mpr hd'.2) hd
      have k := cc_st (gd_L2 (Q := fun p => ¬ gd_Q P p) (A := fun c => ¬ P c) hQc g) r3
      rw [hps.2] at k
      exact h.2 (cc_tr (gd_frame (Q := fun p => ¬ gd_Q P p) hfQ r r1 r2) (cc_sy hs k))
  have h0 : ¬ gd_Q P 0 := hfQ 0 (Or.inl rfl)
  have O : cc_nc (gd_P (fun p => ¬ gd_Q P p)) (fun p => ¬ gd_Q P p) 100 = 1 + cc_nc (gd_P (fun p => ¬ gd_Q P p)) (fun p => ¬ gd_Q P p ∧ ¬ cc_cl (gd_P (fun p => ¬ gd_Q P p)) 0 p) 100 := by
    unfold cc_nc
    rw [cc_split (cc_rep (gd_P (fun p => ¬ gd_Q P p)) (fun p => ¬ gd_Q P p)) (fun p => cc_cl (gd_P (fun p => ¬ gd_Q P p)) 0 p) 100]
    have r0 : cc_rep (gd_P (fun p => ¬ gd_Q P p)) (fun p => ¬ gd_Q P p) 0 := ⟨h0, fun d hd => absurd hd (Nat.not_lt_zero d)⟩
    have n1 : cc_n (fun p => cc_rep (gd_P (fun p => ¬ gd_Q P p)) (fun p => ¬ gd_Q P p) p ∧ cc_cl (gd_P (fun p => ¬ gd_Q P p)) 0 p) 100 = 1 :=
      cc_one (i := 0) (by omega) ⟨r0, cc_rf⟩ (fun j _ z => (cc_repUniq hs r0 z.1 z.2).symm)
    have n2 : cc_n (fun p => cc_rep (gd_P (fun p => ¬ gd_Q P p)) (fun p => ¬ gd_Q P p) p ∧ ¬ cc_cl (gd_P (fun p => ¬ gd_Q P p)) 0 p) 100 = cc_n (cc_rep (gd_P (fun p => ¬ gd_Q P p)) (fun p => ¬ gd_Q P p ∧ ¬ cc_cl (gd_P (fun p => ¬ gd_Q P p)) 0 p)) 100 := by
      refine cc_congr (fun p _ => ⟨fun z => ⟨⟨z.1.1, z.2⟩, fun d hd hV => z.1.2 d hd hV.1⟩, fun z => ⟨⟨z.1.1, fun d hd hV h => ?_⟩, z.1.2⟩⟩)
      exact z.2 d hd ⟨hV, fun g => z.1.2 (cc_tr g h)⟩ h
    rw [n1, n2]
  have E := gd_euler (gd_S (fun p => ¬ gd_Q P p))
  have E1 : gd_F (gd_S (fun p => ¬ gd_Q P p)) = (cc_nc (gd_P (fun p => ¬ gd_Q P p)) (fun _ => True) 100 : Int) - (cc_nc (gd_D (fun p => ¬ gd_Q P p)) (fun _ => True) 82 : Int) := rfl
  rw [E1, gd_prim, gd_dual, ← F, O, ← C] at E
  have s := cc_split (fun _ => True) (fun p => ¬ gd_Q P p) 100
  rw [cc_all (fun _ _ => trivial)] at s
  have t1 : cc_n (fun i => True ∧ ¬ gd_Q P i) 100 = cc_n (fun p => ¬ gd_Q P p) 100 := cc_congr (fun _ _ => ⟨fun z => z.2, fun z => ⟨trivial, z⟩⟩)
  have t2 : cc_n (fun i => True ∧ ¬ ¬ gd_Q P i) 100 = cc_n (fun p => ¬ ¬ gd_Q P p) 100 := cc_congr (fun _ _ => ⟨fun z => z.2, fun z => ⟨trivial, z⟩⟩)
  omega
end
section
/-! the sum over the squares of two by two cells -/
def lc_sm (f : Nat → Int) : Nat → Int
  | 0 => 0
  | n + 1 => lc_sm f n + f n
theorem lc_sm_s (f : Nat → Int) (n : Nat) : lc_sm f (n + 1) = lc_sm f n + f n := rfl
theorem lc_congr {f g : Nat → Int} : ∀ {n : Nat}, (∀ i, i < n → f i = g i) → lc_sm f n = lc_sm g n := by
  intro n
  induction n with
  | zero => intro _; rfl
  | succ n ih => intro h; rw [lc_sm_s, lc_sm_s, ih (fun i hi => h i (by omega)), h n (by omega)]
theorem lc_add (f g : Nat → Int) (n : Nat) : lc_sm (fun i => f i + g i) n = lc_sm f n + lc_sm g n := by
  induction n with
  | zero => rfl
  | succ n ih => rw [lc_sm_s, lc_sm_s, lc_sm_s, ih]; omega
theorem lc_mul (k : Int) (f : Nat → Int) (n : Nat) : lc_sm (fun i => k * f i) n = k * lc_sm f n := by
  induction n with
  | zero => show (0 : Int) = k * 0; rw [Int.mul_zero]
  | succ n ih => rw [lc_sm_s, lc_sm_s, ih, Int.mul_add]
theorem lc_const (k : Int) (n : Nat) : lc_sm (fun _ => k) n = n * k := by
  induction n with
  | zero => show (0 : Int) = ((0 : Nat) : Int) * k; rw [Int.natCast_zero, Int.zero_mul]
  | succ n ih => rw [lc_sm_s, ih, Int.natCast_add, Int.add_mul]; simp
theorem lc_cn (p : Nat → Prop) (n : Nat) : (cc_n p n : Int) = lc_sm (fun i => (cc_i (p i) : Int)) n := by
  induction n with
  | zero => rfl
  | succ n ih => rw [cc_n_s, lc_sm_s, ← ih]; omega
theorem lc_shift (f : Nat → Int) (n : Nat) : lc_sm (fun i => f i + f (i + 1)) n = 2 * lc_sm f (n + 1) - f 0 - f n := by
  induction n with
  | zero => show (0 : Int) = 2 * (0 + f 0) - f 0 - f 0; omega
  | succ n ih => rw [lc_sm_s, ih, lc_sm_s f (n + 1)]; omega
theorem lc_app (f : Nat → Int) (a b : Nat) : lc_sm f (a + b) = lc_sm f a + lc_sm (fun i => f (a + i)) b := by
  induction b with
  | zero => show lc_sm f a = lc_sm f a + 0; omega
  | succ b ih => rw [← Nat.add_assoc, lc_sm_s, lc_sm_s, ih]; omega
theorem lc_dbl (F : Nat → Nat → Int) (m n : Nat) : lc_sm (fun e => F (e % m) (e / m)) (m * n) = lc_sm (fun y => lc_sm (fun x => F x y) m) n := by
  induction n with
  | zero => rfl
  | succ n ih =>
    rw [Nat.mul_succ, lc_app, ih, lc_sm_s]
    congr 1
    apply lc_congr
    intro x hx
    have h1 : (m * n + x) % m = x := by rw [Nat.mul_add_mod, Nat.mod_eq_of_lt hx]
    have h2 : (m * n + x) / m = n := by rw [Nat.mul_add_div (by omega), Nat.div_eq_of_lt hx]; rfl
    show F ((m * n + x) % m) ((m * n + x) / m) = F x n
    rw [h1, h2]
theorem lc_and (p q : Prop) : (cc_i (p ∧ q) : Int) = (cc_i p : Int) * (cc_i q : Int) := by
  by_cases hp : p
  · by_cases hq : q
    · rw [cc_i_t hp, cc_i_t hq, cc_i_t ⟨hp, hq⟩]; rfl
    · rw [cc_i_f hq, cc_i_f (p := p ∧ q) (fun z => hq z.2)]; simp
  · rw [cc_i_f hp, cc_i_f (p := p ∧ q) (fun z => hp z.1)]; simp
noncomputable def lc_g (Q : Nat → Prop) (i j : Nat) : Int := (cc_i (Q (10 * j + i)) : Int)
def lc_w4 (a b c d : Int) : Int := (((a + b) + (c + d)) + (-2) * (a * b + c * d)) + ((-2) * (a * c + b * d) + 4 * (a * b * (c * d)))
noncomputable def lc_T (Q : Nat → Prop) : Int := lc_sm (fun j => lc_sm (fun i => lc_w4 (lc_g Q i j) (lc_g Q (i + 1) j) (lc_g Q i (j + 1)) (lc_g Q (i + 1) (j + 1))) 9) 9
noncomputable def lc_s2 (F : Nat → Nat → Int) (m n : Nat) : Int := lc_sm (fun j => lc_sm (fun i => F i j) m) n
theorem lc_s2_congr {F G : Nat → Nat → Int} {m n : Nat} (h : ∀ i j, i < m → j < n → F i j = G i j) : lc_s2 F m n = lc_s2 G m n := lc_congr (fun j hj => lc_congr (fun i hi => h i j hi hj))
theorem lc_s2_add (F G : Nat → Nat → Int) (m n : Nat) : lc_s2 (fun i j => F i j + G i j) m n = lc_s2 F m n + lc_s2 G m n := by
  unfold lc_s2
  rw [← lc_add]
  exact lc_congr (fun j _ => lc_add _ _ m)
theorem lc_s2_mul (k : Int) (F : Nat → Nat → Int) (m n : Nat) : lc_s2 (fun i j => k * F i j) m n = k * lc_s2 F m n := by
  unfold lc_s2
  rw [← lc_mul]
  exact lc_congr (fun j _ => lc_mul _ _ m)
theorem lc_s2_j (F : Nat → Nat → Int) (m n : Nat) : lc_s2 (fun i j => F i j + F i (j + 1)) m n = 2 * lc_s2 F m (n + 1) - lc_sm (fun i => F i 0) m - lc_sm (fun i => F i n) m := by
  unfold lc_s2
  rw [← lc_shift (fun j => lc_sm (fun i => F i j) m) n]
  exact lc_congr (fun j _ => lc_add _ _ m)
theorem lc_s2_i (F : Nat → Nat → Int) (m n : Nat) : lc_s2 (fun i j => F i j + F (i + 1) j) m n = 2 * lc_s2 F (m + 1) n - lc_sm (fun j => F 0 j) n - lc_sm (fun j => F m j) n := by
  unfold lc_s2
  have h : ∀ j, j < n → lc_sm (fun i => F i j + F (i + 1) j) m = (2 * lc_sm (fun i => F i j) (m + 1) + (-1) * F 0 j) + (-1) * F m j := by
    intro j _
    have := lc_shift (fun i => F i j) m
    omega
  have e0 : lc_sm (fun j => F 0 j) n = lc_sm (F 0) n := rfl
  have e1 : lc_sm (fun j => F m j) n = lc_sm (F m) n := rfl
  rw [lc_congr h, lc_add, lc_add, lc_mul, lc_mul, lc_mul]
  omega
theorem lc_T_eq (Q : Nat → Prop) (k : Int) (hkk : k * k = k) (hk : ∀ i j, i ≤ 9 → j ≤ 9 → (i = 0 ∨ i = 9 ∨ j = 0 ∨ j = 9) → lc_g Q i j = k) : lc_T Q = 4 * ((cc_n Q 100 : Int) - (cc_n (gd_S Q) 180 : Int) + (cc_n (gd_full Q) 81 : Int)) - 4 * k := by
  have eQ : (cc_n Q 100 : Int) = lc_s2 (lc_g Q) 10 10 := by
    rw [lc_cn]
    have := lc_dbl (lc_g Q) 10 10
    unfold lc_s2
    rw [← this]
    refine lc_congr (fun e he => ?_)
    unfold lc_g
    rw [show 10 * (e / 10) + e % 10 = e by omega]
  have eS : (cc_n (gd_S Q) 180 : Int) = lc_s2 (fun i j => lc_g Q i j * lc_g Q (i + 1) j) 9 10 + lc_s2 (fun i j => lc_g Q i j * lc_g Q i (j + 1)) 10 9 := by
    rw [lc_cn, show (180 : Nat) = 90 + 90 from rfl, lc_app]
    have d1 := lc_dbl (fun i j => lc_g Q i j * lc_g Q (i + 1) j) 9 10
    have d2 := lc_dbl (fun i j => lc_g Q i j * lc_g Q i (j + 1)) 10 9
    unfold lc_s2
    rw [← d1, ← d2]
    congr 1
    · refine lc_congr (fun e he => ?_)
      have he' : e < 90 := he
      show (cc_i (Q (gd_a e) ∧ Q (gd_b e)) : Int) = lc_g Q (e % 9) (e / 9) * lc_g Q (e % 9 + 1) (e / 9)
      rw [lc_and]
      unfold gd_a gd_b lc_g
      rw [if_pos he', if_pos he', show 10 * (e / 9) + (e % 9 + 1) = 10 * (e / 9) + e % 9 + 1 by omega]
    · refine lc_congr (fun e he => ?_)
      show (cc_i (Q (gd_a (90 + e)) ∧ Q (gd_b (90 + e))) : Int) = lc_g Q (e % 10) (e / 10) * lc_g Q (e % 10) (e / 10 + 1)
      rw [lc_and, gd_a2, gd_b2]
      unfold lc_g
      rw [show 10 * (e / 10) + e % 10 = e by omega, show 10 * (e / 10 + 1) + e % 10 = e + 10 by omega]
  have eN : (cc_n (gd_full Q) 81 : Int) = lc_s2 (fun i j => lc_g Q i j * lc_g Q (i + 1) j * (lc_g Q i (j + 1) * lc_g Q (i + 1) (j + 1))) 9 9 := by
    rw [lc_cn]
    have d1 := lc_dbl (fun i j => lc_g Q i j * lc_g Q (i + 1) j * (lc_g Q i (j + 1) * lc_g Q (i + 1) (j + 1))) 9 9
    unfold lc_s2
    rw [← d1]
    refine lc_congr (fun e he => ?_)
    show (cc_i (Q (gd_bs e) ∧ Q (gd_bs e + 1) ∧ Q (gd_bs e + 10) ∧ Q (gd_bs e + 11)) : Int) = lc_g Q (e % 9) (e / 9) * lc_g Q (e % 9 + 1) (e / 9) * (lc_g Q (e % 9) (e / 9 + 1) * lc_g Q (e % 9 + 1) (e / 9 + 1))
    rw [lc_and, lc_and, lc_and]
    unfold gd_bs lc_g
    rw [show 10 * (e / 9) + (e % 9 + 1) = 10 * (e / 9) + e % 9 + 1 by omega, show 10 * (e / 9 + 1) + e % 9 = 10 * (e / 9) + e % 9 + 10 by omega, show 10 * (e / 9 + 1) + (e % 9 + 1) = 10 * (e / 9) + e % 9 + 11 by omega, Int.mul_assoc]
  have eT : lc_T Q = (lc_s2 (fun i j => (lc_g Q i j + lc_g Q (i + 1) j) + (lc_g Q i (j + 1) + lc_g Q (i + 1) (j + 1))) 9 9 + (-2) * lc_s2 (fun i j => lc_g Q i j * lc_g Q (i + 1) j + lc_g Q i (j + 1) * lc_g Q (i + 1) (j + 1)) 9 9) + ((-2) * lc_s2 (fun i j => lc_g Q i j * lc_g Q i (j + 1) + lc_g Q (i + 1) j * lc_g Q (i + 1) (j + 1)) 9 9 + 4 * lc_s2 (fun i j => lc_g Q i j * lc_g Q (i + 1) j * (lc_g Q i (j + 1) * lc_g Q (i + 1) (j + 1))) 9 9) := by
    rw [← lc_s2_mul, ← lc_s2_mul, ← lc_s2_mul, ← lc_s2_add, ← lc_s2_add, ← lc_s2_add]
    rfl
  have hC : lc_s2 (fun i j => (lc_g Q i j + lc_g Q (i + 1) j) + (lc_g Q i (j + 1) + lc_g Q (i + 1) (j + 1))) 9 9 = 4 * lc_s2 (lc_g Q) 10 10 - 76 * k := by
    have a1 := lc_s2_j (fun i j => lc_g Q i j + lc_g Q (i + 1) j) 9 9
    have a2 := lc_s2_i (lc_g Q) 9 10
    have b0 : lc_sm (fun i => lc_g Q i 0 + lc_g Q (i + 1) 0) 9 = lc_sm (fun _ => k + k) 9 := lc_congr (fun i hi => by rw [hk i 0 (by omega) (by omega) (by omega), hk (i + 1) 0 (by omega) (by omega) (by omega)])
    have b9 : lc_sm (fun i => lc_g Q i 9 + lc_g Q (i + 1) 9) 9 = lc_sm (fun _ => k + k) 9 := lc_congr (fun i hi => by rw [hk i 9 (by omega) (by omega) (by omega), hk (i + 1) 9 (by omega) (by omega) (by omega)])
    have c0 : lc_sm (fun j => lc_g Q 0 j) 10 = lc_sm (fun _ => k) 10 := lc_congr (fun j hj => hk 0 j (by omega) (by omega) (by omega))
    have c9 : lc_sm (fun j => lc_g Q 9 j) 10 = lc_sm (fun _ => k) 10 := lc_congr (fun j hj => hk 9 j (by omega) (by omega) (by omega))
    rw [lc_const] at b0 b9 c0 c9
    rw [b0, b9] at a1
    rw [c0, c9] at a2
    rw [a1]
    rw [show (9 + 1 : Nat) = 10 from rfl] at *
    rw [a2]
    omega
  have hH : lc_s2 (fun i j => lc_g Q i j * lc_g Q (i + 1) j + lc_g Q i (j + 1) * lc_g Q (i + 1) (j + 1)) 9 9 = 2 * lc_s2 (fun i j => lc_g Q i j * lc_g Q (i + 1) j) 9 10 - 18 * k := by
    have a1 := lc_s2_j (fun i j => lc_g Q i j * lc_g Q (i + 1) j) 9 9
    have b0 : lc_sm (fun i => lc_g Q i 0 * lc_g Q (i + 1) 0) 9 = lc_sm (fun _ => k) 9 := lc_congr (fun i hi => by rw [hk i 0 (by omega) (by omega) (by omega), hk (i + 1) 0 (by omega) (by omega) (by omega), hkk])
    have b9 : lc_sm (fun i => lc_g Q i 9 * lc_g Q (i + 1) 9) 9 = lc_sm (fun _ => k) 9 := lc_congr (fun i hi => by rw [hk i 9 (by omega) (by omega) (by omega), hk (i + 1) 9 (by omega) (by omega) (by omega), hkk])
    rw [lc_const] at b0 b9
    rw [b0, b9] at a1
    rw [a1, show (9 + 1 : Nat) = 10 from rfl]
    omega
  have hV : lc_s2 (fun i j => lc_g Q i j * lc_g Q i (j + 1) + lc_g Q (i + 1) j * lc_g Q (i + 1) (j + 1)) 9 9 = 2 * lc_s2 (fun i j => lc_g Q i j * lc_g Q i (j + 1)) 10 9 - 18 * k := by
    have a1 := lc_s2_i (fun i j => lc_g Q i j * lc_g Q i (j + 1)) 9 9
    have b0 : lc_sm (fun j => lc_g Q 0 j * lc_g Q 0 (j + 1)) 9 = lc_sm (fun _ => k) 9 := lc_congr (fun j hj => by rw [hk 0 j (by omega) (by omega) (by omega), hk 0 (j + 1) (by omega) (by omega) (by omega), hkk])
    have b9 : lc_sm (fun j => lc_g Q 9 j * lc_g Q 9 (j + 1)) 9 = lc_sm (fun _ => k) 9 := lc_congr (fun j hj => by rw [hk 9 j (by omega) (by omega) (by omega), hk 9 (j + 1) (by omega) (by omega) (by omega), hkk])
    rw [lc_const] at b0 b9
    rw [b0, b9] at a1
    rw [a1, show (9 + 1 : Nat) = 10 from rfl]
    omega
  rw [eT, hC, hH, hV, eQ, eS, eN]
  omega
/-- what one square adds -/
def lc_wt (m : Bool) (a b c d : Nat) : Int := if a + b + c + d = 1 then 1 else if a + b + c + d = 3 then -1 else if a + b + c + d = 2 ∧ a = d then (if m = false then 2 else -2) else 0
theorem lc_wt4 : ∀ a, a < 2 → ∀ b, b < 2 → ∀ c, c < 2 → ∀ d, d < 2 → lc_wt false a b c d = lc_w4 (a : Int) (b : Int) (c : Int) (d : Int) := by decide
theorem lc_wt8 : ∀ a, a < 2 → ∀ b, b < 2 → ∀ c, c < 2 → ∀ d, d < 2 → lc_wt true a b c d = (-1) * lc_w4 ((1 - a : Nat) : Int) ((1 - b : Nat) : Int) ((1 - c : Nat) : Int) ((1 - d : Nat) : Int) := by decide
theorem lc_not (p : Prop) : cc_i (¬ p) = 1 - cc_i p := by
  by_cases h : p
  · rw [cc_i_t h, cc_i_f (fun z => z h)]
  · rw [cc_i_f h, cc_i_t h]
theorem lc_lt2 (p : Prop) : cc_i p < 2 := by have := cc_i_le p; omega
noncomputable def lc_q (m : Bool) (P : Nat → Prop) (i j : Nat) : Int := lc_wt m (cc_i (gd_Q P (10 * j + i))) (cc_i (gd_Q P (10 * j + i + 1))) (cc_i (gd_Q P (10 * j + i + 10))) (cc_i (gd_Q P (10 * j + i + 11)))
theorem lc_fr {i j : Nat} (hi : i ≤ 9) (hj : j ≤ 9) (h : i = 0 ∨ i = 9 ∨ j = 0 ∨ j = 9) : gd_fr (10 * j + i) := by unfold gd_fr; omega
theorem lc_main (m : Bool) (P : Nat → Prop) : lc_s2 (lc_q m P) 9 9 = 4 * ((gd_pc m P : Int) - (gd_ho (!m) P : Int)) := by
  cases m with
  | false =>
    have e : lc_s2 (lc_q false P) 9 9 = lc_T (gd_Q P) := by
      refine lc_s2_congr (fun i j hi hj => ?_)
      unfold lc_q lc_g
      rw [lc_wt4 _ (lc_lt2 _) _ (lc_lt2 _) _ (lc_lt2 _) _ (lc_lt2 _), show 10 * j + (i + 1) = 10 * j + i + 1 by omega, show 10 * (j + 1) + i = 10 * j + i + 10 by omega, show 10 * (j + 1) + (i + 1) = 10 * j + i + 11 by omega]
    have t := lc_T_eq (gd_Q P) 0 rfl (fun i j hi hj h => by unfold lc_g; rw [cc_i_f (fun z => z.1 (lc_fr hi hj h))]; rfl)
    have g := gd_mode4 P
    rw [e, t]
    show _ = 4 * ((gd_pc false P : Int) - (gd_ho true P : Int))
    omega
  | true =>
    have e : lc_s2 (lc_q true P) 9 9 = (-1) * lc_T (fun p => ¬ gd_Q P p) := by
      show lc_s2 (lc_q true P) 9 9 = (-1) * lc_s2 (fun i j => lc_w4 (lc_g (fun p => ¬ gd_Q P p) i j) (lc_g (fun p => ¬ gd_Q P p) (i + 1) j) (lc_g (fun p => ¬ gd_Q P p) i (j + 1)) (lc_g (fun p => ¬ gd_Q P p) (i + 1) (j + 1))) 9 9
      rw [← lc_s2_mul (-1) (fun i j => lc_w4 (lc_g (fun p => ¬ gd_Q P p) i j) (lc_g (fun p => ¬ gd_Q P p) (i + 1) j) (lc_g (fun p => ¬ gd_Q P p) i (j + 1)) (lc_g (fun p => ¬ gd_Q P p) (i + 1) (j + 1))) 9 9]
      refine lc_s2_congr (fun i j hi hj => ?_)
      unfold lc_q lc_g
      rw [lc_wt8 _ (lc_lt2 _) _ (lc_lt2 _) _ (lc_lt2 _) _ (lc_lt2 _), show 10 * j + (i + 1) = 10 * j + i + 1 by omega, show 10 * (j + 1) + i = 10 * j + i + 10 by omega, show 10 * (j + 1) + (i + 1) = 10 * j + i + 11 by omega, lc_not, lc_not, lc_not, lc_not]
    have t := lc_T_eq (fun p => ¬ gd_Q P p) 1 rfl (fun i j hi hj h => by unfold lc_g; rw [cc_i_t (fun z : gd_Q P (10 * j + i) => z.1 (lc_fr hi hj h))]; rfl)
    have g := gd_mode8 P
    rw [e, t]
    show _ = 4 * ((gd_pc true P : Int) - (gd_ho false P : Int))
    omega
end
section
/-! the count of ones of a word -/
def xb (x : Int64) (i : Nat) : Bool := x.toBitVec.getLsbD i
theorem xb_uN (x : Int64) (i : Nat) : xb x i = (uN x).testBit i := rfl
theorem pp_uand (x y : Int64) : uN (x &&& y) = uN x &&& uN y := UInt64.toNat_and _ _
theorem pp_usub {x y : Int64} (h : uN y ≤ uN x) : uN (x - y) = uN x - uN y := by
  show (x.toUInt64 - y.toUInt64).toNat = _
  exact UInt64.toNat_sub_of_le _ _ (UInt64.le_iff_toNat_le.mpr h)
theorem pp_s1 (x : Int64) : uN (x.toUInt64 >>> ((1 : Int32).toInt64.toUInt64 &&& Int64.toUInt64 63)).toInt64 = uN x / 2 := by
  rw [uN_shr, show ((1 : Int32).toInt64.toUInt64 &&& Int64.toUInt64 63).toNat % 64 = 1 by decide]
theorem pp_s2 (x : Int64) : uN (x.toUInt64 >>> ((2 : Int32).toInt64.toUInt64 &&& Int64.toUInt64 63)).toInt64 = uN x / 4 := by
  rw [uN_shr, show ((2 : Int32).toInt64.toUInt64 &&& Int64.toUInt64 63).toNat % 64 = 2 by decide]
theorem pp_s4 (x : Int64) : uN (x.toUInt64 >>> ((4 : Int32).toInt64.toUInt64 &&& Int64.toUInt64 63)).toInt64 = uN x / 16 := by
  rw [uN_shr, show ((4 : Int32).toInt64.toUInt64 &&& Int64.toUInt64 63).toNat % 64 = 4 by decide]
theorem pp_s56 (x : Int64) : uN (x.toUInt64 >>> ((56 : Int32).toInt64.toUInt64 &&& Int64.toUInt64 63)).toInt64 = uN x / 72057594037927936 := by
  rw [uN_shr, show ((56 : Int32).toInt64.toUInt64 &&& Int64.toUInt64 63).toNat % 64 = 56 by decide]
def pp_jb : List Nat → Nat
  | [] => 0
  | b :: l => b + 256 * pp_jb l
def pp_rep (c : Nat) : Nat → Nat
  | 0 => 0
  | k + 1 => c + 256 * pp_rep c k
theorem pp_and1 {a b c d : Nat} (ha : a < 256) (hc : c < 256) : (a + 256 * b) &&& (c + 256 * d) = (a &&& c) + 256 * (b &&& d) := by
  have h1 : ((a + 256 * b) &&& (c + 256 * d)) % 2 ^ 8 = a &&& c := by
    rw [Nat.and_mod_two_pow, show (a + 256 * b) % 2 ^ 8 = a by omega, show (c + 256 * d) % 2 ^ 8 = c by omega]
  have h2 : ((a + 256 * b) &&& (c + 256 * d)) / 2 ^ 8 = b &&& d := by
    rw [Nat.and_div_two_pow, show (a + 256 * b) / 2 ^ 8 = b by omega, show (c + 256 * d) / 2 ^ 8 = d by omega]
  generalize (a + 256 * b) &&& (c + 256 * d) = t at *
  omega
theorem pp_andL {c : Nat} (hc : c < 256) : ∀ l : List Nat, (∀ b, b ∈ l → b < 256) → pp_jb l &&& pp_rep c l.length = pp_jb (l.map (fun b => b &&& c)) := by
  intro l
  induction l with
  | nil => intro _; exact Nat.zero_and 0
  | cons b l ih =>
    intro h
    show (b + 256 * pp_jb l) &&& (c + 256 * pp_rep c l.length) = (b &&& c) + 256 * pp_jb (l.map (fun b => b &&& c))
    rw [pp_and1 (h b (by simp)) hc, ih (fun x hx => h x (by simp [hx]))]
theorem pp_and8 {c b0 b1 b2 b3 b4 b5 b6 b7 : Nat} (hc : c < 256) (h0 : b0 < 256) (h1 : b1 < 256) (h2 : b2 < 256) (h3 : b3 < 256) (h4 : b4 < 256) (h5 : b5 < 256) (h6 : b6 < 256) (h7 : b7 < 256) : pp_jb [b0, b1, b2, b3, b4, b5, b6, b7] &&& pp_rep c 8 = pp_jb [b0 &&& c, b1 &&& c, b2 &&& c, b3 &&& c, b4 &&& c, b5 &&& c, b6 &&& c, b7 &&& c] :=
  pp_andL hc [b0, b1, b2, b3, b4, b5, b6, b7] (by
    intro b hb
    simp only [List.mem_cons, List.not_mem_nil, or_false] at hb
    rcases hb with rfl | rfl | rfl | rfl | rfl | rfl | rfl | rfl <;> assumption)
def pp_T (b : Nat) : Nat := b / 2 &&& 85
def pp_A (b : Nat) : Nat := b - pp_T b
def pp_B (b : Nat) : Nat := (pp_A b &&& 51) + (pp_A b / 4 &&& 51)
def pp_C (b : Nat) : Nat := (pp_B b + pp_B b / 16) % 16
theorem pp_t1 : ∀ b, b < 256 → ∀ r, r < 2 → (b / 2 + 128 * r) &&& 85 = pp_T b := by decide +kernel
theorem pp_t2 : ∀ b, b < 256 → pp_T b ≤ b ∧ pp_A b ≤ 170 := by decide +kernel
theorem pp_t3 : ∀ a, a < 171 → ∀ r, r < 4 → (a / 4 + 64 * r) &&& 51 = a / 4 &&& 51 := by decide +kernel
theorem pp_t4 : ∀ b, b < 256 → pp_B b ≤ 68 ∧ pp_B b % 16 ≤ 4 ∧ pp_C b ≤ 8 := by decide +kernel
theorem pp_t5 : ∀ b, b < 69 → ∀ r, r < 5 → (b + (b / 16 + 16 * r)) &&& 15 = (b + b / 16) % 16 := by decide +kernel
theorem pp_t6 : ∀ b, b < 256 → pp_C b = (((((((b.testBit 0).toNat + (b.testBit 1).toNat) + (b.testBit 2).toNat) + (b.testBit 3).toNat) + (b.testBit 4).toNat) + (b.testBit 5).toNat) + (b.testBit 6).toNat) + (b.testBit 7).toNat := by decide +kernel
theorem pp_a51 (a : Nat) : a &&& 51 ≤ 51 := Nat.and_le_right
section
variable {b0 b1 b2 b3 b4 b5 b6 b7 : Nat}
theorem pp_e1 (h0 : b0 < 256) (h1 : b1 < 256) (h2 : b2 < 256) (h3 : b3 < 256) (h4 : b4 < 256) (h5 : b5 < 256) (h6 : b6 < 256) (h7 : b7 < 256) : pp_jb [b0, b1, b2, b3, b4, b5, b6, b7] / 2 &&& 6148914691236517205 = pp_jb [pp_T b0, pp_T b1, pp_T b2, pp_T b3, pp_T b4, pp_T b5, pp_T b6, pp_T b7] := by
  have e : pp_jb [b0, b1, b2, b3, b4, b5, b6, b7] / 2 = pp_jb [b0 / 2 + 128 * (b1 % 2), b1 / 2 + 128 * (b2 % 2), b2 / 2 + 128 * (b3 % 2), b3 / 2 + 128 * (b4 % 2), b4 / 2 + 128 * (b5 % 2), b5 / 2 + 128 * (b6 % 2), b6 / 2 + 128 * (b7 % 2), b7 / 2 + 128 * 0] := by
    simp only [pp_jb]
    omega
  have m : (6148914691236517205 : Nat) = pp_rep 85 8 := by decide
  rw [e, m, pp_and8 (by omega) (by omega) (by omega) (by omega) (by omega) (by omega) (by omega) (by omega) (by omega), pp_t1 b0 h0 _ (by omega), pp_t1 b1 h1 _ (by omega), pp_t1 b2 h2 _ (by omega), pp_t1 b3 h3 _ (by omega), pp_t1 b4 h4 _ (by omega), pp_t1 b5 h5 _ (by omega), pp_t1 b6 h6 _ (by omega), pp_t1 b7 h7 _ (by omega)]
theorem pp_e2 (h0 : b0 < 256) (h1 : b1 < 256) (h2 : b2 < 256) (h3 : b3 < 256) (h4 : b4 < 256) (h5 : b5 < 256) (h6 : b6 < 256) (h7 : b7 < 256) : pp_jb [pp_T b0, pp_T b1, pp_T b2, pp_T b3, pp_T b4, pp_T b5, pp_T b6, pp_T b7] ≤ pp_jb [b0, b1, b2, b3, b4, b5, b6, b7] ∧ pp_jb [b0, b1, b2, b3, b4, b5, b6, b7] - pp_jb [pp_T b0, pp_T b1, pp_T b2, pp_T b3, pp_T b4, pp_T b5, pp_T b6, pp_T b7] = pp_jb [pp_A b0, pp_A b1, pp_A b2, pp_A b3, pp_A b4, pp_A b5, pp_A b6, pp_A b7] := by
  have t0 := (pp_t2 b0 h0).1
  have t1 := (pp_t2 b1 h1).1
  have t2 := (pp_t2 b2 h2).1
  have t3 := (pp_t2 b3 h3).1
  have t4 := (pp_t2 b4 h4).1
  have t5 := (pp_t2 b5 h5).1
  have t6 := (pp_t2 b6 h6).1
  have t7 := (pp_t2 b7 h7).1
  simp only [pp_jb, pp_A]
  omega
theorem pp_e3 (h0 : b0 < 256) (h1 : b1 < 256) (h2 : b2 < 256) (h3 : b3 < 256) (h4 : b4 < 256) (h5 : b5 < 256) (h6 : b6 < 256) (h7 : b7 < 256) : (pp_jb [pp_A b0, pp_A b1, pp_A b2, pp_A b3, pp_A b4, pp_A b5, pp_A b6, pp_A b7] &&& 3689348814741910323) + (pp_jb [pp_A b0, pp_A b1, pp_A b2, pp_A b3, pp_A b4, pp_A b5, pp_A b6, pp_A b7] / 4 &&& 3689348814741910323) = pp_jb [pp_B b0, pp_B b1, pp_B b2, pp_B b3, pp_B b4, pp_B b5, pp_B b6, pp_B b7] := by
  have t0 := (pp_t2 b0 h0).2
  have t1 := (pp_t2 b1 h1).2
  have t2 := (pp_t2 b2 h2).2
  have t3 := (pp_t2 b3 h3).2
  have t4 := (pp_t2 b4 h4).2
  have t5 := (pp_t2 b5 h5).2
  have t6 := (pp_t2 b6 h6).2
  have t7 := (pp_t2 b7 h7).2
  have m : (3689348814741910323 : Nat) = pp_rep 51 8 := by decide
  simp only [pp_B]
  generalize pp_A b0 = a0 at *
  generalize pp_A b1 = a1 at *
  generalize pp_A b2 = a2 at *
  generalize pp_A b3 = a3 at *
  generalize pp_A b4 = a4 at *
  generalize pp_A b5 = a5 at *
  generalize pp_A b6 = a6 at *
  generalize pp_A b7 = a7 at *
  have e : pp_jb [a0, a1, a2, a3, a4, a5, a6, a7] / 4 = pp_jb [a0 / 4 + 64 * (a1 % 4), a1 / 4 + 64 * (a2 % 4), a2 / 4 + 64 * (a3 % 4), a3 / 4 + 64 * (a4 % 4), a4 / 4 + 64 * (a5 % 4), a5 / 4 + 64 * (a6 % 4), a6 / 4 + 64 * (a7 % 4), a7 / 4 + 64 * 0] := by
    simp only [pp_jb]
    omega
  rw [e, m, pp_and8 (by omega) (by omega) (by omega) (by omega) (by omega) (by omega) (by omega) (by omega) (by omega), pp_and8 (by omega) (by omega) (by omega) (by omega) (by omega) (by omega) (by omega) (by omega) (by omega), pp_t3 a0 (by omega) _ (by omega), pp_t3 a1 (by omega) _ (by omega), pp_t3 a2 (by omega) _ (by omega), pp_t3 a3 (by omega) _ (by omega), pp_t3 a4 (by omega) _ (by omega), pp_t3 a5 (by omega) _ (by omega), pp_t3 a6 (by omega) _ (by omega), pp_t3 a7 (by omega) _ (by omega)]
  simp only [pp_jb]
  omega
theorem pp_e4 (h0 : b0 < 256) (h1 : b1 < 256) (h2 : b2 < 256) (h3 : b3 < 256) (h4 : b4 < 256) (h5 : b5 < 256) (h6 : b6 < 256) (h7 : b7 < 256) : (pp_jb [pp_B b0, pp_B b1, pp_B b2, pp_B b3, pp_B b4, pp_B b5, pp_B b6, pp_B b7] + pp_jb [pp_B b0, pp_B b1, pp_B b2, pp_B b3, pp_B b4, pp_B b5, pp_B b6, pp_B b7] / 16) &&& 1085102592571150095 = pp_jb [pp_C b0, pp_C b1, pp_C b2, pp_C b3, pp_C b4, pp_C b5, pp_C b6, pp_C b7] ∧ pp_jb [pp_B b0, pp_B b1, pp_B b2, pp_B b3, pp_B b4, pp_B b5, pp_B b6, pp_B b7] + pp_jb [pp_B b0, pp_B b1, pp_B b2, pp_B b3, pp_B b4, pp_B b5, pp_B b6, pp_B b7] / 16 < 18446744073709551616 := by
  have t0 := pp_t4 b0 h0
  have t1 := pp_t4 b1 h1
  have t2 := pp_t4 b2 h2
  have t3 := pp_t4 b3 h3
  have t4 := pp_t4 b4 h4
  have t5 := pp_t4 b5 h5
  have t6 := pp_t4 b6 h6
  have t7 := pp_t4 b7 h7
  have m : (1085102592571150095 : Nat) = pp_rep 15 8 := by decide
  simp only [pp_C]
  generalize pp_B b0 = a0 at *
  generalize pp_B b1 = a1 at *
  generalize pp_B b2 = a2 at *
  generalize pp_B b3 = a3 at *
  generalize pp_B b4 = a4 at *
  generalize pp_B b5 = a5 at *
  generalize pp_B b6 = a6 at *
  generalize pp_B b7 = a7 at *
  have e : pp_jb [a0, a1, a2, a3, a4, a5, a6, a7] + pp_jb [a0, a1, a2, a3, a4, a5, a6, a7] / 16 = pp_jb [a0 + (a0 / 16 + 16 * (a1 % 16)), a1 + (a1 / 16 + 16 * (a2 % 16)), a2 + (a2 / 16 + 16 * (a3 % 16)), a3 + (a3 / 16 + 16 * (a4 % 16)), a4 + (a4 / 16 + 16 * (a5 % 16)), a5 + (a5 / 16 + 16 * (a6 % 16)), a6 + (a6 / 16 + 16 * (a7 % 16)), a7 + (a7 / 16 + 16 * 0)] := by
    simp only [pp_jb]
    omega
  refine ⟨?_, by simp only [pp_jb]; omega⟩
  rw [e, m, pp_and8 (by omega) (by omega) (by omega) (by omega) (by omega) (by omega) (by omega) (by omega) (by omega), pp_t5 a0 (by omega) _ (by omega), pp_t5 a1 (by omega) _ (by omega), pp_t5 a2 (by omega) _ (by omega), pp_t5 a3 (by omega) _ (by omega), pp_t5 a4 (by omega) _ (by omega), pp_t5 a5 (by omega) _ (by omega), pp_t5 a6 (by omega) _ (by omega), pp_t5 a7 (by omega) _ (by omega)]
theorem pp_e5 {c0 c1 c2 c3 c4 c5 c6 c7 : Nat} (h0 : c0 ≤ 8) (h1 : c1 ≤ 8) (h2 : c2 ≤ 8) (h3 : c3 ≤ 8) (h4 : c4 ≤ 8) (h5 : c5 ≤ 8) (h6 : c6 ≤ 8) (h7 : c7 ≤ 8) : pp_jb [c0, c1, c2, c3, c4, c5, c6, c7] * 72340172838076673 % 18446744073709551616 / 72057594037927936 = ((((((c0 + c1) + c2) + c3) + c4) + c5) + c6) + c7 := by
  have e : pp_jb [c0, c1, c2, c3, c4, c5, c6, c7] * 72340172838076673 = pp_jb [c0, c0 + c1, c0 + c1 + c2, c0 + c1 + c2 + c3, c0 + c1 + c2 + c3 + c4, c0 + c1 + c2 + c3 + c4 + c5, c0 + c1 + c2 + c3 + c4 + c5 + c6] + 72057594037927936 * (((((((c0 + c1) + c2) + c3) + c4) + c5) + c6) + c7) + 18446744073709551616 * pp_jb [c1 + c2 + c3 + c4 + c5 + c6 + c7, c2 + c3 + c4 + c5 + c6 + c7, c3 + c4 + c5 + c6 + c7, c4 + c5 + c6 + c7, c5 + c6 + c7, c6 + c7, c7] := by
    simp only [pp_jb]
    omega
  have l : pp_jb [c0, c0 + c1, c0 + c1 + c2, c0 + c1 + c2 + c3, c0 + c1 + c2 + c3 + c4, c0 + c1 + c2 + c3 + c4 + c5, c0 + c1 + c2 + c3 + c4 + c5 + c6] < 72057594037927936 := by
    simp only [pp_jb]
    omega
  have w : ((((((c0 + c1) + c2) + c3) + c4) + c5) + c6) + c7 ≤ 64 := by omega
  rw [e]
  generalize pp_jb [c0, c0 + c1, c0 + c1 + c2, c0 + c1 + c2 + c3, c0 + c1 + c2 + c3 + c4, c0 + c1 + c2 + c3 + c4 + c5, c0 + c1 + c2 + c3 + c4 + c5 + c6] = x at *
  generalize pp_jb [c1 + c2 + c3 + c4 + c5 + c6 + c7, c2 + c3 + c4 + c5 + c6 + c7, c3 + c4 + c5 + c6 + c7, c4 + c5 + c6 + c7, c5 + c6 + c7, c6 + c7, c7] = y at *
  generalize ((((((c0 + c1) + c2) + c3) + c4) + c5) + c6) + c7 = z at *
  clear e
  rw [Nat.add_mul_mod_self_left, Nat.mod_eq_of_lt (by omega), Nat.add_mul_div_left _ _ (by decide), Nat.div_eq_of_lt l, Nat.zero_add]
end
theorem pp_dig (n : Nat) (h : n < 18446744073709551616) : ∃ b0 b1 b2 b3 b4 b5 b6 b7 : Nat, ((b0 < 256 ∧ b1 < 256 ∧ b2 < 256 ∧ b3 < 256) ∧ b4 < 256 ∧ b5 < 256 ∧ b6 < 256 ∧ b7 < 256) ∧ n = pp_jb [b0, b1, b2, b3, b4, b5, b6, b7] := by
  refine ⟨n % 256, n / 256 % 256, n / 256 / 256 % 256, n / 256 / 256 / 256 % 256, n / 256 / 256 / 256 / 256 % 256, n / 256 / 256 / 256 / 256 / 256 % 256, n / 256 / 256 / 256 / 256 / 256 / 256 % 256, n / 256 / 256 / 256 / 256 / 256 / 256 / 256 % 256, by omega, ?_⟩
  simp only [pp_jb]
  omega
theorem pp_i (x : Bool) : cc_i (x = true) = x.toNat := by
  cases x with
  | true => exact cc_i_t rfl
  | false => exact cc_i_f (fun z => Bool.noConfusion z)
theorem pp_app (p : Nat → Prop) (a b : Nat) : cc_n p (a + b) = cc_n p a + cc_n (fun i => p (a + i)) b := by
  induction b with
  | zero => rfl
  | succ b ih => rw [← Nat.add_assoc, cc_n_s, cc_n_s, ih, Nat.add_assoc]
theorem pp_byte {b : Nat} (hb : b < 256) (l : List Nat) : ∀ k, cc_n (fun i => (pp_jb (b :: l)).testBit i = true) (8 + k) = pp_C b + cc_n (fun i => (pp_jb l).testBit i = true) k := by
  intro k
  have t : ∀ i, (pp_jb (b :: l)).testBit i = if i < 8 then b.testBit i else (pp_jb l).testBit (i - 8) := by
    intro i
    show (b + 256 * pp_jb l).testBit i = _
    rw [show b + 256 * pp_jb l = 2 ^ 8 * pp_jb l + b by omega, Nat.testBit_two_pow_mul_add _ (by omega)]
  rw [pp_app]
  congr 1
  · rw [pp_t6 b hb]
    have e : ∀ i, i < 8 → cc_i ((pp_jb (b :: l)).testBit i = true) = (b.testBit i).toNat := fun i hi => by rw [pp_i, t, if_pos hi]
    show ((((((((0 + cc_i _) + cc_i _) + cc_i _) + cc_i _) + cc_i _) + cc_i _) + cc_i _) + cc_i _) = _
    rw [e 0 (by omega), e 1 (by omega), e 2 (by omega), e 3 (by omega), e 4 (by omega), e 5 (by omega), e 6 (by omega), e 7 (by omega), Nat.zero_add]
  · refine cc_congr (fun i _ => ?_)
    rw [t, if_neg (by omega), show 8 + i - 8 = i by omega]
/-- how many bits are set -/
noncomputable def xb_n (x : Int64) : Nat := cc_n (fun i => xb x i = true) 64
theorem xb_n_le (x : Int64) : xb_n x ≤ 64 := cc_max _ _
theorem pp_cnt {b0 b1 b2 b3 b4 b5 b6 b7 : Nat} (h0 : b0 < 256) (h1 : b1 < 256) (h2 : b2 < 256) (h3 : b3 < 256) (h4 : b4 < 256) (h5 : b5 < 256) (h6 : b6 < 256) (h7 : b7 < 256) : cc_n (fun i => (pp_jb [b0, b1, b2, b3, b4, b5, b6, b7]).testBit i = true) 64 = ((((((pp_C b0 + pp_C b1) + pp_C b2) + pp_C b3) + pp_C b4) + pp_C b5) + pp_C b6) + pp_C b7 := by
  rw [show (64 : Nat) = 8 + (8 + (8 + (8 + (8 + (8 + (8 + (8 + 0))))))) from rfl, pp_byte h0, pp_byte h1, pp_byte h2, pp_byte h3, pp_byte h4, pp_byte h5, pp_byte h6, pp_byte h7, cc_n_0]
  omega
theorem pp_uN_lN {n : Nat} (h : n < 18446744073709551616) : uN (lN n) = n := Nat.mod_eq_of_lt h
theorem zX_ones (post : Int32 → Prop) (u : SX) (f : Int64) (h : post (nI (xb_n f))) : wpX_ones post u f := by
  obtain ⟨f_on, a_far⟩ := u
  intro x3 e3 x5 e5 x7 e7
  obtain ⟨b0, b1, b2, b3, b4, b5, b6, b7, ⟨⟨h0, h1, h2, h3⟩, h4, h5, h6, h7⟩, hn⟩ := pp_dig (uN f) (uN_lt f)
  have k1 : uN (6148914691236517205 : Int64) = 6148914691236517205 := by decide
  have k2 : uN (3689348814741910323 : Int64) = 3689348814741910323 := by decide
  have k3 : uN (1085102592571150095 : Int64) = 1085102592571150095 := by decide
  have k4 : uN (72340172838076673 : Int64) = 72340172838076673 := by decide
  have u3 : uN x3 = pp_jb [pp_A b0, pp_A b1, pp_A b2, pp_A b3, pp_A b4, pp_A b5, pp_A b6, pp_A b7] := by
    have q := pp_e2 h0 h1 h2 h3 h4 h5 h6 h7
    have w : uN ((f.toUInt64 >>> ((1 : Int32).toInt64.toUInt64 &&& Int64.toUInt64 63)).toInt64 &&& 6148914691236517205) = pp_jb [pp_T b0, pp_T b1, pp_T b2, pp_T b3, pp_T b4, pp_T b5, pp_T b6, pp_T b7] := by
      rw [pp_uand, pp_s1, k1, hn, pp_e1 h0 h1 h2 h3 h4 h5 h6 h7]
    rw [e3, pp_usub (by rw [w, hn]; exact q.1), w, hn, q.2]
  have u5 : uN x5 = pp_jb [pp_B b0, pp_B b1, pp_B b2, pp_B b3, pp_B b4, pp_B b5, pp_B b6, pp_B b7] := by
    have q := (pp_e4 h0 h1 h2 h3 h4 h5 h6 h7).2
    rw [e5, uN_add, pp_uand, pp_uand, pp_s2, k2, u3, pp_e3 h0 h1 h2 h3 h4 h5 h6 h7]
    exact Nat.mod_eq_of_lt (by omega)
  have u7 : uN x7 = pp_jb [pp_C b0, pp_C b1, pp_C b2, pp_C b3, pp_C b4, pp_C b5, pp_C b6, pp_C b7] := by
    have q := pp_e4 h0 h1 h2 h3 h4 h5 h6 h7
    rw [e7, pp_uand, uN_add, pp_s4, k3, u5, Nat.mod_eq_of_lt q.2, q.1]
  have c : xb_n f = ((((((pp_C b0 + pp_C b1) + pp_C b2) + pp_C b3) + pp_C b4) + pp_C b5) + pp_C b6) + pp_C b7 := by
    rw [← pp_cnt h0 h1 h2 h3 h4 h5 h6 h7, ← hn]
    rfl
  have r : (((x7 * 72340172838076673).toUInt64 >>> ((56 : Int32).toInt64.toUInt64 &&& Int64.toUInt64 63)).toInt64) = lN (xb_n f) := by
    apply uN_inj
    rw [pp_uN_lN (by have := xb_n_le f; omega), pp_s56, uN_mul, u7, k4, c]
    exact pp_e5 (pp_t4 b0 h0).2.2 (pp_t4 b1 h1).2.2 (pp_t4 b2 h2).2.2 (pp_t4 b3 h3).2.2 (pp_t4 b4 h4).2.2 (pp_t4 b5 h5).2.2 (pp_t4 b6 h6).2.2 (pp_t4 b7 h7).2.2
  rw [r, lN_i]
  exact h
end
section
/-! words as sets of cells: growing and flooding -/
theorem xb_ext {x y : Int64} (h : ∀ i, i < 64 → xb x i = xb y i) : x = y := Int64.toBitVec_inj.mp (BitVec.eq_of_getLsbD_eq (fun i hi => h i hi))
theorem xb_or (x y : Int64) (i : Nat) : xb (x ||| y) i = (xb x i || xb y i) := by unfold xb; rw [Int64.toBitVec_or, BitVec.getLsbD_or]
theorem xb_and (x y : Int64) (i : Nat) : xb (x &&& y) i = (xb x i && xb y i) := by unfold xb; rw [Int64.toBitVec_and, BitVec.getLsbD_and]
theorem xb_xor (x y : Int64) (i : Nat) : xb (x ^^^ y) i = (xb x i ^^ xb y i) := by unfold xb; rw [Int64.toBitVec_xor, BitVec.getLsbD_xor]
theorem xb_big {x : Int64} {i : Nat} (h : 64 ≤ i) : xb x i = false := BitVec.getLsbD_of_ge _ _ h
theorem xb_lt {x : Int64} {i : Nat} (h : xb x i = true) : i < 64 := by
  rcases Nat.lt_or_ge i 64 with z | z
  · exact z
  · rw [xb_big z] at h; exact Bool.noConfusion h
theorem xb_m1 : ∀ i, i < 64 → xb (-1) i = true := by decide +kernel
theorem xb_not (x : Int64) {i : Nat} (hi : i < 64) : xb (x ^^^ (-1)) i = !xb x i := by rw [xb_xor, xb_m1 i hi, Bool.xor_true]
theorem xb_0 (i : Nat) : xb 0 i = false := BitVec.getLsbD_zero
theorem xb_1 : ∀ i, i < 64 → xb 1 i = decide (i = 0) := by decide +kernel
theorem xb_nl : ∀ i, i < 64 → xb 9187201950435737471 i = decide (i % 8 ≠ 7) := by decide +kernel
theorem xb_nf : ∀ i, i < 64 → xb (-72340172838076674) i = decide (i % 8 ≠ 0) := by decide +kernel
theorem xb_bd : ∀ i, i < 64 → xb (-35604928818740737) i = decide (gd_ed i) := by decide +kernel
theorem xb_nb : ∀ i, i < 64 → xb 35604928818740736 i = decide (¬ gd_ed i) := by decide +kernel
theorem xb_shl {k : Nat} (hk : k < 64) (x : Int64) {i : Nat} (hi : i < 64) : xb (x <<< ((nI k).toInt64 &&& 63)) i = (decide (k ≤ i) && xb x (i - k)) := by
  unfold xb
  rw [wb_c k hk, Int64.toBitVec_shiftLeft, wb_tb, wb_sm k hk, BitVec.shiftLeft_eq', BitVec.toNat_ofNat, Nat.mod_eq_of_lt (by omega), BitVec.getLsbD_shiftLeft]
  rcases Nat.lt_or_ge i k with h | h
  · simp [h, Nat.not_le.mpr h]
  · simp [hi, h, Nat.not_lt.mpr h]
theorem xb_ushr {k : Nat} (hk : k < 64) (x : Int64) (i : Nat) : xb ((x.toUInt64 >>> ((nI k).toInt64.toUInt64 &&& Int64.toUInt64 63)).toInt64) i = xb x (k + i) := by
  rw [xb_uN, uN_sk x hk, ← Nat.shiftRight_eq_div_pow, Nat.testBit_shiftRight]
  rfl
def bo (b : Bool) : Int32 := cond b 1 0
theorem xb_tst {k : Nat} (hk : k < 64) (x : Int64) : ((x.toUInt64 >>> ((nI k).toInt64.toUInt64 &&& Int64.toUInt64 63)).toInt64) &&& 1 = cond (xb x k) 1 0 := by
  apply xb_ext
  intro i hi
  rw [xb_and, xb_ushr hk, xb_1 i hi]
  by_cases e : i = 0
  · subst e
    rw [Nat.add_zero]
    cases xb x k <;> decide
  · rw [decide_eq_false e, Bool.and_false]
    cases xb x k
    · exact (xb_0 i).symm
    · show false = xb 1 i
      rw [xb_1 i hi, decide_eq_false e]
theorem xb_tsI {k : Nat} (hk : k < 64) (x : Int64) : (((x.toUInt64 >>> ((nI k).toInt64.toUInt64 &&& Int64.toUInt64 63)).toInt64) &&& 1).toInt32 = bo (xb x k) := by
  rw [xb_tst hk]
  cases xb x k <;> rfl
theorem xb_ts1 {k : Nat} (hk : k < 64) (x : Int64) : (((x.toUInt64 >>> ((nI k).toInt64.toUInt64 &&& Int64.toUInt64 63)).toInt64) &&& 1 = 1) ↔ xb x k = true := by
  rw [xb_tst hk]
  cases xb x k <;> decide
theorem xb_ts0 {k : Nat} (hk : k < 64) (x : Int64) : (((x.toUInt64 >>> ((nI k).toInt64.toUInt64 &&& Int64.toUInt64 63)).toInt64) &&& 1 = 0) ↔ xb x k = false := by
  rw [xb_tst hk]
  cases xb x k <;> decide
theorem xb_one {k : Nat} (hk : k < 64) {i : Nat} (hi : i < 64) : xb ((1 : Int64) <<< ((nI k).toInt64 &&& 63)) i = decide (i = k) := by
  rw [xb_shl hk 1 hi, xb_1 (i - k) (by omega)]
  by_cases e : i = k
  · subst e; simp
  · rw [decide_eq_false e]
    by_cases h : k ≤ i
    · rw [decide_eq_false (show ¬ i - k = 0 by omega), Bool.and_false]
    · rw [decide_eq_false h, Bool.false_and]
/-! ===== growing ===== -/
def md (m : Bool) : Int32 := cond m 8 4
theorem md_12 (m : Bool) : 12 - md m = md (!m) := by cases m <;> decide
def xg_r (f : Int64) : Int64 := (f &&& 9187201950435737471) <<< ((1 : Int32).toInt64 &&& 63)
def xg_l (f : Int64) : Int64 := ((f &&& (-72340172838076674)).toUInt64 >>> ((1 : Int32).toInt64.toUInt64 &&& Int64.toUInt64 63)).toInt64
def xg_w (f : Int64) : Int64 := (f ||| xg_r f) ||| xg_l f
def xg_t (w t : Int64) : Int64 := (w ||| (t <<< ((8 : Int32).toInt64 &&& 63))) ||| ((t.toUInt64 >>> ((8 : Int32).toInt64.toUInt64 &&& Int64.toUInt64 63)).toInt64)
def xg (m : Bool) (f : Int64) : Int64 := xg_t (xg_w f) (cond m (xg_w f) f)
theorem zX_grown (post : Int64 → Prop) (u : SX) (f : Int64) (m : Bool) (h : post (xg m f)) : wpX_grown post u f (md m) := by
  obtain ⟨f_on, a_far⟩ := u
  cases m with
  | true => exact nm_e (br_t rfl h)
  | false => exact nm_e (br_f (by decide) h)
theorem xg_r_b (f : Int64) {i : Nat} (hi : i < 64) : xb (xg_r f) i = true ↔ 1 ≤ i ∧ xb f (i - 1) = true ∧ (i - 1) % 8 ≠ 7 := by
  have e : xb (xg_r f) i = (decide (1 ≤ i) && xb (f &&& 9187201950435737471) (i - 1)) := xb_shl (k := 1) (by omega) _ hi
  rw [e, xb_and, xb_nl (i - 1) (by omega)]
  simp only [Bool.and_eq_true, decide_eq_true_eq]
theorem xg_l_b (f : Int64) {i : Nat} (hi : i < 64) : xb (xg_l f) i = true ↔ xb f (1 + i) = true ∧ (1 + i) % 8 ≠ 0 := by
  have e : xb (xg_l f) i = xb (f &&& (-72340172838076674)) (1 + i) := xb_ushr (k := 1) (by omega) _ i
  rw [e, xb_and]
  rcases Nat.lt_or_ge (1 + i) 64 with z | z
  · rw [xb_nf (1 + i) z]
    simp only [Bool.and_eq_true, decide_eq_true_eq]
  · rw [xb_big z, Bool.false_and]
    exact ⟨fun h => Bool.noConfusion h, fun h => Bool.noConfusion h.1⟩
theorem xg_w_b (f : Int64) {i : Nat} (hi : i < 64) : xb (xg_w f) i = true ↔ ∃ d, xb f d = true ∧ d / 8 = i / 8 ∧ d % 8 ≤ i % 8 + 1 ∧ i % 8 ≤ d % 8 + 1 := by
  unfold xg_w
  rw [xb_or, xb_or, Bool.or_eq_true, Bool.or_eq_true, xg_r_b f hi, xg_l_b f hi]
  constructor
  · intro h
    rcases h with (h | ⟨h1, h2, h3⟩) | ⟨h1, h2⟩
    · exact ⟨i, h, rfl, by omega, by omega⟩
    · exact ⟨i - 1, h2, by omega, by omega, by omega⟩
    · exact ⟨1 + i, h1, by omega, by omega, by omega⟩
  · rintro ⟨d, h1, h2, h3, h4⟩
    by_cases e : d = i
    · subst e; exact Or.inl (Or.inl h1)
    · by_cases z : d < i
      · refine Or.inl (Or.inr ⟨by omega, ?_, by omega⟩)
        rw [show i - 1 = d by omega]; exact h1
      · refine Or.inr ⟨?_, by omega⟩
        rw [show 1 + i = d by omega]; exact h1
theorem xg_t_b (w t : Int64) {i : Nat} (hi : i < 64) : xb (xg_t w t) i = true ↔ (xb w i = true ∨ (8 ≤ i ∧ xb t (i - 8) = true)) ∨ xb t (8 + i) = true := by
  have e1 : xb (t <<< ((8 : Int32).toInt64 &&& 63)) i = (decide (8 ≤ i) && xb t (i - 8)) := xb_shl (k := 8) (by omega) _ hi
  have e2 : xb ((t.toUInt64 >>> ((8 : Int32).toInt64.toUInt64 &&& Int64.toUInt64 63)).toInt64) i = xb t (8 + i) := xb_ushr (k := 8) (by omega) _ i
  unfold xg_t
  rw [xb_or, xb_or, e1, e2]
  simp only [Bool.or_eq_true, Bool.and_eq_true, decide_eq_true_eq]
theorem xg_b (m : Bool) (f : Int64) {i : Nat} (hi : i < 64) : xb (xg m f) i = true ↔ xb f i = true ∨ ∃ d, xb f d = true ∧ gd_nr m d i := by
  unfold xg
  rw [xg_t_b _ _ hi, xg_w_b f hi]
  cases m with
  | false =>
    show ((_ ∨ (8 ≤ i ∧ xb f (i - 8) = true)) ∨ xb f (8 + i) = true) ↔ _
    constructor
    · rintro ((⟨d, h1, h2⟩ | ⟨h1, h2⟩) | h1)
      · by_cases e : d = i
        · subst e; exact Or.inl h1
        · refine Or.inr ⟨d, h1, gd_nr_f.mpr ?_⟩
          unfold gd_n4; omega
      · refine Or.inr ⟨i - 8, h2, gd_nr_f.mpr ?_⟩
        unfold gd_n4; omega
      · refine Or.inr ⟨8 + i, h1, gd_nr_f.mpr ?_⟩
        unfold gd_n4; omega
    · rintro (h | ⟨d, h1, h2⟩)
      · exact Or.inl (Or.inl ⟨i, h, by omega⟩)
      · have hn := gd_nr_f.mp h2
        unfold gd_n4 at hn
        by_cases e : d / 8 = i / 8
        · exact Or.inl (Or.inl ⟨d, h1, by omega⟩)
        · by_cases z : d < i
          · refine Or.inl (Or.inr ⟨by omega, ?_⟩)
            rw [show i - 8 = d by omega]; exact h1
          · refine Or.inr ?_
            rw [show 8 + i = d by omega]; exact h1
  | true =>
    show ((_ ∨ (8 ≤ i ∧ xb (xg_w f) (i - 8) = true)) ∨ xb (xg_w f) (8 + i) = true) ↔ _
    have nr : ∀ d, xb f d = true → (d = i ∨ gd_n8 d i) → (xb f i = true ∨ ∃ d, xb f d = true ∧ gd_nr true d i) := by
      intro d h1 h2
      rcases h2 with h2 | h2
      · subst h2; exact Or.inl h1
      · exact Or.inr ⟨d, h1, gd_nr_t.mpr h2⟩
    constructor
    · rintro ((⟨d, h1, h2⟩ | ⟨h1, h2⟩) | h1)
      · exact nr d h1 (by unfold gd_n8; omega)
      · obtain ⟨d, h3, h4⟩ := (xg_w_b f (by omega)).mp h2
        exact nr d h3 (by unfold gd_n8; omega)
      · obtain ⟨d, h3, h4⟩ := (xg_w_b f (xb_lt h1)).mp h1
        exact nr d h3 (by unfold gd_n8; omega)
    · intro h
      have k : ∃ d, xb f d = true ∧ d % 8 ≤ i % 8 + 1 ∧ i % 8 ≤ d % 8 + 1 ∧ d / 8 ≤ i / 8 + 1 ∧ i / 8 ≤ d / 8 + 1 := by
        rcases h with h | ⟨d, h1, h2⟩
        · exact ⟨i, h, by omega⟩
        · have hn := gd_nr_t.mp h2
          unfold gd_n8 at hn
          exact ⟨d, h1, by omega⟩
      obtain ⟨d, h1, h2⟩ := k
      have hd := xb_lt h1
      by_cases e : d / 8 = i / 8
      · exact Or.inl (Or.inl ⟨d, h1, by omega⟩)
      · by_cases z : d / 8 < i / 8
        · exact Or.inl (Or.inr ⟨by omega, (xg_w_b f (by omega)).mpr ⟨d, h1, by omega⟩⟩)
        · exact Or.inr ((xg_w_b f (by omega)).mpr ⟨d, h1, by omega⟩)
/-! ===== flooding ===== -/
def xf_it (m : Bool) (A s : Int64) : Nat → Int64
  | 0 => s &&& A
  | n + 1 => xg m (xf_it m A s n) &&& A
def xf (m : Bool) (A s : Int64) : Int64 := xf_it m A s 64
theorem xf_st {m : Bool} {A s : Int64} {k : Nat} (h : xf_it m A s (k + 1) = xf_it m A s k) : ∀ j, xf_it m A s (k + j) = xf_it m A s k := by
  intro j
  induction j with
  | zero => rfl
  | succ j ih =>
    show xg m (xf_it m A s (k + j)) &&& A = _
    rw [ih]
    exact h
theorem zX_flood (post : Int64 → Prop) (A s : Int64) (m : Bool) (f_on : Int64) (a_far : Nat → Int32) (h : post (xf m A s)) : ∀ d k n, k + d = 64 → d < n → ∀ x8 : Int32, (x8 = 0 → xf m A s = xf_it m A s k) → wX_flooded_11 post A (md m) f_on a_far n (xf_it m A s k) x8 (nI k) := by
  intro d
  induction d with
  | zero =>
    intro k n hk hn x8 hx
    obtain ⟨n, rfl⟩ : ∃ j, n = j + 1 := ⟨n - 1, by omega⟩
    have e : k = 64 := by omega
    subst e
    exact br_t (show (64 : Int32) ≤ nI 64 by decide) h
  | succ d ih =>
    intro k n hk hn x8 hx
    obtain ⟨n, rfl⟩ : ∃ j, n = j + 1 := ⟨n - 1, by omega⟩
    refine br_f (nI_ge (b := 64) (by omega) (by decide)) (br_c (fun hz => ?_) (fun _ => ?_))
    · rw [← hx hz]; exact h
    · refine zX_grown _ _ _ _ (nm_e ?_)
      refine br_c (fun hz => nm_r (nI_1 k) ?_) (fun hz => nm_r (nI_1 k) ?_)
      · refine ih (k + 1) n (by omega) (by omega) 0 (fun _ => ?_)
        have hz' : xf_it m A s (k + 1) = xf_it m A s k := hz
        have := xf_st hz' (64 - k)
        rw [show k + (64 - k) = 64 by omega] at this
        rw [hz']
        exact this
      · exact ih (k + 1) n (by omega) (by omega) 1 (fun z => absurd z (by decide))
theorem zX_flooded (post : Int64 → Prop) (u : SX) (s A : Int64) (m : Bool) (h : post (xf m A s)) : wpX_flooded post u s A (md m) := by
  obtain ⟨f_on, a_far⟩ := u
  exact nm_e ⟨65, zX_flood post A s m f_on a_far h 64 0 65 (by omega) (by omega) 1 (fun z => absurd z (by decide))⟩
def xs (x : Int64) (c : Nat) : Prop := xb x c = true
theorem xf_sub (m : Bool) (A s : Int64) : ∀ n c, xb (xf_it m A s n) c = true → xb A c = true := by
  intro n
  cases n with
  | zero => intro c h; rw [show xf_it m A s 0 = s &&& A from rfl, xb_and, Bool.and_eq_true] at h; exact h.2
  | succ n => intro c h; rw [show xf_it m A s (n + 1) = xg m (xf_it m A s n) &&& A from rfl, xb_and, Bool.and_eq_true] at h; exact h.2
theorem xf_mono (m : Bool) (A s : Int64) (n c : Nat) (h : xb (xf_it m A s n) c = true) : xb (xf_it m A s (n + 1)) c = true := by
  rw [show xf_it m A s (n + 1) = xg m (xf_it m A s n) &&& A from rfl, xb_and, Bool.and_eq_true, xg_b m _ (xb_lt h)]
  exact ⟨Or.inl h, xf_sub m A s n c h⟩
theorem xf_cnt (m : Bool) (A s : Int64) : ∀ k, (∃ j, j < k ∧ xf_it m A s (j + 1) = xf_it m A s j) ∨ k ≤ xb_n (xf_it m A s k) := by
  intro k
  induction k with
  | zero => exact Or.inr (Nat.zero_le _)
  | succ k ih =>
    rcases ih with ⟨j, hj, e⟩ | h
    · exact Or.inl ⟨j, by omega, e⟩
    · by_cases e : xf_it m A s (k + 1) = xf_it m A s k
      · exact Or.inl ⟨k, by omega, e⟩
      · right
        have ex : ∃ i, i < 64 ∧ xb (xf_it m A s (k + 1)) i = true ∧ ¬ xb (xf_it m A s k) i = true := by
          apply Classical.byContradiction
          intro hn
          apply e
          apply xb_ext
          intro i hi
          cases h1 : xb (xf_it m A s k) i with
          | true => exact xf_mono m A s k i h1
          | false =>
            cases h2 : xb (xf_it m A s (k + 1)) i with
            | false => rfl
            | true => exact absurd ⟨i, hi, h2, by rw [h1]; exact Bool.noConfusion⟩ hn
        obtain ⟨i, hi, h1, h2⟩ := ex
        have := cc_lt (p := fun i => xb (xf_it m A s k) i = true) (q := fun i => xb (xf_it m A s (k + 1)) i = true) (fun j _ z => xf_mono m A s k j z) hi h1 h2
        unfold xb_n at *
        omega
theorem xf_end (m : Bool) (A s : Int64) : xg m (xf m A s) &&& A = xf m A s := by
  show xf_it m A s 65 = xf_it m A s 64
  rcases xf_cnt m A s 65 with ⟨j, hj, e⟩ | h
  · have h1 := xf_st e (65 - j)
    have h2 := xf_st e (64 - j)
    rw [show j + (65 - j) = 65 by omega] at h1
    rw [show j + (64 - j) = 64 by omega] at h2
    rw [h1, h2]
  · have := xb_n_le (xf_it m A s 65)
    omega
theorem xf_reach (m : Bool) (A s : Int64) : ∀ n c, xb (xf_it m A s n) c = true → ∃ a, (xs s a ∧ xs A a) ∧ cc_cl (gd_w m (xs A)) a c := by
  intro n
  induction n with
  | zero =>
    intro c h
    rw [show xf_it m A s 0 = s &&& A from rfl, xb_and, Bool.and_eq_true] at h
    exact ⟨c, h, cc_rf⟩
  | succ n ih =>
    intro c h
    have hA := xf_sub m A s (n + 1) c h
    have hc := xb_lt h
    rw [show xf_it m A s (n + 1) = xg m (xf_it m A s n) &&& A from rfl, xb_and, Bool.and_eq_true, xg_b m _ hc] at h
    rcases h.1 with h1 | ⟨d, h1, h2⟩
    · exact ih c h1
    · obtain ⟨a, ha, hcl⟩ := ih d h1
      exact ⟨a, ha, cc_st hcl ⟨⟨xb_lt h1, hc⟩, ⟨xf_sub m A s n d h1, hA⟩, h2⟩⟩
theorem xf_spec (m : Bool) (A s : Int64) (c : Nat) : xs (xf m A s) c ↔ ∃ a, (xs s a ∧ xs A a) ∧ cc_cl (gd_w m (xs A)) a c := by
  constructor
  · exact xf_reach m A s 64 c
  · rintro ⟨a, ha, h⟩
    refine h (fun c => xs (xf m A s) c) ?_ ?_
    · have st : ∀ n, xb (xf_it m A s n) a = true := by
        intro n
        induction n with
        | zero => rw [show xf_it m A s 0 = s &&& A from rfl, xb_and, Bool.and_eq_true]; exact ha
        | succ n ih => exact xf_mono m A s n a ih
      exact st 64
    · intro x y hx w
      show xb (xf m A s) y = true
      rw [← xf_end, xb_and, Bool.and_eq_true, xg_b m _ w.1.2]
      exact ⟨Or.inr ⟨x, hx, w.2.2⟩, w.2.1.2⟩
end
section
/-! the lowest bit; taking piece after piece away -/
theorem xl_ne {f : Int64} (h : ¬ f = 0) : ∃ r, xs f r ∧ ∀ j, j < r → ¬ xs f j := by
  have e : ∃ i, xs f i := by
    apply Classical.byContradiction
    intro hn
    apply h
    apply xb_ext
    intro i _
    rw [xb_0]
    cases z : xb f i with
    | false => rfl
    | true => exact absurd ⟨i, z⟩ hn
  obtain ⟨i, hi⟩ := e
  obtain ⟨k, h1, _, h3⟩ := cc_least (xs f) hi
  exact ⟨k, h1, h3⟩
theorem xl_pos {f : Int64} {r : Nat} (hr : xs f r) : 1 ≤ uN f := by
  rcases Nat.eq_zero_or_pos (uN f) with z | z
  · have t : (uN f).testBit r = true := hr
    rw [z, Nat.zero_testBit] at t
    exact Bool.noConfusion t
  · exact z
theorem xl_u1 {f : Int64} {r : Nat} (hr : xs f r) : uN (f - 1) = uN f - 1 := pp_usub (x := f) (y := 1) (xl_pos hr)
theorem xl_pred {f : Int64} {r : Nat} (hr : xs f r) (hl : ∀ j, j < r → ¬ xs f j) (i : Nat) : xb (f - 1) i = (if i < r then true else if i = r then false else xb f i) := by
  have hn : uN f % 2 ^ r = 0 := by
    apply Nat.eq_of_testBit_eq
    intro i
    rw [Nat.testBit_mod_two_pow, Nat.zero_testBit]
    by_cases h : i < r
    · have t : ¬ (uN f).testBit i = true := hl i h
      rw [Bool.not_eq_true] at t
      rw [t, Bool.and_false]
    · rw [decide_eq_false h, Bool.false_and]
  have hq : uN f / 2 ^ r % 2 = 1 := by
    have t : (uN f / 2 ^ r).testBit 0 = true := by
      rw [← Nat.shiftRight_eq_div_pow, Nat.testBit_shiftRight]
      exact hr
    rw [Nat.testBit_zero] at t
    exact of_decide_eq_true t
  have e : uN f = 2 ^ r * (uN f / 2 ^ r) := (Nat.mul_div_cancel' (Nat.dvd_of_mod_eq_zero hn)).symm
  generalize uN f / 2 ^ r = q at hq e
  have p2 : 0 < 2 ^ r := Nat.two_pow_pos r
  have u1 : uN (f - 1) = 2 ^ r * (q - 1) + (2 ^ r - 1) := by
    rw [xl_u1 hr, e]
    obtain ⟨t, rfl⟩ : ∃ t, q = t + 1 := ⟨q - 1, by omega⟩
    rw [Nat.mul_succ, Nat.add_sub_cancel]
    omega
  rw [xb_uN, u1, Nat.testBit_two_pow_mul_add _ (by omega)]
  by_cases h : i < r
  · rw [if_pos h, if_pos h, Nat.testBit_two_pow_sub_one, decide_eq_true h]
  · rw [if_neg h, if_neg h]
    by_cases h2 : i = r
    · subst h2
      rw [if_pos rfl, Nat.sub_self, Nat.testBit_zero]
      exact decide_eq_false (by omega)
    · rw [if_neg h2, xb_uN, e]
      have t := Nat.testBit_two_pow_mul_add (i := r) (b := 0) q p2 i
      rw [Nat.add_zero, if_neg h] at t
      rw [t]
      obtain ⟨k, hk⟩ : ∃ k, i - r = k + 1 := ⟨i - r - 1, by omega⟩
      rw [hk, Nat.testBit_succ, Nat.testBit_succ, show (q - 1) / 2 = q / 2 by omega]
theorem xl_uneg (f : Int64) : uN (-f) = (2 ^ 64 - uN f) % 2 ^ 64 := by
  show (-f).toBitVec.toNat = _
  rw [Int64.toBitVec_neg, BitVec.toNat_neg]
  rfl
theorem xl_neg {f : Int64} {r : Nat} (hr : xs f r) {i : Nat} (hi : i < 64) : xb (-f) i = !xb (f - 1) i := by
  have h1 := xl_pos hr
  have h2 := uN_lt f
  rw [xb_uN, xb_uN, xl_uneg, xl_u1 hr, Nat.mod_eq_of_lt (by omega), show 2 ^ 64 - uN f = 2 ^ 64 - ((uN f - 1) + 1) by omega, Nat.testBit_two_pow_sub_succ (by omega), decide_eq_true hi, Bool.true_and]
theorem xl_iso {f : Int64} {r : Nat} (hr : xs f r) (hl : ∀ j, j < r → ¬ xs f j) (i : Nat) : xs (f &&& (-f)) i ↔ i = r := by
  unfold xs
  by_cases hi : i < 64
  · rw [xb_and, xl_neg hr hi, xl_pred hr hl]
    by_cases h : i < r
    · rw [if_pos h]
      have t : xb f i = false := by
        have := hl i h
        unfold xs at this
        rw [Bool.not_eq_true] at this
        exact this
      rw [t, Bool.false_and]
      exact ⟨fun z => Bool.noConfusion z, fun z => by omega⟩
    · rw [if_neg h]
      by_cases h2 : i = r
      · subst h2
        rw [if_pos rfl]
        have t : xb f i = true := hr
        rw [t]
        exact ⟨fun _ => rfl, fun _ => rfl⟩
      · rw [if_neg h2]
        refine ⟨fun z => ?_, fun z => absurd z h2⟩
        cases t : xb f i <;> rw [t] at z <;> exact Bool.noConfusion z
  · refine ⟨fun z => absurd (xb_lt z) hi, fun z => ?_⟩
    have := xb_lt hr
    omega
theorem xl_low {f : Int64} {r : Nat} (hr : xs f r) (hl : ∀ j, j < r → ¬ xs f j) : xb_n ((f ^^^ (-1)) &&& (f - 1)) = r := by
  have hr64 := xb_lt hr
  have e : xb_n ((f ^^^ (-1)) &&& (f - 1)) = cc_n (fun i => i < r) 64 := by
    refine cc_congr (fun i hi => ?_)
    rw [xb_and, xb_not f hi, xl_pred hr hl]
    by_cases h : i < r
    · rw [if_pos h]
      have t : xb f i = false := by
        have := hl i h
        unfold xs at this
        rw [Bool.not_eq_true] at this
        exact this
      rw [t]
      exact ⟨fun _ => h, fun _ => rfl⟩
    · rw [if_neg h]
      by_cases h2 : i = r
      · subst h2
        rw [if_pos rfl, Bool.and_false]
        exact ⟨fun z => Bool.noConfusion z, fun z => absurd z h⟩
      · rw [if_neg h2]
        refine ⟨fun z => ?_, fun z => absurd z h⟩
        cases t : xb f i <;> rw [t] at z <;> exact Bool.noConfusion z
  rw [e, show (64 : Nat) = r + (64 - r) by omega, pp_app, cc_all (fun i hi => hi), cc_none (fun i _ z => by omega), Nat.add_zero]
theorem zX_lowest (post : Int32 → Prop) (u : SX) {f : Int64} {r : Nat} (hr : xs f r) (hl : ∀ j, j < r → ¬ xs f j) (h : post (nI r)) : wpX_lowest post u f := by
  obtain ⟨f_on, a_far⟩ := u
  unfold wpX_lowest
  dsimp only
  refine zX_ones _ _ _ ?_
  rw [xl_low hr hl]
  exact h
/-! ===== piece after piece ===== -/
def xp_ok (m : Bool) (f R : Int64) : Prop := (∀ c, xs R c → xs f c) ∧ ∀ x y, xs R x → gd_w m (xs f) x y → xs R y
theorem xp_ok0 (m : Bool) (f : Int64) : xp_ok m f f := ⟨fun _ h => h, fun _ _ _ w => w.2.1.2⟩
theorem xp_step {m : Bool} {f R : Int64} (ok : xp_ok m f R) (h0 : ¬ R = 0) : ∃ r, (xs R r ∧ cc_rep (gd_w m (xs f)) (xs f) r) ∧ (∀ c, xs (xf m R (R &&& (-R))) c ↔ cc_cl (gd_w m (xs f)) r c) ∧ (∀ c, xs (R &&& (xf m R (R &&& (-R)) ^^^ (-1))) c ↔ xs R c ∧ ¬ cc_cl (gd_w m (xs f)) r c) ∧ xp_ok m f (R &&& (xf m R (R &&& (-R)) ^^^ (-1))) ∧ xb_n (R &&& (xf m R (R &&& (-R)) ^^^ (-1))) + 1 ≤ xb_n R := by
  obtain ⟨r, hr, hl⟩ := xl_ne h0
  have hr64 : r < 64 := xb_lt hr
  have hcl : ∀ c, cc_cl (gd_w m (xs f)) r c → xs R c := fun c h => h (xs R) hr (fun x y hx w => ok.2 x y hx w)
  have h1 : ∀ c, xs (xf m R (R &&& (-R))) c ↔ cc_cl (gd_w m (xs f)) r c := by
    intro c
    rw [xf_spec]
    constructor
    · rintro ⟨a, ⟨ha, _⟩, h⟩
      rw [(xl_iso hr hl a).mp ha] at h
      exact cc_mo (fun x y w => ⟨w.1, ⟨ok.1 x w.2.1.1, ok.1 y w.2.1.2⟩, w.2.2⟩) h
    · intro h
      refine ⟨r, ⟨(xl_iso hr hl r).mpr rfl, hr⟩, ?_⟩
      have k := h (fun c => xs R c ∧ cc_cl (gd_w m (xs R)) r c) ⟨hr, cc_rf⟩ (fun x y hx w => ⟨ok.2 x y hx.1 w, cc_st hx.2 ⟨w.1, ⟨hx.1, ok.2 x y hx.1 w⟩, w.2.2⟩⟩)
      exact k.2
  have h2 : ∀ c, xs (R &&& (xf m R (R &&& (-R)) ^^^ (-1))) c ↔ xs R c ∧ ¬ cc_cl (gd_w m (xs f)) r c := by
    intro c
    rw [← h1]
    unfold xs
    by_cases hc : c < 64
    · rw [xb_and, xb_not _ hc, Bool.and_eq_true, Bool.not_eq_true', Bool.not_eq_true]
    · rw [xb_big (by omega), xb_big (x := R) (by omega)]
      exact ⟨fun z => Bool.noConfusion z, fun z => Bool.noConfusion z.1⟩
  refine ⟨r, ⟨hr, ok.1 r hr, fun d hd _ h => hl d hd (hcl d (cc_sy (gd_w_sy _ _) h))⟩, h1, h2, ⟨fun c h => ok.1 c ((h2 c).mp h).1, fun x y hx w => ?_⟩, ?_⟩
  · have hx' := (h2 x).mp hx
    exact (h2 y).mpr ⟨ok.2 x y hx'.1 w, fun z => hx'.2 (cc_st z (gd_w_sy _ _ x y w))⟩
  · exact cc_lt (fun j _ z => ((h2 j).mp z).1) hr64 hr (fun z => ((h2 r).mp z).2 cc_rf)
noncomputable def xp_sz (m : Bool) (P : Nat → Prop) (c : Nat) : Nat := cc_n (fun d => cc_cl (gd_w m P) c d) 64
theorem xp_sz_eq {m : Bool} {P : Nat → Prop} {c d : Nat} (h : cc_cl (gd_w m P) c d) : xp_sz m P c = xp_sz m P d := cc_congr (fun _ _ => ⟨fun z => cc_tr (cc_sy (gd_w_sy _ _) h) z, fun z => cc_tr h z⟩)
theorem xp_sz_le (m : Bool) (P : Nat → Prop) (c : Nat) : xp_sz m P c ≤ 64 := cc_max _ _
theorem xp_zero {R : Int64} (h : xb_n R ≤ 0) : R = 0 := by
  apply Classical.byContradiction
  intro hn
  obtain ⟨r, hr, _⟩ := xl_ne hn
  have := cc_pos (p := fun i => xb R i = true) (xb_lt hr) hr
  unfold xb_n at h
  omega
theorem xp_z (c : Nat) : ¬ xs 0 c := fun z => by
  unfold xs at z
  rw [xb_0] at z
  exact Bool.noConfusion z
noncomputable def xp_rc (m : Bool) (f R : Int64) : Nat := cc_n (fun c => cc_rep (gd_w m (xs f)) (xs f) c ∧ xs R c) 64
theorem zX_pieces_l (post : Int32 → Prop) (m : Bool) (f : Int64) (a_far : Nat → Int32) (h : post (nI (gd_pc m (xs f)))) : ∀ d i n R k, i + d = 64 → d < n → xp_ok m f R → xb_n R ≤ d → k + xp_rc m f R = gd_pc m (xs f) → wX_pieces_21 post (md m) f a_far n R (nI k) (nI i) := by
  intro d
  have fin : ∀ R k, R = 0 → k + xp_rc m f R = gd_pc m (xs f) → post (nI k) := by
    intro R k e hk
    have : xp_rc m f R = 0 := cc_none (fun c _ z => xp_z c (e ▸ z.2))
    rw [this] at hk
    rw [show k = gd_pc m (xs f) by omega]
    exact h
  induction d with
  | zero =>
    intro i n R k hi hn ok hb hk
    obtain ⟨n, rfl⟩ : ∃ j, n = j + 1 := ⟨n - 1, by omega⟩
    have e : i = 64 := by omega
    subst e
    exact br_t (show (64 : Int32) ≤ nI 64 by decide) (fin R k (xp_zero hb) hk)
  | succ d ih =>
    intro i n R k hi hn ok hb hk
    obtain ⟨n, rfl⟩ : ∃ j, n = j + 1 := ⟨n - 1, by omega⟩
    refine br_f (nI_ge (b := 64) (by omega) (by decide)) (br_c (fun hz => fin R k hz hk) (fun hz => ?_))
    obtain ⟨r, ⟨hr, rep⟩, h1, h2, ok', hc⟩ := xp_step ok hz
    refine zX_flooded _ _ _ _ _ (nm_e (nm_r (nI_1 k) (nm_r (nI_1 i) ?_)))
    refine ih (i + 1) n _ (k + 1) (by omega) (by omega) ok' (by omega) ?_
    have s : xp_rc m f R = 1 + xp_rc m f (R &&& (xf m R (R &&& (-R)) ^^^ (-1))) := by
      unfold xp_rc
      rw [cc_split (fun c => cc_rep (gd_w m (xs f)) (xs f) c ∧ xs R c) (fun c => cc_cl (gd_w m (xs f)) r c) 64]
      congr 1
      · exact cc_one (i := r) (xb_lt hr) ⟨⟨rep, hr⟩, cc_rf⟩ (fun j _ z => (cc_repUniq (gd_w_sy _ _) rep z.1.1 z.2).symm)
      · exact cc_congr (fun c _ => ⟨fun z => ⟨z.1.1, (h2 c).mpr ⟨z.1.2, z.2⟩⟩, fun z => ⟨⟨z.1, ((h2 c).mp z.2).1⟩, ((h2 c).mp z.2).2⟩⟩)
    omega
theorem zX_badM (post : Int32 → Prop) (u : SX) (m : Bool) (h : post 0) : wpX_badMode post u (md m) := by
  obtain ⟨f_on, a_far⟩ := u
  cases m with
  | true => exact br_f (by decide) (br_t rfl h)
  | false => exact br_t rfl h
theorem zX_badM' (post : Int32 → Prop) (u : SX) {v : Int32} (hv : ¬ v = 4 ∧ ¬ v = 8) (h : post 1) : wpX_badMode post u v := by
  obtain ⟨f_on, a_far⟩ := u
  exact br_f hv.1 (br_f hv.2 h)
theorem md_cases (v : Int32) : (∃ m, v = md m) ∨ (¬ v = 4 ∧ ¬ v = 8) := by
  by_cases h : v = 4
  · exact Or.inl ⟨false, h⟩
  · by_cases h8 : v = 8
    · exact Or.inl ⟨true, h8⟩
    · exact Or.inr ⟨h, h8⟩
theorem zX_pieces (post : Int32 → Prop) (f : Int64) (a_far : Nat → Int32) (m : Bool) (h : post (nI (gd_pc m (xs f)))) : wpX_pieces post (f, a_far) (md m) := by
  unfold wpX_pieces
  dsimp only
  refine zX_badM _ _ _ (br_t rfl ⟨65, ?_⟩)
  refine zX_pieces_l post m f a_far h 64 0 65 f 0 (by omega) (by omega) (xp_ok0 m f) (xb_n_le f) ?_
  rw [Nat.zero_add]
  exact cc_congr (fun c _ => ⟨fun z => z.1, fun z => ⟨z, z.1⟩⟩)
/-- the largest piece's size, said of a number -/
def xp_mx (m : Bool) (P : Nat → Prop) (b : Nat) : Prop := (∀ c, c < 64 → P c → xp_sz m P c ≤ b) ∧ (b = 0 ∨ ∃ c, c < 64 ∧ P c ∧ xp_sz m P c = b)
theorem xp_mx_u {m : Bool} {P : Nat → Prop} {a b : Nat} (ha : xp_mx m P a) (hb : xp_mx m P b) : a = b := by
  apply Nat.le_antisymm
  · rcases ha.2 with z | ⟨c, h1, h2, h3⟩
    · omega
    · rw [← h3]; exact hb.1 c h1 h2
  · rcases hb.2 with z | ⟨c, h1, h2, h3⟩
    · omega
    · rw [← h3]; exact ha.1 c h1 h2
theorem xp_one {m : Bool} {f R : Int64} {r : Nat} (h1 : ∀ c, xs (xf m R (R &&& (-R))) c ↔ cc_cl (gd_w m (xs f)) r c) : xb_n (xf m R (R &&& (-R))) = xp_sz m (xs f) r := cc_congr (fun c _ => h1 c)
theorem zX_largest_l (post : Int32 → Prop) (m : Bool) (f : Int64) (a_far : Nat → Int32) (h : ∀ b, xp_mx m (xs f) b → post (nI b)) : ∀ d i n R b, i + d = 64 → d < n → xp_ok m f R → xb_n R ≤ d → b ≤ 64 → (∀ c, c < 64 → xs f c → ¬ xs R c → xp_sz m (xs f) c ≤ b) → (b = 0 ∨ ∃ c, c < 64 ∧ xs f c ∧ xp_sz m (xs f) c = b) → wX_largest_21 post (md m) f a_far n R (nI b) (nI i) := by
  intro d
  have fin : ∀ R b, R = 0 → (∀ c, c < 64 → xs f c → ¬ xs R c → xp_sz m (xs f) c ≤ b) → (b = 0 ∨ ∃ c, c < 64 ∧ xs f c ∧ xp_sz m (xs f) c = b) → post (nI b) := fun R b e hk hb => h b ⟨fun c hc hP => hk c hc hP (e ▸ xp_z c), hb⟩
  induction d with
  | zero =>
    intro i n R b hi hn ok hb hb64 hk hm
    obtain ⟨n, rfl⟩ : ∃ j, n = j + 1 := ⟨n - 1, by omega⟩
    have e : i = 64 := by omega
    subst e
    exact br_t (show (64 : Int32) ≤ nI 64 by decide) (fin R b (xp_zero hb) hk hm)
  | succ d ih =>
    intro i n R b hi hn ok hb hb64 hk hm
    obtain ⟨n, rfl⟩ : ∃ j, n = j + 1 := ⟨n - 1, by omega⟩
    refine br_f (nI_ge (b := 64) (by omega) (by decide)) (br_c (fun hz => fin R b hz hk hm) (fun hz => ?_))
    obtain ⟨r, ⟨hr, rep⟩, h1, h2, ok', hc⟩ := xp_step ok hz
    have hsz := xp_sz_le m (xs f) r
    refine zX_flooded _ _ _ _ _ (nm_e ?_)
    refine zX_ones _ _ _ ?_
    rw [xp_one h1]
    refine pk_le (xp_sz m (xs f) r) b (fun hle => nm_r (nI_1 i) ?_) (fun hlt => nm_r (nI_1 i) ?_)
    · refine ih (i + 1) n _ b (by omega) (by omega) ok' (by omega) hb64 (fun c hc hP hn => ?_) hm
      by_cases z : xs R c
      · have hcl : cc_cl (gd_w m (xs f)) r c := Classical.byContradiction (fun q => hn ((h2 c).mpr ⟨z, q⟩))
        rw [← xp_sz_eq hcl]
        exact hle
      · exact hk c hc hP z
    · refine ih (i + 1) n _ (xp_sz m (xs f) r) (by omega) (by omega) ok' (by omega) hsz (fun c hc hP hn => ?_) (Or.inr ⟨r, xb_lt hr, ok.1 r hr, rfl⟩)
      by_cases z : xs R c
      · have hcl : cc_cl (gd_w m (xs f)) r c := Classical.byContradiction (fun q => hn ((h2 c).mpr ⟨z, q⟩))
        rw [← xp_sz_eq hcl]
        exact Nat.le_refl _
      · have := hk c hc hP z
        omega
theorem zX_largest (post : Int32 → Prop) (f : Int64) (a_far : Nat → Int32) (m : Bool) (h : ∀ b, xp_mx m (xs f) b → post (nI b)) : wpX_largest post (f, a_far) (md m) := by
  unfold wpX_largest
  dsimp only
  refine zX_badM _ _ _ (br_t rfl ⟨65, ?_⟩)
  exact zX_largest_l post m f a_far h 64 0 65 f 0 (by omega) (by omega) (xp_ok0 m f) (xb_n_le f) (by omega) (fun c _ hP hn => absurd hP hn) (Or.inl rfl)
theorem zX_change (post : Int32 → SX → Prop) (f : Int64) (a_far : Nat → Int32) (g : Int64) (h : post (nI (xb_n (f ^^^ g))) (g, a_far)) : wpX_change post (f, a_far) g := by
  unfold wpX_change
  dsimp only
  exact zX_ones _ _ _ h
theorem zX_clear_l (post : Int32 → SX → Prop) (m : Bool) (t : Nat) (ht : t ≤ 64) (f : Int64) (a_far : Nat → Int32) (h : ∀ g, (∀ c, xs g c ↔ xs f c ∧ t ≤ xp_sz m (xs f) c) → post (nI (xb_n (f ^^^ g))) (g, a_far)) : ∀ d i n R g, i + d = 64 → d < n → xp_ok m f R → xb_n R ≤ d → (∀ c, xs g c ↔ (xs f c ∧ ¬ xs R c) ∧ t ≤ xp_sz m (xs f) c) → wX_clear_31 post (md m) (nI t) f a_far n R g (nI i) := by
  intro d
  have fin : ∀ R g, R = 0 → (∀ c, xs g c ↔ (xs f c ∧ ¬ xs R c) ∧ t ≤ xp_sz m (xs f) c) → wX_clear_93 post g f a_far := by
    intro R g e hg
    exact zX_change _ _ _ _ (h g (fun c => (hg c).trans ⟨fun z => ⟨z.1.1, z.2⟩, fun z => ⟨⟨z.1, e ▸ xp_z c⟩, z.2⟩⟩))
  induction d with
  | zero =>
    intro i n R g hi hn ok hb hg
    obtain ⟨n, rfl⟩ : ∃ j, n = j + 1 := ⟨n - 1, by omega⟩
    have e : i = 64 := by omega
    subst e
    exact br_t (show (64 : Int32) ≤ nI 64 by decide) (fin R g (xp_zero hb) hg)
  | succ d ih =>
    intro i n R g hi hn ok hb hg
    obtain ⟨n, rfl⟩ : ∃ j, n = j + 1 := ⟨n - 1, by omega⟩
    refine br_f (nI_ge (b := 64) (by omega) (by decide)) (br_c (fun hz => fin R g hz hg) (fun hz => ?_))
    obtain ⟨r, ⟨hr, rep⟩, h1, h2, ok', hc⟩ := xp_step ok hz
    have hsz := xp_sz_le m (xs f) r
    refine zX_flooded _ _ _ _ _ (nm_e ?_)
    refine zX_ones _ _ _ ?_
    rw [xp_one h1]
    refine pk_lt (xp_sz m (xs f) r) t (fun hlt => nm_r (nI_1 i) ?_) (fun hle => nm_e (nm_r (nI_1 i) ?_))
    · refine ih (i + 1) n _ g (by omega) (by omega) ok' (by omega) (fun c => ?_)
      rw [hg, h2]
      constructor
      · intro z
        exact ⟨⟨z.1.1, fun y => z.1.2 y.1⟩, z.2⟩
      · intro z
        refine ⟨⟨z.1.1, fun y => ?_⟩, z.2⟩
        have hcl : cc_cl (gd_w m (xs f)) r c := Classical.byContradiction (fun q => z.1.2 ⟨y, q⟩)
        have := xp_sz_eq hcl
        omega
    · refine ih (i + 1) n _ (g ||| xf m R (R &&& (-R))) (by omega) (by omega) ok' (by omega) (fun c => ?_)
      have e : xs (g ||| xf m R (R &&& (-R))) c ↔ xs g c ∨ xs (xf m R (R &&& (-R))) c := by
        unfold xs
        rw [xb_or, Bool.or_eq_true]
      rw [e, hg, h1, h2]
      constructor
      · rintro (z | z)
        · exact ⟨⟨z.1.1, fun y => z.1.2 y.1⟩, z.2⟩
        · refine ⟨⟨(gd_w_in (xb_lt hr) (ok.1 r hr) z).2, fun y => y.2 z⟩, ?_⟩
          rw [← xp_sz_eq z]
          exact hle
      · intro z
        by_cases y : xs R c
        · exact Or.inr (Classical.byContradiction (fun q => z.1.2 ⟨y, q⟩))
        · exact Or.inl ⟨⟨z.1.1, y⟩, z.2⟩
end
section
/-! the walk from cell to cell -/
def wk_sq (a b : Nat) : Nat := ((a - b) + (b - a)) * ((a - b) + (b - a))
theorem wk_s1 : ∀ a, a < 8 → ∀ b, b < 8 → (nI a - nI b) * (nI a - nI b) = nI (wk_sq a b) := by decide +kernel
theorem wk_s2 : ∀ a, a < 8 → ∀ b, b < 8 → ((a = b ∧ wk_sq a b = 0) ∨ ((a = b + 1 ∨ b = a + 1) ∧ wk_sq a b = 1) ∨ (4 ≤ wk_sq a b ∧ (a + 2 ≤ b ∨ b + 2 ≤ a))) := by decide +kernel
theorem wk_s3 : ∀ a, a < 8 → ∀ b, b < 8 → wk_sq a b < 64 := by decide +kernel
theorem wk_q1 (a : Nat) (ha : a < 8) (b : Nat) (hb : b < 8) (e : Nat) (he : e < 8) (g : Nat) (hg : g < 8) : ((nI a - nI b) * (nI a - nI b) + (nI e - nI g) * (nI e - nI g) = 1 ↔ ((a = b ∧ (e = g + 1 ∨ g = e + 1)) ∨ (e = g ∧ (a = b + 1 ∨ b = a + 1)))) := by
  have x1 := wk_s2 a ha b hb
  have x2 := wk_s2 e he g hg
  have y1 := wk_s3 a ha b hb
  have y2 := wk_s3 e he g hg
  rw [wk_s1 a ha b hb, wk_s1 e he g hg, nI_add]
  show nI _ = nI 1 ↔ _
  rw [nI_eq (by omega) (by omega)]
  omega
theorem wk_q2 (a : Nat) (ha : a < 8) (b : Nat) (hb : b < 8) (e : Nat) (he : e < 8) (g : Nat) (hg : g < 8) : ((nI a - nI b) * (nI a - nI b) + (nI e - nI g) * (nI e - nI g) = 2 ↔ ((e = g + 1 ∨ g = e + 1) ∧ (a = b + 1 ∨ b = a + 1))) := by
  have x1 := wk_s2 a ha b hb
  have x2 := wk_s2 e he g hg
  have y1 := wk_s3 a ha b hb
  have y2 := wk_s3 e he g hg
  rw [wk_s1 a ha b hb, wk_s1 e he g hg, nI_add]
  show nI _ = nI 2 ↔ _
  rw [nI_eq (by omega) (by omega)]
  omega
theorem wk_r8 {c : Nat} (h : c < 64) : nI c - nI c / 8 * 8 = nI (c % 8) := pk_rem (d := 8) (by omega) (by omega) (by omega)
theorem wk_d8 {c : Nat} (h : c < 64) : nI c / 8 = nI (c / 8) := pk_div (d := 8) (by omega) (by omega) (by omega)
theorem zY_near (post : Int32 → Prop) (u : SY) {c d : Nat} (m : Bool) (hc : c < 64) (hd : d < 64) (h1 : gd_nr m c d → post 1) (h0 : ¬ gd_nr m c d → post 0) : wpY_isNear post u (nI c) (nI d) (md m) := by
  obtain ⟨f_count, a_on, a_steps, a_met, a_next⟩ := u
  have k8 : ¬ (8 : Int32) = 0 := by decide
  refine ⟨k8, k8, nm_r (e' := nI (c % 8) - nI (d % 8)) (by rw [wk_r8 hc, wk_r8 hd]) ⟨k8, k8, nm_r (e' := nI (c / 8) - nI (d / 8)) (by rw [wk_d8 hc, wk_d8 hd]) (nm_e ?_)⟩⟩
  rw [wk_q1 (c % 8) (by omega) (d % 8) (by omega) (c / 8) (by omega) (d / 8) (by omega), wk_q2 (c % 8) (by omega) (d % 8) (by omega) (c / 8) (by omega) (d / 8) (by omega)]
  refine br_c (fun h => ?_) (fun h => ?_)
  · apply h1
    cases m with
    | true => exact gd_nr_t.mpr (by unfold gd_n8; omega)
    | false => exact gd_nr_f.mpr (by unfold gd_n4; omega)
  · cases m with
    | true =>
      refine br_t rfl (br_c (fun g => ?_) (fun g => ?_))
      · exact h1 (gd_nr_t.mpr (by unfold gd_n8; omega))
      · exact h0 (fun z => by have := gd_nr_t.mp z; unfold gd_n8 at this; omega)
    | false =>
      refine br_f (by decide) ?_
      exact h0 (fun z => by have := gd_nr_f.mp z; unfold gd_n4 at this; omega)
/-- the cells within n steps -/
def wk_D (m : Bool) (A : Nat → Prop) (s : Nat) : Nat → Nat → Prop
  | 0 => fun d => d = s
  | n + 1 => fun d => wk_D m A s n d ∨ ∃ x, wk_D m A s n x ∧ gd_w m A x d
theorem wk_D_cl {m : Bool} {A : Nat → Prop} {s : Nat} : ∀ n d, wk_D m A s n d → cc_cl (gd_w m A) s d := by
  intro n
  induction n with
  | zero => intro d h; rw [show d = s from h]; exact cc_rf
  | succ n ih =>
    intro d h
    rcases h with h | ⟨x, h, w⟩
    · exact ih d h
    · exact cc_st (ih x h) w
def wk_I (m : Bool) (A : Nat → Prop) (s k e cnt : Nat) (mt st : Nat → Nat) (aS aM : Nat → Int32) : Prop :=
  (∀ d, d < 64 → aS d = nI (st d) - 1) ∧
  (∀ j, j < cnt → mt j < 64 ∧ aM j = nI (mt j) ∧ 0 < st (mt j)) ∧
  (∀ d, d < 64 → 0 < st d → ∃ j, j < cnt ∧ mt j = d) ∧
  cnt = cc_n (fun d => 0 < st d) 64 ∧
  (∀ d, d < 64 → 0 < st d → wk_D m A s (st d - 1) d) ∧
  (∀ i j, i ≤ j → j < cnt → st (mt i) ≤ st (mt j)) ∧
  (k < cnt → ∀ j, j < cnt → st (mt j) ≤ st (mt k) + 1) ∧
  (∀ j d, j < cnt → d < 64 → (j < k ∨ (j = k ∧ d < e)) → gd_w m A (mt j) d → 0 < st d ∧ st d ≤ st (mt j) + 1) ∧
  (1 ≤ cnt ∧ mt 0 = s ∧ st s = 1) ∧
  (∀ j, j < cnt → st (mt j) ≤ j + 1)
section
variable {m : Bool} {A : Nat → Prop} {s k e cnt : Nat} {mt st : Nat → Nat} {aS aM : Nat → Int32}
theorem wk_le (I : wk_I m A s k e cnt mt st aS aM) : cnt ≤ 64 := by
  obtain ⟨i1, i2, i3, i4, i5, i6, i7, i8, i9, i10⟩ := I
  rw [i4]; exact cc_max _ _
theorem wk_st (I : wk_I m A s k e cnt mt st aS aM) {d : Nat} (hd : d < 64) : st d ≤ 64 := by
  have hl := wk_le I
  obtain ⟨i1, i2, i3, i4, i5, i6, i7, i8, i9, i10⟩ := I
  rcases Nat.eq_zero_or_pos (st d) with z | z
  · omega
  · obtain ⟨j, hj, rfl⟩ := i3 d hd z
    have := i10 j hj
    omega
theorem wk_skip (I : wk_I m A s k e cnt mt st aS aM) (hk : k < cnt) (h : gd_w m A (mt k) e → 0 < st e) : wk_I m A s k (e + 1) cnt mt st aS aM := by
  obtain ⟨i1, i2, i3, i4, i5, i6, i7, i8, i9, i10⟩ := I
  refine ⟨i1, i2, i3, i4, i5, i6, i7, ?_, i9, i10⟩
  intro j d hj hd hp w
  by_cases z : j = k ∧ d = e
  · obtain ⟨rfl, rfl⟩ := z
    have h0 := h w
    refine ⟨h0, ?_⟩
    obtain ⟨i, hi, rfl⟩ := i3 d hd h0
    exact i7 hk i hi
  · exact i8 j d hj hd (by omega) w
theorem wk_add (I : wk_I m A s k e cnt mt st aS aM) (hk : k < cnt) (he : e < 64) (h0 : st e = 0) (w : gd_w m A (mt k) e) : cnt < 64 ∧ wk_I m A s k (e + 1) (cnt + 1) (fun j => if j = cnt then e else mt j) (fun d => if d = e then st (mt k) + 1 else st d) (upd aS e (aS (mt k) + 1)) (upd aM cnt (nI e)) := by
  obtain ⟨i1, i2, i3, i4, i5, i6, i7, i8, i9, i10⟩ := I
  have ne : ∀ j, j < cnt → mt j ≠ e := by
    intro j hj z
    have := (i2 j hj).2.2
    rw [z] at this
    omega
  have c4 : cc_n (fun d => 0 < (if d = e then st (mt k) + 1 else st d)) 64 = cnt + 1 := by
    have t : cc_n (fun d => 0 < (if d = e then st (mt k) + 1 else st d)) 64 = cc_n (fun d => 0 < st d ∨ d = e) 64 := by
      refine cc_congr (fun d _ => ?_)
      by_cases z : d = e
      · rw [if_pos z]; exact ⟨fun _ => Or.inr z, fun _ => by omega⟩
      · rw [if_neg z]; exact ⟨fun y => Or.inl y, fun y => y.elim id (fun q => absurd q z)⟩
    rw [t, cc_add (p := fun d => 0 < st d) he (by omega), ← i4]
  have hl : cnt + 1 ≤ 64 := by rw [← c4]; exact cc_max _ _
  have mo : ∀ j, j < cnt → (if j = cnt then e else mt j) = mt j := fun j hj => if_neg (by omega)
  have so : ∀ j, j < cnt → (if mt j = e then st (mt k) + 1 else st (mt j)) = st (mt j) := fun j hj => if_neg (ne j hj)
  have hk64 := (i2 k hk).1
  have hkp := (i2 k hk).2.2
  refine ⟨by omega, ?_, ?_, ?_, c4.symm, ?_, ?_, ?_, ?_, ?_, ?_⟩
  · intro d hd
    dsimp only
    by_cases z : d = e
    · subst z
      rw [pk_us, if_pos rfl, i1 (mt k) hk64, nI_pred]
      exact Int32.sub_add_cancel _ _
    · rw [pk_un z, if_neg z]; exact i1 d hd
  · intro j hj
    by_cases z : j = cnt
    · subst z
      dsimp only
      rw [if_pos rfl, pk_us, if_pos rfl]
      exact ⟨he, rfl, by omega⟩
    · dsimp only
      rw [if_neg z, pk_un z, so j (by omega)]
      exact i2 j (by omega)
  · intro d hd hp
    by_cases z : d = e
    · exact ⟨cnt, by omega, by dsimp only; rw [if_pos rfl, z]⟩
    · dsimp only at hp
      rw [if_neg z] at hp
      obtain ⟨j, hj, hm⟩ := i3 d hd hp
      exact ⟨j, by omega, by dsimp only; rw [mo j hj, hm]⟩
  · intro d hd hp
    dsimp only at hp ⊢
    by_cases z : d = e
    · rw [if_pos z, z, Nat.add_sub_cancel]
      have q := i5 (mt k) hk64 hkp
      rw [show st (mt k) = (st (mt k) - 1) + 1 by omega]
      exact Or.inr ⟨mt k, q, w⟩
    · rw [if_neg z] at hp ⊢
      exact i5 d hd hp
  · intro i j hij hj
    dsimp only
    by_cases z : j = cnt
    · rw [if_pos z, if_pos rfl]
      by_cases y : i = cnt
      · rw [if_pos y, if_pos rfl]; exact Nat.le_refl _
      · rw [if_neg y, so i (by omega)]
        exact i7 hk i (by omega)
    · rw [if_neg z, mo i (by omega), so j (by omega), so i (by omega)]
      exact i6 i j hij (by omega)
  · intro _ j hj
    dsimp only
    rw [mo k hk, so k hk]
    by_cases z : j = cnt
    · rw [if_pos z, if_pos rfl]; exact Nat.le_refl _
    · rw [if_neg z, so j (by omega)]
      exact i7 hk j (by omega)
  · intro j d hj hd hp w'
    dsimp only at w' ⊢
    have hjc : j < cnt := by omega
    rw [mo j hjc] at w' ⊢
    rw [so j hjc]
    by_cases z : d = e
    · rw [if_pos z]
      by_cases y : j = k
      · subst y; exact ⟨by omega, Nat.le_refl _⟩
      · have := (i8 j d hjc hd (by omega) w').1
        rw [z] at this
        omega
    · rw [if_neg z]
      exact i8 j d hjc hd (by omega) w'
  · refine ⟨by omega, ?_, ?_⟩
    · dsimp only
      rw [if_neg (by omega)]; exact i9.2.1
    · dsimp only
      rw [if_neg (fun z => by rw [z] at i9; omega)]; exact i9.2.2
  · intro j hj
    dsimp only
    by_cases z : j = cnt
    · rw [if_pos z, if_pos rfl]
      have := i10 k hk
      omega
    · rw [if_neg z, so j (by omega)]
      exact i10 j (by omega)
theorem wk_next (I : wk_I m A s k 64 cnt mt st aS aM) (hk : k < cnt) : wk_I m A s (k + 1) 0 cnt mt st aS aM := by
  obtain ⟨i1, i2, i3, i4, i5, i6, i7, i8, i9, i10⟩ := I
  refine ⟨i1, i2, i3, i4, i5, i6, ?_, ?_, i9, i10⟩
  · intro h1 j hj
    have a := i7 hk j hj
    have b := i6 k (k + 1) (by omega) h1
    omega
  · intro j d hj hd hp w
    exact i8 j d hj hd (by omega) w
end
/-- what the walk leaves -/
def wk_F (m : Bool) (A : Nat → Prop) (s cnt : Nat) (mt st : Nat → Nat) (aS aM : Nat → Int32) : Prop :=
  (∀ d, d < 64 → aS d = nI (st d) - 1 ∧ st d ≤ 64) ∧
  (∀ j, j < cnt → mt j < 64 ∧ aM j = nI (mt j) ∧ cc_cl (gd_w m A) s (mt j)) ∧
  (∀ d, cc_cl (gd_w m A) s d → ∃ j, j < cnt ∧ mt j = d) ∧
  (cnt = xp_sz m A s ∧ cnt ≤ 64) ∧
  (∀ d, d < 64 → 0 < st d → wk_D m A s (st d - 1) d) ∧
  (∀ n d, wk_D m A s n d → 0 < st d ∧ st d ≤ n + 1)
theorem wk_fin {m : Bool} {A : Nat → Prop} {s cnt : Nat} {mt st : Nat → Nat} {aS aM : Nat → Int32} (hs : s < 64) (I : wk_I m A s cnt 0 cnt mt st aS aM) : wk_F m A s cnt mt st aS aM := by
  have hl := wk_le I
  have hst := fun d (hd : d < 64) => wk_st I hd
  obtain ⟨i1, i2, i3, i4, i5, i6, i7, i8, i9, i10⟩ := I
  have cl : ∀ d, cc_cl (gd_w m A) s d → d < 64 ∧ 0 < st d := by
    intro d h
    refine h (fun d => d < 64 ∧ 0 < st d) ⟨hs, by omega⟩ ?_
    rintro x y ⟨hx, hp⟩ w
    obtain ⟨j, hj, rfl⟩ := i3 x hx hp
    exact ⟨w.1.2, (i8 j y hj w.1.2 (Or.inl hj) w).1⟩
  refine ⟨fun d hd => ⟨i1 d hd, hst d hd⟩, fun j hj => ⟨(i2 j hj).1, (i2 j hj).2.1, wk_D_cl _ _ (i5 _ (i2 j hj).1 (i2 j hj).2.2)⟩, fun d h => i3 d (cl d h).1 (cl d h).2, ⟨?_, hl⟩, i5, ?_⟩
  · rw [i4]
    exact cc_congr (fun d hd => ⟨fun z => wk_D_cl _ _ (i5 d hd z), fun z => (cl d z).2⟩)
  · intro n
    induction n with
    | zero => intro d h; rw [show d = s from h]; omega
    | succ n ih =>
      intro d h
      rcases h with h | ⟨x, h, w⟩
      · have := ih d h; omega
      · have hx := ih x h
        obtain ⟨j, hj, rfl⟩ := i3 x w.1.1 hx.1
        have := i8 j d hj w.1.2 (Or.inl hj) w
        omega
theorem wk_in (post : SY → Prop) (J : Int32 → Int32 → (Nat → Int32) → (Nat → Int32) → (Nat → Int32) → (Nat → Int32) → Prop) (a_on a_next : Nat → Int32) (m : Bool) (A : Nat → Prop) (s k : Nat) (hs : s < 64) (hAs : A s) (hA : ∀ d, d < 64 → (a_on d = a_on s ↔ A d)) (hJ : ∀ cnt mt st aS aM, k < cnt → wk_I m A s k 64 cnt mt st aS aM → J (nI (k + 1)) (nI cnt) a_on aS aM a_next) : ∀ t e n cnt mt st aS aM, e + t = 64 → t < n → k < cnt → wk_I m A s k e cnt mt st aS aM → wY_walk_53 post J (nI s) (md m) (nI k) n (nI e) (nI cnt) a_on aS aM a_next := by
  intro t
  induction t with
  | zero =>
    intro e n cnt mt st aS aM he hn hk I
    obtain ⟨n, rfl⟩ : ∃ j, n = j + 1 := ⟨n - 1, by omega⟩
    have e64 : e = 64 := by omega
    subst e64
    exact br_t (show (64 : Int32) ≤ nI 64 by decide) (nm_r (nI_1 k) (hJ cnt mt st aS aM hk I))
  | succ t ih =>
    intro e n cnt mt st aS aM he hn hk I
    obtain ⟨n, rfl⟩ : ∃ j, n = j + 1 := ⟨n - 1, by omega⟩
    have hl := wk_le I
    have hst := wk_st I (show e < 64 by omega)
    have i1 := I.1
    have i2 := I.2.1
    have i5 := I.2.2.2.2.1
    have ce : (nI e).toNatClampNeg = e := nI_clamp (by omega)
    have cs : (nI s).toNatClampNeg = s := nI_clamp (by omega)
    have ck : (nI k).toNatClampNeg = k := nI_clamp (by omega)
    have cc : (nI cnt).toNatClampNeg = cnt := nI_clamp (by omega)
    have cm : (nI (mt k)).toNatClampNeg = mt k := nI_clamp (by have := (i2 k hk).1; omega)
    have ve : vp_in (nI e) 64 := vp_in_nI (by omega) (by omega)
    have vk : vp_in (nI k) 64 := vp_in_nI (by omega) (by omega)
    have sg : 0 ≤ aS (nI e).toNatClampNeg ↔ 0 < st e := by
      rw [ce, i1 e (by omega)]
      rcases Nat.eq_zero_or_pos (st e) with z | z
      · rw [z]
        exact ⟨fun y => absurd y (by decide), fun y => absurd y (by omega)⟩
      · rw [show st e = (st e - 1) + 1 by omega, nI_pred]
        exact ⟨fun _ => by omega, fun _ => nI_pos' (by omega)⟩
    have skip : (gd_w m A (mt k) e → 0 < st e) → wY_walk_53 post J (nI s) (md m) (nI k) n (nI (e + 1)) (nI cnt) a_on aS aM a_next := fun h => ih (e + 1) n cnt mt st aS aM (by omega) (by omega) hk (wk_skip I hk h)
    refine br_f (nI_ge (b := 64) (by omega) (by decide)) ⟨ve, br_c (fun h0 => nm_r (nI_1 e) (skip (fun _ => sg.mp h0))) (fun h0 => ⟨ve, vp_in_nI hs (by omega), br_c (fun hon => ⟨vk, ?_⟩) (fun hon => nm_r (nI_1 e) (skip (fun w => absurd (by rw [ce, cs]; exact (hA e (by omega)).mpr w.2.1.2) hon)))⟩)⟩
    have hm : aM (nI k).toNatClampNeg = nI (mt k) := by rw [ck]; exact (i2 k hk).2.1
    rw [hm]
    have z0 : st e = 0 := by
      have : ¬ 0 < st e := fun z => h0 (sg.mpr z)
      omega
    have hAe : A e := by
      rw [ce, cs] at hon
      exact (hA e (by omega)).mp hon
    have hAk : A (mt k) := (gd_w_in hs hAs (wk_D_cl _ _ (i5 (mt k) (i2 k hk).1 (i2 k hk).2.2))).2
    refine zY_near _ _ m (i2 k hk).1 (by omega) (fun hn => ?_) (fun hn => br_t rfl (nm_r (nI_1 e) (skip (fun w => absurd w.2.2 hn))))
    have w : gd_w m A (mt k) e := ⟨⟨(i2 k hk).1, by omega⟩, ⟨hAk, hAe⟩, hn⟩
    obtain ⟨hc64, I'⟩ := wk_add I hk (by omega) z0 w
    refine br_f (by decide) ⟨vk, vp_in_nI (i2 k hk).1 (by omega), ve, nm_r (e' := upd aS e (aS (mt k) + 1)) (by rw [ce, cm]) ⟨vp_in_nI hc64 (by omega), nm_r (e' := upd aM cnt (nI e)) (by rw [cc]) (nm_r (nI_1 cnt) (nm_r (nI_1 e) ?_))⟩⟩
    exact ih (e + 1) n (cnt + 1) _ _ _ _ (by omega) (by omega) (by omega) I'
theorem wk_out (post : SY → Prop) (a_on a_next : Nat → Int32) (m : Bool) (A : Nat → Prop) (s : Nat) (hs : s < 64) (hAs : A s) (hA : ∀ d, d < 64 → (a_on d = a_on s ↔ A d)) (h : ∀ cnt mt st aS aM, wk_F m A s cnt mt st aS aM → post (nI cnt, a_on, aS, aM, a_next)) : ∀ t k n cnt mt st aS aM, k + t = 64 → t < n → k ≤ cnt → wk_I m A s k 0 cnt mt st aS aM → wY_walk_42 post (nI s) (md m) n (nI k) (nI cnt) a_on aS aM a_next := by
  intro t
  induction t with
  | zero =>
    intro k n cnt mt st aS aM hk hn hkc I
    obtain ⟨n, rfl⟩ : ∃ j, n = j + 1 := ⟨n - 1, by omega⟩
    have hl := wk_le I
    have e : k = cnt := by omega
    subst e
    exact br_t (nI_le (Nat.le_refl _) (by omega)) (h _ _ _ _ _ (wk_fin hs I))
  | succ t ih =>
    intro k n cnt mt st aS aM hk hn hkc I
    obtain ⟨n, rfl⟩ : ∃ j, n = j + 1 := ⟨n - 1, by omega⟩
    have hl := wk_le I
    refine pk_le cnt k (fun hle => ?_) (fun hlt => ⟨65, ?_⟩)
    · have e : k = cnt := by omega
      subst e
      exact h _ _ _ _ _ (wk_fin hs I)
    · refine wk_in post _ a_on a_next m A s k hs hAs hA (fun cnt' mt' st' aS' aM' hk' I' => ?_) 64 0 65 cnt mt st aS aM (by omega) (by omega) hlt I
      exact ih (k + 1) n cnt' mt' st' aS' aM' (by omega) (by omega) (by omega) (wk_next I' hk')
theorem wk_ini (post : SY → Prop) (a_on aM a_next : Nat → Int32) (f_count : Int32) (m : Bool) (A : Nat → Prop) (s : Nat) (hs : s < 64) (hAs : A s) (hA : ∀ d, d < 64 → (a_on d = a_on s ↔ A d)) (h : ∀ cnt mt st aS aM, wk_F m A s cnt mt st aS aM → post (nI cnt, a_on, aS, aM, a_next)) : ∀ t k n aS, k + t = 64 → t < n → (∀ d, d < k → aS d = -1) → wY_walk_2 post (nI s) (md m) f_count n (nI k) a_on aS aM a_next := by
  intro t
  induction t with
  | zero =>
    intro k n aS hk hn ha
    obtain ⟨n, rfl⟩ : ∃ j, n = j + 1 := ⟨n - 1, by omega⟩
    have e : k = 64 := by omega
    subst e
    have cs : (nI s).toNatClampNeg = s := nI_clamp (by omega)
    refine br_t (show (64 : Int32) ≤ nI 64 by decide) ⟨vp_in_nI hs (by omega), nm_r (e' := upd aS s 0) (by rw [cs]) (nm_e ⟨65, ?_⟩)⟩
    refine wk_out post a_on a_next m A s hs hAs hA h 64 0 65 1 (fun _ => s) (fun d => if d = s then 1 else 0) _ _ (by omega) (by omega) (by omega) ?_
    refine ⟨?_, ?_, ?_, ?_, ?_, ?_, ?_, ?_, ?_, ?_⟩
    · intro d hd
      dsimp only
      by_cases z : d = s
      · subst z; rw [pk_us, if_pos rfl]; decide
      · rw [pk_un z, if_neg z, ha d hd]; decide
    · intro j hj
      have : j = 0 := by omega
      subst this
      dsimp only
      rw [if_pos rfl]
      exact ⟨hs, pk_us, by omega⟩
    · intro d hd hp
      refine ⟨0, by omega, ?_⟩
      by_cases z : d = s
      · exact z.symm
      · dsimp only at hp
        rw [if_neg z] at hp
        omega
    · refine (cc_one (i := s) hs (by dsimp only; rw [if_pos rfl]; omega) (fun j hj z => ?_)).symm
      by_cases y : j = s
      · exact y
      · dsimp only at z
        rw [if_neg y] at z
        omega
    · intro d hd hp
      by_cases z : d = s
      · dsimp only
        rw [if_pos z]; exact z
      · dsimp only at hp
        rw [if_neg z] at hp
        omega
    · intro i j _ _; exact Nat.le_refl _
    · intro _ j _; dsimp only; omega
    · intro j d hj hd hp; omega
    · exact ⟨Nat.le_refl _, rfl, if_pos rfl⟩
    · intro j hj; dsimp only; rw [if_pos rfl]; omega
  | succ t ih =>
    intro k n aS hk hn ha
    obtain ⟨n, rfl⟩ : ∃ j, n = j + 1 := ⟨n - 1, by omega⟩
    have ck : (nI k).toNatClampNeg = k := nI_clamp (by omega)
    refine br_f (nI_ge (b := 64) (by omega) (by decide)) ⟨vp_in_nI (by omega) (by omega), nm_r (e' := upd aS k (-1)) (by rw [ck]) (nm_r (nI_1 k) ?_)⟩
    refine ih (k + 1) n _ (by omega) (by omega) (fun d hd => ?_)
    by_cases z : d = k
    · subst z; exact pk_us
    · rw [pk_un z]; exact ha d (by omega)
theorem zY_walk (post : SY → Prop) (f_count : Int32) (a_on a_steps a_met a_next : Nat → Int32) (m : Bool) (A : Nat → Prop) {s : Nat} (hs : s < 64) (hAs : A s) (hA : ∀ d, d < 64 → (a_on d = a_on s ↔ A d)) (h : ∀ cnt mt st aS aM, wk_F m A s cnt mt st aS aM → post (nI cnt, a_on, aS, aM, a_next)) : wpY_walk post (f_count, a_on, a_steps, a_met, a_next) (nI s) (md m) :=
  ⟨65, wk_ini post a_on a_met a_next f_count m A s hs hAs hA h 64 0 65 a_steps (by omega) (by omega) (fun d hd => absurd hd (Nat.not_lt_zero d))⟩
end
section
/-! the reference's small helpers -/
/-- the cells of an array of booleans -/
def yr (P : Nat → Prop) (a : Nat → Int32) : Prop := ∀ c, c < 64 → (P c → a c = 1) ∧ (¬ P c → a c = 0)
theorem yr_1 {P : Nat → Prop} {a : Nat → Int32} (h : yr P a) {c : Nat} (hc : c < 64) : a c = 0 ↔ ¬ P c := by
  by_cases z : P c
  · rw [(h c hc).1 z]; exact ⟨fun y => absurd y (by decide), fun y => absurd z y⟩
  · rw [(h c hc).2 z]; exact ⟨fun _ => z, fun _ => rfl⟩
theorem yr_on {P : Nat → Prop} {a : Nat → Int32} (h : yr P a) {s : Nat} (hs : s < 64) (hP : P s) : ∀ d, d < 64 → (a d = a s ↔ P d) := by
  intro d hd
  rw [(h s hs).1 hP]
  by_cases z : P d
  · rw [(h d hd).1 z]; exact ⟨fun _ => z, fun _ => rfl⟩
  · rw [(h d hd).2 z]; exact ⟨fun y => absurd y (by decide), fun y => absurd y z⟩
theorem yr_off {P : Nat → Prop} {a : Nat → Int32} (h : yr P a) {s : Nat} (hs : s < 64) (hP : ¬ P s) : ∀ d, d < 64 → (a d = a s ↔ ¬ P d) := by
  intro d hd
  rw [(h s hs).2 hP]
  exact yr_1 h hd
theorem yr_eq {P N : Nat → Prop} {a b : Nat → Int32} (h : yr P a) (g : yr N b) {c : Nat} (hc : c < 64) : a c = b c ↔ (P c ↔ N c) := by
  by_cases z : P c
  · rw [(h c hc).1 z]
    by_cases y : N c
    · rw [(g c hc).1 y]; exact ⟨fun _ => ⟨fun _ => y, fun _ => z⟩, fun _ => rfl⟩
    · rw [(g c hc).2 y]; exact ⟨fun q => absurd q (by decide), fun q => absurd (q.mp z) y⟩
  · rw [(h c hc).2 z]
    by_cases y : N c
    · rw [(g c hc).1 y]; exact ⟨fun q => absurd q (by decide), fun q => absurd (q.mpr y) z⟩
    · rw [(g c hc).2 y]; exact ⟨fun _ => ⟨fun q => absurd q z, fun q => absurd q y⟩, fun _ => rfl⟩
theorem zY_isM (post : Int32 → Prop) (u : SY) (m : Bool) (h : post 1) : wpY_isMode post u (md m) := by
  obtain ⟨f_count, a_on, a_steps, a_met, a_next⟩ := u
  cases m with
  | true => exact br_f (by decide) (br_t rfl h)
  | false => exact br_t rfl h
theorem zY_isM' (post : Int32 → Prop) (u : SY) {v : Int32} (hv : ¬ v = 4 ∧ ¬ v = 8) (h : post 0) : wpY_isMode post u v := by
  obtain ⟨f_count, a_on, a_steps, a_met, a_next⟩ := u
  exact br_f hv.1 (br_f hv.2 h)
theorem ce_cases (v : Int32) : (∃ c, c < 64 ∧ v = nI c) ∨ (v < 0 ∨ (¬ v < 0 ∧ (64 : Int32) ≤ v)) := by
  rcases pk_ix v (n := 64) (by omega) with h | h | ⟨j, hj, e⟩
  · exact Or.inr (Or.inl h)
  · by_cases z : v < 0
    · exact Or.inr (Or.inl z)
    · exact Or.inr (Or.inr ⟨z, h⟩)
  · exact Or.inl ⟨j, hj, e⟩
theorem zX_badC (post : Int32 → Prop) (u : SX) {c : Nat} (hc : c < 64) (h : post 0) : wpX_badCell post u (nI c) := by
  obtain ⟨f_on, a_far⟩ := u
  exact br_f (nI_pos (by omega)) (br_t (nI_lt (b := 64) hc (by decide)) h)
theorem zX_badC' (post : Int32 → Prop) (u : SX) {v : Int32} (hv : v < 0 ∨ (¬ v < 0 ∧ (64 : Int32) ≤ v)) (h : post 1) : wpX_badCell post u v := by
  obtain ⟨f_on, a_far⟩ := u
  rcases hv with z | z
  · exact br_t z h
  · exact br_f z.1 (br_f (Int32.not_lt.mpr z.2) h)
theorem zY_isC (post : Int32 → Prop) (u : SY) {c : Nat} (hc : c < 64) (h : post 1) : wpY_isCell post u (nI c) := by
  obtain ⟨f_count, a_on, a_steps, a_met, a_next⟩ := u
  exact br_f (nI_pos (by omega)) (br_f (nI_nlt (a := 63) (by omega) (by decide)) h)
theorem zY_isC' (post : Int32 → Prop) (u : SY) {v : Int32} (hv : v < 0 ∨ (¬ v < 0 ∧ (64 : Int32) ≤ v)) (h : post 0) : wpY_isCell post u v := by
  obtain ⟨f_count, a_on, a_steps, a_met, a_next⟩ := u
  rcases hv with z | z
  · exact br_t z h
  · exact br_f z.1 (br_t (Int32.lt_of_lt_of_le (by decide) z.2) h)
theorem ps_0 : ∀ a, a < 11 → (nI a - 1 < 0 ↔ a = 0) := by decide +kernel
theorem ps_7 : ∀ a, a < 11 → (7 < nI a - 1 ↔ 9 ≤ a) := by decide +kernel
theorem ps_8 : ∀ a, a < 11 → (8 ≤ nI a - 1 ↔ 9 ≤ a) := by decide +kernel
theorem ps_9 : ∀ a, a < 11 → (nI a - 1 < 8 ↔ a < 9) := by decide +kernel
theorem ps_i : ∀ a, a < 8 → ∀ b, b < 8 → 8 * (nI (b + 1) - 1) + (nI (a + 1) - 1) = nI (8 * b + a) := by decide +kernel
theorem ps_q {P : Nat → Prop} {a b : Nat} (ha : a ≤ 9) (hb : b ≤ 9) : gd_Q P (10 * b + a) ↔ (1 ≤ a ∧ a ≤ 8 ∧ 1 ≤ b ∧ b ≤ 8) ∧ P (8 * (b - 1) + (a - 1)) := by
  unfold gd_Q gd_fr gd_ps
  rw [show (10 * b + a) / 10 = b by omega, show (10 * b + a) % 10 = a by omega]
  exact ⟨fun z => ⟨by omega, z.2⟩, fun z => ⟨by omega, z.2⟩⟩
theorem zY_isOn (post : Int32 → Prop) (f_count : Int32) (a_on a_steps a_met a_next : Nat → Int32) {P : Nat → Prop} (hr : yr P a_on) {a b : Nat} (ha : a ≤ 9) (hb : b ≤ 9) (h1 : gd_Q P (10 * b + a) → post 1) (h0 : ¬ gd_Q P (10 * b + a) → post 0) : wpY_isOn post (f_count, a_on, a_steps, a_met, a_next) (nI a - 1) (nI b - 1) := by
  rw [ps_q ha hb] at h1 h0
  refine br_c (fun z => h0 ?_) (fun z1 => br_c (fun z => h0 ?_) (fun z2 => br_c (fun z => h0 ?_) (fun z3 => br_c (fun z => h0 ?_) (fun z4 => ?_))))
  · have := (ps_0 a (by omega)).mp z; omega
  · have := (ps_7 a (by omega)).mp z; omega
  · have := (ps_0 b (by omega)).mp z; omega
  · have := (ps_7 b (by omega)).mp z; omega
  · rw [ps_0 a (by omega)] at z1
    rw [ps_7 a (by omega)] at z2
    rw [ps_0 b (by omega)] at z3
    rw [ps_7 b (by omega)] at z4
    have e : 8 * (nI b - 1) + (nI a - 1) = nI (8 * (b - 1) + (a - 1)) := by
      have := ps_i (a - 1) (by omega) (b - 1) (by omega)
      rw [show a - 1 + 1 = a by omega, show b - 1 + 1 = b by omega] at this
      exact this
    rw [e, nI_clamp (show 8 * (b - 1) + (a - 1) < 2 ^ 31 by omega), yr_1 hr (show 8 * (b - 1) + (a - 1) < 64 by omega)]
    exact ⟨vp_in_nI (by omega) (by omega), br_c (fun z => h0 (fun y => z y.2)) (fun z => h1 ⟨by omega, Classical.not_not.mp z⟩)⟩
theorem zX_cellAt (post : Int32 → Prop) (f : Int64) (a_far : Nat → Int32) {a b : Nat} (ha : a ≤ 9) (hb : b ≤ 9) (h : post (nI (cc_i (gd_Q (xs f) (10 * b + a))))) : wpX_cellAt post (f, a_far) (nI a - 1) (nI b - 1) := by
  have h0 : ¬ gd_Q (xs f) (10 * b + a) → post 0 := by
    intro z
    rw [cc_i_f z] at h
    exact h
  rw [ps_q ha hb] at h0
  refine br_c (fun z => h0 ?_) (fun z1 => br_c (fun z => h0 ?_) (fun z2 => br_c (fun z => h0 ?_) (fun z3 => br_c (fun z4 => ?_) (fun z => h0 ?_))))
  · have := (ps_0 a (by omega)).mp z; omega
  · have := (ps_8 a (by omega)).mp z; omega
  · have := (ps_0 b (by omega)).mp z; omega
  · rw [ps_0 a (by omega)] at z1
    rw [ps_8 a (by omega)] at z2
    rw [ps_0 b (by omega)] at z3
    rw [ps_9 b (by omega)] at z4
    have e : 8 * (nI b - 1) + (nI a - 1) = nI (8 * (b - 1) + (a - 1)) := by
      have := ps_i (a - 1) (by omega) (b - 1) (by omega)
      rw [show a - 1 + 1 = a by omega, show b - 1 + 1 = b by omega] at this
      exact this
    rw [e, xb_tsI (by omega)]
    by_cases q : xs f (8 * (b - 1) + (a - 1))
    · rw [cc_i_t ((ps_q ha hb).mpr ⟨by omega, q⟩)] at h
      rw [show xb f (8 * (b - 1) + (a - 1)) = true from q]
      exact h
    · rw [cc_i_f (fun y => q ((ps_q ha hb).mp y).2)] at h
      rw [show xb f (8 * (b - 1) + (a - 1)) = false from Bool.not_eq_true _ ▸ q]
      exact h
  · rw [ps_9 b (by omega)] at z
    omega
theorem zY_edge (post : Int32 → Prop) (u : SY) {c : Nat} (hc : c < 64) (h1 : gd_ed c → post 1) (h0 : ¬ gd_ed c → post 0) : wpY_isEdge post u (nI c) := by
  obtain ⟨f_count, a_on, a_steps, a_met, a_next⟩ := u
  have k8 : ¬ (8 : Int32) = 0 := by decide
  have e := wk_r8 hc
  have e2 := wk_d8 hc
  refine ⟨k8, pk_eq (c % 8) 0 (fun z => h1 ?_) (fun z1 => ⟨k8, pk_eq (c % 8) 7 (fun z => h1 ?_) (fun z2 => ⟨k8, pk_eq (c / 8) 0 (fun z => h1 ?_) (fun z3 => ⟨k8, pk_eq (c / 8) 7 (fun z => h1 ?_) (fun z4 => h0 ?_) e2⟩) e2⟩) e⟩) e⟩
  · unfold gd_ed; omega
  · unfold gd_ed; omega
  · unfold gd_ed; omega
  · unfold gd_ed; omega
  · unfold gd_ed; omega
section
variable {m : Bool} {A : Nat → Prop} {s cnt : Nat} {mt st : Nat → Nat} {aS aM a_on a_next : Nat → Int32}
theorem zY_least_l (post : Int32 → Prop) (F : wk_F m A s cnt mt st aS aM) (h : ∀ r, r < 64 → cc_cl (gd_w m A) s r → (∀ d, cc_cl (gd_w m A) s d → r ≤ d) → post (nI r)) : ∀ t k n l, k + t = cnt → t < n → l ≤ 64 → (∀ j, j < k → l ≤ mt j) → (l = 64 ∨ ∃ j, j < k ∧ mt j = l) → wY_leastMet_5 post (nI cnt) a_on aS aM a_next n (nI l) (nI k) := by
  have hc := F.2.2.2.1.2
  have f2 := F.2.1
  have f3 := F.2.2.1
  intro t
  induction t with
  | zero =>
    intro k n l hk hn hl h1 h2
    obtain ⟨n, rfl⟩ : ∃ j, n = j + 1 := ⟨n - 1, by omega⟩
    refine br_t (nI_le (by omega) (by omega)) ?_
    have all : ∀ d, cc_cl (gd_w m A) s d → l ≤ d := by
      intro d hd
      obtain ⟨j, hj, rfl⟩ := f3 d hd
      exact h1 j (by omega)
    obtain ⟨j, hj, hm⟩ := f3 s cc_rf
    have hs64 := (f2 j hj).1
    have ls := all s cc_rf
    rcases h2 with z | ⟨i, hi, rfl⟩
    · omega
    · exact h (mt i) (f2 i (by omega)).1 (f2 i (by omega)).2.2 all
  | succ t ih =>
    intro k n l hk hn hl h1 h2
    obtain ⟨n, rfl⟩ : ∃ j, n = j + 1 := ⟨n - 1, by omega⟩
    have fk := f2 k (by omega)
    have em : aM (nI k).toNatClampNeg = nI (mt k) := by rw [nI_clamp (by omega)]; exact fk.2.1
    refine br_f (nI_ge (by omega) (by omega)) ⟨vp_in_nI (by omega) (by omega), pk_le l (mt k) (fun hle => nm_r (nI_1 k) ?_) (fun hlt => ⟨vp_in_nI (by omega) (by omega), nm_r em (nm_r (nI_1 k) ?_)⟩) rfl em⟩
    · refine ih (k + 1) n l (by omega) (by omega) hl (fun j hj => ?_) ?_
      · by_cases z : j = k
        · subst z; exact hle
        · exact h1 j (by omega)
      · rcases h2 with z | ⟨j, hj, z⟩
        · exact Or.inl z
        · exact Or.inr ⟨j, by omega, z⟩
    · refine ih (k + 1) n (mt k) (by omega) (by omega) (by omega) (fun j hj => ?_) (Or.inr ⟨k, by omega, rfl⟩)
      by_cases z : j = k
      · subst z; exact Nat.le_refl _
      · have := h1 j (by omega)
        omega
theorem zY_least (post : Int32 → Prop) (F : wk_F m A s cnt mt st aS aM) (h : ∀ r, r < 64 → cc_cl (gd_w m A) s r → (∀ d, cc_cl (gd_w m A) s d → r ≤ d) → post (nI r)) : wpY_leastMet post (nI cnt, a_on, aS, aM, a_next) :=
  ⟨cnt + 1, zY_least_l post F h cnt 0 (cnt + 1) 64 (by omega) (by omega) (by omega) (fun j hj => absurd hj (Nat.not_lt_zero j)) (Or.inl rfl)⟩
theorem zY_inside_l (post : Int32 → Prop) (F : wk_F m A s cnt mt st aS aM) (h1 : (∀ d, cc_cl (gd_w m A) s d → ¬ gd_ed d) → post 1) (h0 : ¬ (∀ d, cc_cl (gd_w m A) s d → ¬ gd_ed d) → post 0) : ∀ t k n, k + t = cnt → t < n → (∀ j, j < k → ¬ gd_ed (mt j)) → wY_isInside_2 post (nI cnt) a_on aS aM a_next n (nI k) := by
  have hc := F.2.2.2.1.2
  have f2 := F.2.1
  have f3 := F.2.2.1
  intro t
  induction t with
  | zero =>
    intro k n hk hn hj
    obtain ⟨n, rfl⟩ : ∃ j, n = j + 1 := ⟨n - 1, by omega⟩
    refine br_t (nI_le (by omega) (by omega)) (h1 (fun d hd => ?_))
    obtain ⟨j, hj', rfl⟩ := f3 d hd
    exact hj j (by omega)
  | succ t ih =>
    intro k n hk hn hj
    obtain ⟨n, rfl⟩ : ∃ j, n = j + 1 := ⟨n - 1, by omega⟩
    have fk := f2 k (by omega)
    have em : aM (nI k).toNatClampNeg = nI (mt k) := by rw [nI_clamp (by omega)]; exact fk.2.1
    refine br_f (nI_ge (by omega) (by omega)) ⟨vp_in_nI (by omega) (by omega), ?_⟩
    rw [em]
    refine zY_edge _ _ fk.1 (fun he => br_f (by decide) (h0 (fun z => z _ fk.2.2 he))) (fun he => br_t rfl (nm_r (nI_1 k) ?_))
    refine ih (k + 1) n (by omega) (by omega) (fun j hj' => ?_)
    by_cases z : j = k
    · subst z; exact he
    · exact hj j (by omega)
theorem zY_inside (post : Int32 → Prop) (F : wk_F m A s cnt mt st aS aM) (h1 : (∀ d, cc_cl (gd_w m A) s d → ¬ gd_ed d) → post 1) (h0 : ¬ (∀ d, cc_cl (gd_w m A) s d → ¬ gd_ed d) → post 0) : wpY_isInside post (nI cnt, a_on, aS, aM, a_next) :=
  ⟨cnt + 1, zY_inside_l post F h1 h0 cnt 0 (cnt + 1) (by omega) (by omega) (fun j hj => absurd hj (Nat.not_lt_zero j))⟩
end
/-! ===== the next picture is taken ===== -/
noncomputable def yd (P N : Nat → Prop) (n : Nat) : Nat := cc_n (fun c => ¬ (P c ↔ N c)) n
theorem yd_le (P N : Nat → Prop) (n : Nat) : yd P N n ≤ n := cc_max _ _
theorem nar_1 : vp_nar .boolean 1 = 1 := rfl
theorem nar_0 : vp_nar .boolean 0 = 0 := rfl
theorem zY_take_l (post : Int32 → SY → Prop) (f_count : Int32) (aS aM a_next : Nat → Int32) {P N : Nat → Prop} (hN : yr N a_next) (h : ∀ a, yr N a → post (nI (yd P N 64)) (f_count, a, aS, aM, a_next)) : ∀ t k n a, k + t = 64 → t < n → (∀ c, c < 64 → if c < k then (N c → a c = 1) ∧ (¬ N c → a c = 0) else (P c → a c = 1) ∧ (¬ P c → a c = 0)) → wY_takeNext_4 post f_count n (nI (yd P N k)) (nI k) a aS aM a_next := by
  intro t
  induction t with
  | zero =>
    intro k n a hk hn ha
    obtain ⟨n, rfl⟩ : ∃ j, n = j + 1 := ⟨n - 1, by omega⟩
    have e : k = 64 := by omega
    subst e
    refine br_t (show (64 : Int32) ≤ nI 64 by decide) (h a (fun c hc => ?_))
    have := ha c hc
    rw [if_pos hc] at this
    exact this
  | succ t ih =>
    intro k n a hk hn ha
    obtain ⟨n, rfl⟩ : ∃ j, n = j + 1 := ⟨n - 1, by omega⟩
    have hk64 : k < 64 := by omega
    have ck : (nI k).toNatClampNeg = k := nI_clamp (by omega)
    have vk : vp_in (nI k) 64 := vp_in_nI (by omega) (by omega)
    have hPk : (P k → a k = 1) ∧ (¬ P k → a k = 0) := by
      have := ha k hk64
      rw [if_neg (Nat.lt_irrefl k)] at this
      exact this
    have hNk := hN k hk64
    have eq : a k = a_next k ↔ (P k ↔ N k) := by
      by_cases z : P k
      · rw [hPk.1 z]
        by_cases y : N k
        · rw [hNk.1 y]; exact ⟨fun _ => ⟨fun _ => y, fun _ => z⟩, fun _ => rfl⟩
        · rw [hNk.2 y]; exact ⟨fun q => absurd q (by decide), fun q => absurd (q.mp z) y⟩
      · rw [hPk.2 z]
        by_cases y : N k
        · rw [hNk.1 y]; exact ⟨fun q => absurd q (by decide), fun q => absurd (q.mpr y) z⟩
        · rw [hNk.2 y]; exact ⟨fun _ => ⟨fun q => absurd q z, fun q => absurd q y⟩, fun _ => rfl⟩
    have nr : vp_nar .boolean (a_next k) = a_next k := by
      by_cases y : N k
      · rw [hNk.1 y]; rfl
      · rw [hNk.2 y]; rfl
    have fin : ∀ z0 : Int32, z0 = nI (yd P N (k + 1)) → wY_takeNext_32 post (wY_takeNext_4 post f_count n) (nI k) z0 f_count a aS aM a_next := by
      intro z0 e0
      refine ⟨vk, vk, nm_r (e' := upd a k (a_next k)) (by rw [ck, nr]) (nm_r (nI_1 k) ?_)⟩
      rw [e0]
      refine ih (k + 1) n _ (by omega) (by omega) (fun c hc => ?_)
      by_cases z : c = k
      · subst z
        rw [if_pos (by omega), pk_us]
        exact hNk
      · rw [pk_un z]
        have := ha c hc
        by_cases y : c < k
        · rw [if_pos y] at this
          rw [if_pos (by omega)]
          exact this
        · rw [if_neg y] at this
          rw [if_neg (by omega)]
          exact this
    refine br_f (nI_ge (b := 64) (by omega) (by decide)) ⟨vk, vk, ?_⟩
    rw [ck, eq]
    refine br_c (fun z => fin _ ?_) (fun z => fin _ ?_)
    · unfold yd
      rw [cc_n_f (fun q => q z)]
    · unfold yd
      rw [cc_n_t (p := fun c => ¬ (P c ↔ N c)) z, nI_1]
theorem zY_take (post : Int32 → SY → Prop) (f_count : Int32) (a_on aS aM a_next : Nat → Int32) {P N : Nat → Prop} (hP : yr P a_on) (hN : yr N a_next) (h : ∀ a, yr N a → post (nI (yd P N 64)) (f_count, a, aS, aM, a_next)) : wpY_takeNext post (f_count, a_on, aS, aM, a_next) := by
  refine ⟨65, zY_take_l post f_count aS aM a_next hN h 64 0 65 a_on (by omega) (by omega) (fun c hc => ?_)⟩
  rw [if_neg (Nat.not_lt_zero c)]
  exact hP c hc
/-! ===== near cells ===== -/
abbrev hn_I (m : Bool) (i : Nat) : Prop := i % 2 = 1 ∨ (m = true ∧ i ≠ 4)
theorem hn_1 : ∀ i, i < 9 → ((nI i - nI i / 3 * 3 - 1) * (nI i - nI i / 3 * 3 - 1) + (nI i / 3 - 1) * (nI i / 3 - 1) = 1 ↔ i % 2 = 1) := by decide +kernel
theorem hn_2 : ∀ i, i < 9 → ((nI i - nI i / 3 * 3 - 1) * (nI i - nI i / 3 * 3 - 1) + (nI i / 3 - 1) * (nI i / 3 - 1) = 2 ↔ (i % 2 = 0 ∧ i ≠ 4)) := by decide +kernel
theorem hn_x : ∀ a, a < 8 → ∀ i, i < 9 → nI a + (nI i - nI i / 3 * 3 - 1) = nI (a + i % 3) - 1 := by decide +kernel
theorem hn_y : ∀ a, a < 8 → ∀ i, i < 9 → nI a + (nI i / 3 - 1) = nI (a + i / 3) - 1 := by decide +kernel
theorem zY_near_l (post : Int32 → Prop) (f_count : Int32) (a_on a_steps a_met a_next : Nat → Int32) {P : Nat → Prop} (hr : yr P a_on) {c : Nat} (hc : c < 64) (m : Bool) (wt : Bool) (h1 : (∃ i, i < 9 ∧ hn_I m i ∧ (gd_Q P (10 * (c / 8 + i / 3) + (c % 8 + i % 3)) ↔ wt = true)) → post 1) (h0 : ¬ (∃ i, i < 9 ∧ hn_I m i ∧ (gd_Q P (10 * (c / 8 + i / 3) + (c % 8 + i % 3)) ↔ wt = true)) → post 0) : ∀ t i n, i + t = 9 → t < n → (∀ j, j < i → ¬ (hn_I m j ∧ (gd_Q P (10 * (c / 8 + j / 3) + (c % 8 + j % 3)) ↔ wt = true))) → wY_hasNear_3 post (nI c) (md m) (bo wt) f_count a_on a_steps a_met a_next n (nI i) := by
  intro t
  induction t with
  | zero =>
    intro i n hi hn hj
    obtain ⟨n, rfl⟩ : ∃ j, n = j + 1 := ⟨n - 1, by omega⟩
    have e : i = 9 := by omega
    subst e
    exact br_t (show (9 : Int32) ≤ nI 9 by decide) (h0 (fun ⟨j, hj', z⟩ => hj j hj' z))
  | succ t ih =>
    intro i n hi hn hj
    obtain ⟨n, rfl⟩ : ∃ j, n = j + 1 := ⟨n - 1, by omega⟩
    have hi9 : i < 9 := by omega
    have k3 : ¬ (3 : Int32) = 0 := by decide
    have k8 : ¬ (8 : Int32) = 0 := by decide
    have go : ¬ (hn_I m i ∧ (gd_Q P (10 * (c / 8 + i / 3) + (c % 8 + i % 3)) ↔ wt = true)) → wY_hasNear_3 post (nI c) (md m) (bo wt) f_count a_on a_steps a_met a_next n (nI (i + 1)) := by
      intro z
      refine ih (i + 1) n (by omega) (by omega) (fun j hj' => ?_)
      by_cases y : j = i
      · subst y; exact z
      · exact hj j (by omega)
    have no : ¬ hn_I m i → wY_hasNear_66 post (wY_hasNear_3 post (nI c) (md m) (bo wt) f_count a_on a_steps a_met a_next n) (nI c) (md m) (bo wt) (nI i) (nI i - nI i / 3 * 3 - 1) (nI i / 3 - 1) f_count a_on a_steps a_met a_next :=
      fun z => br_t rfl (nm_r (nI_1 i) (go (fun y => z y.1)))
    have ye : hn_I m i → wY_hasNear_62 post (wY_hasNear_3 post (nI c) (md m) (bo wt) f_count a_on a_steps a_met a_next n) (nI c) (md m) (bo wt) (nI i) (nI i - nI i / 3 * 3 - 1) (nI i / 3 - 1) f_count a_on a_steps a_met a_next := by
      intro z
      refine br_f (by decide) ⟨k8, k8, ?_⟩
      rw [wk_r8 hc, wk_d8 hc, hn_x (c % 8) (by omega) i hi9, hn_y (c / 8) (by omega) i hi9]
      refine zY_isOn _ _ _ _ _ _ hr (by omega) (by omega) (fun q => ?_) (fun q => ?_)
      · cases wt with
        | true => exact br_t rfl (h1 ⟨i, hi9, z, ⟨fun _ => rfl, fun _ => q⟩⟩)
        | false => exact br_f (by decide) (nm_r (nI_1 i) (go (fun y => Bool.noConfusion (y.2.mp q))))
      · cases wt with
        | true => exact br_f (by decide) (nm_r (nI_1 i) (go (fun y => q (y.2.mpr rfl))))
        | false => exact br_t rfl (h1 ⟨i, hi9, z, ⟨fun y => absurd y q, fun y => Bool.noConfusion y⟩⟩)
    refine br_f (nI_ge (b := 9) (by omega) (by decide)) ⟨k3, nm_e ⟨k3, nm_e ?_⟩⟩
    rw [hn_1 i hi9, hn_2 i hi9]
    refine br_c (fun z => ye (Or.inl z)) (fun z => ?_)
    cases m with
    | true =>
      refine br_t rfl (br_c (fun y => ye (Or.inr ⟨rfl, y.2⟩)) (fun y => no (fun q => ?_)))
      rcases q with q | q
      · exact z q
      · exact y ⟨(Nat.mod_two_eq_zero_or_one i).resolve_right z, q.2⟩
    | false =>
      refine br_f (by decide) (no (fun q => ?_))
      rcases q with q | q
      · exact z q
      · exact Bool.noConfusion q.1
theorem zY_hasNear (post : Int32 → Prop) (f_count : Int32) (a_on a_steps a_met a_next : Nat → Int32) {P : Nat → Prop} (hr : yr P a_on) {c : Nat} (hc : c < 64) (m : Bool) (wt : Bool) (h1 : (∃ i, i < 9 ∧ hn_I m i ∧ (gd_Q P (10 * (c / 8 + i / 3) + (c % 8 + i % 3)) ↔ wt = true)) → post 1) (h0 : ¬ (∃ i, i < 9 ∧ hn_I m i ∧ (gd_Q P (10 * (c / 8 + i / 3) + (c % 8 + i % 3)) ↔ wt = true)) → post 0) : wpY_hasNear post (f_count, a_on, a_steps, a_met, a_next) (nI c) (md m) (bo wt) :=
  ⟨10, zY_near_l post f_count a_on a_steps a_met a_next hr hc m wt h1 h0 9 0 10 (by omega) (by omega) (fun j hj => absurd hj (Nat.not_lt_zero j))⟩
end
section
/-! the reference's loops over all cells -/
theorem rp_iff {R : Nat → Nat → Prop} (hs : cc_Sy R) {V : Nat → Prop} (hV : ∀ d c, cc_cl R c d → V c → V d) {c r : Nat} (hc : V c) (h1 : cc_cl R c r) (h2 : ∀ d, cc_cl R c d → r ≤ d) : r = c ↔ cc_rep R V c := by
  constructor
  · intro e
    refine ⟨hc, fun d hd _ h => ?_⟩
    have := h2 d (cc_sy hs h)
    omega
  · intro h
    have h3 := h2 c cc_rf
    rcases Nat.lt_or_ge r c with z | z
    · exact absurd (cc_sy hs h1) (h.2 r z (hV r c h1 hc))
    · omega
theorem rp_P {m : Bool} {P : Nat → Prop} (d c : Nat) (h : cc_cl (gd_w m P) c d) (hc : P c) : P d := h P hc (fun _ _ _ w => w.2.1.2)
theorem rp_in {m : Bool} {A : Nat → Prop} (d c : Nat) (h : cc_cl (gd_w m A) c d) (hc : gd_in m A c) : gd_in m A d := h (gd_in m A) hc (fun x y hx w => gd_in_cl x y hx w)
section
variable {P : Nat → Prop} {a_on a_next : Nat → Int32}
theorem zY_pieces_l (post : Int32 → SY → Prop) (hr : yr P a_on) (m : Bool) (h : ∀ f aS aM, post (nI (gd_pc m P)) (f, a_on, aS, aM, a_next)) : ∀ t c n f aS aM, c + t = 64 → t < n → wY_pieces_14 post (md m) n (nI (cc_n (cc_rep (gd_w m P) P) c)) (nI c) f a_on aS aM a_next := by
  intro t
  induction t with
  | zero =>
    intro c n f aS aM hc hn
    obtain ⟨n, rfl⟩ : ∃ j, n = j + 1 := ⟨n - 1, by omega⟩
    have e : c = 64 := by omega
    subst e
    exact br_t (show (64 : Int32) ≤ nI 64 by decide) (h f aS aM)
  | succ t ih =>
    intro c n f aS aM hc hn
    obtain ⟨n, rfl⟩ : ∃ j, n = j + 1 := ⟨n - 1, by omega⟩
    have hc64 : c < 64 := by omega
    have ck : (nI c).toNatClampNeg = c := nI_clamp (by omega)
    refine br_f (nI_ge (b := 64) (by omega) (by decide)) ⟨vp_in_nI (by omega) (by omega), ?_⟩
    rw [ck, yr_1 hr hc64]
    refine br_c (fun hP => nm_r (nI_1 c) ?_) (fun hP => ?_)
    · have k := ih (c + 1) n f aS aM (by omega) (by omega)
      rw [cc_n_f (fun z => hP z.1)] at k
      exact k
    · have hP' : P c := Classical.not_not.mp hP
      refine zY_walk _ _ _ _ _ _ m P hc64 hP' (yr_on hr hc64 hP') (fun cnt mt st aS' aM' F => ?_)
      refine zY_least _ F (fun r hr64 h1 h2 => ?_)
      have e := rp_iff (gd_w_sy m P) rp_P hP' h1 h2
      have k := ih (c + 1) n (nI cnt) aS' aM' (by omega) (by omega)
      refine pk_eq r c (fun z => nm_r (nI_1 _) (nm_r (nI_1 c) ?_)) (fun z => nm_r (nI_1 c) ?_)
      · rw [cc_n_t (e.mp z)] at k
        exact k
      · rw [cc_n_f (fun y => z (e.mpr y))] at k
        exact k
theorem zY_pieces (post : Int32 → SY → Prop) (hr : yr P a_on) (f : Int32) (aS aM : Nat → Int32) (m : Bool) (h : ∀ f aS aM, post (nI (gd_pc m P)) (f, a_on, aS, aM, a_next)) : wpY_pieces post (f, a_on, aS, aM, a_next) (md m) := by
  unfold wpY_pieces
  dsimp only
  refine zY_isM _ _ m (br_f (by decide) ⟨65, ?_⟩)
  exact zY_pieces_l post hr m h 64 0 65 f aS aM (by omega) (by omega)
theorem zY_holes_l (post : Int32 → SY → Prop) (hr : yr P a_on) (m : Bool) (h : ∀ f aS aM, post (nI (gd_ho (!m) P)) (f, a_on, aS, aM, a_next)) : ∀ t c n f aS aM, c + t = 64 → t < n → wY_holes_14 post (md m) n (nI (cc_n (cc_rep (gd_w (!m) (fun c => ¬ P c)) (gd_in (!m) (fun c => ¬ P c))) c)) (nI c) f a_on aS aM a_next := by
  intro t
  induction t with
  | zero =>
    intro c n f aS aM hc hn
    obtain ⟨n, rfl⟩ : ∃ j, n = j + 1 := ⟨n - 1, by omega⟩
    have e : c = 64 := by omega
    subst e
    exact br_t (show (64 : Int32) ≤ nI 64 by decide) (h f aS aM)
  | succ t ih =>
    intro c n f aS aM hc hn
    obtain ⟨n, rfl⟩ : ∃ j, n = j + 1 := ⟨n - 1, by omega⟩
    have hc64 : c < 64 := by omega
    have ck : (nI c).toNatClampNeg = c := nI_clamp (by omega)
    refine br_f (nI_ge (b := 64) (by omega) (by decide)) ⟨vp_in_nI (by omega) (by omega), ?_⟩
    rw [ck, yr_1 hr hc64, md_12]
    refine br_c (fun hP => ?_) (fun hP => nm_r (nI_1 c) ?_)
    · refine zY_walk _ _ _ _ _ _ (!m) (fun c => ¬ P c) hc64 hP (yr_off hr hc64 hP) (fun cnt mt st aS' aM' F => ?_)
      refine zY_least _ F (fun r hr64 h1 h2 => ?_)
      have k := ih (c + 1) n (nI cnt) aS' aM' (by omega) (by omega)
      refine pk_eq r c (fun z => ?_) (fun z => nm_r (nI_1 c) ?_)
      · refine zY_inside _ F (fun hin => br_f (by decide) (nm_r (nI_1 _) (nm_r (nI_1 c) ?_))) (fun hin => br_t rfl (nm_r (nI_1 c) ?_))
        · rw [cc_n_t ((rp_iff (gd_w_sy _ _) rp_in ⟨hP, hin⟩ h1 h2).mp z)] at k
          exact k
        · rw [cc_n_f (fun y => hin y.1.2)] at k
          exact k
      · rw [cc_n_f (fun y => z ((rp_iff (gd_w_sy _ _) rp_in y.1 h1 h2).mpr y))] at k
        exact k
    · have k := ih (c + 1) n f aS aM (by omega) (by omega)
      rw [cc_n_f (fun z => hP z.1.1)] at k
      exact k
theorem zY_holes (post : Int32 → SY → Prop) (hr : yr P a_on) (f : Int32) (aS aM : Nat → Int32) (m : Bool) (h : ∀ f aS aM, post (nI (gd_ho (!m) P)) (f, a_on, aS, aM, a_next)) : wpY_holes post (f, a_on, aS, aM, a_next) (md m) := by
  unfold wpY_holes
  dsimp only
  refine zY_isM _ _ m (br_f (by decide) ⟨65, ?_⟩)
  exact zY_holes_l post hr m h 64 0 65 f aS aM (by omega) (by omega)
theorem zY_largest_l (post : Int32 → SY → Prop) (hr : yr P a_on) (m : Bool) (h : ∀ b f aS aM, xp_mx m P b → post (nI b) (f, a_on, aS, aM, a_next)) : ∀ t c n b f aS aM, c + t = 64 → t < n → b ≤ 64 → (∀ j, j < c → P j → xp_sz m P j ≤ b) → (b = 0 ∨ ∃ j, j < 64 ∧ P j ∧ xp_sz m P j = b) → wY_largest_14 post (md m) n (nI b) (nI c) f a_on aS aM a_next := by
  intro t
  induction t with
  | zero =>
    intro c n b f aS aM hc hn hb h1 h2
    obtain ⟨n, rfl⟩ : ∃ j, n = j + 1 := ⟨n - 1, by omega⟩
    have e : c = 64 := by omega
    subst e
    exact br_t (show (64 : Int32) ≤ nI 64 by decide) (h b f aS aM ⟨h1, h2⟩)
  | succ t ih =>
    intro c n b f aS aM hc hn hb h1 h2
    obtain ⟨n, rfl⟩ : ∃ j, n = j + 1 := ⟨n - 1, by omega⟩
    have hc64 : c < 64 := by omega
    have ck : (nI c).toNatClampNeg = c := nI_clamp (by omega)
    refine br_f (nI_ge (b := 64) (by omega) (by decide)) ⟨vp_in_nI (by omega) (by omega), ?_⟩
    rw [ck, yr_1 hr hc64]
    refine br_c (fun hP => nm_r (nI_1 c) ?_) (fun hP => ?_)
    · refine ih (c + 1) n b f aS aM (by omega) (by omega) hb (fun j hj hPj => ?_) h2
      by_cases z : j = c
      · subst z; exact absurd hPj hP
      · exact h1 j (by omega) hPj
    · have hP' : P c := Classical.not_not.mp hP
      refine zY_walk _ _ _ _ _ _ m P hc64 hP' (yr_on hr hc64 hP') (fun cnt mt st aS' aM' F => ?_)
      have hsz := F.2.2.2.1
      refine pk_le cnt b (fun z => nm_r (nI_1 c) ?_) (fun z => nm_r (nI_1 c) ?_)
      · refine ih (c + 1) n b (nI cnt) aS' aM' (by omega) (by omega) hb (fun j hj hPj => ?_) h2
        by_cases y : j = c
        · subst y; rw [← hsz.1]; exact z
        · exact h1 j (by omega) hPj
      · refine ih (c + 1) n cnt (nI cnt) aS' aM' (by omega) (by omega) hsz.2 (fun j hj hPj => ?_) (Or.inr ⟨c, hc64, hP', hsz.1.symm⟩)
        by_cases y : j = c
        · subst y; rw [← hsz.1]; exact Nat.le_refl _
        · have := h1 j (by omega) hPj
          omega
theorem zY_largest (post : Int32 → SY → Prop) (hr : yr P a_on) (f : Int32) (aS aM : Nat → Int32) (m : Bool) (h : ∀ b f aS aM, xp_mx m P b → post (nI b) (f, a_on, aS, aM, a_next)) : wpY_largest post (f, a_on, aS, aM, a_next) (md m) := by
  unfold wpY_largest
  dsimp only
  refine zY_isM _ _ m (br_f (by decide) ⟨65, ?_⟩)
  exact zY_largest_l post hr m h 64 0 65 0 f aS aM (by omega) (by omega) (by omega) (fun j hj => absurd hj (Nat.not_lt_zero j)) (Or.inl rfl)
end
/-! ===== the loops that write the next picture ===== -/
def yp (N : Nat → Prop) (k : Nat) (a : Nat → Int32) : Prop := ∀ c, c < k → (N c → a c = 1) ∧ (¬ N c → a c = 0)
theorem yp_s {N : Nat → Prop} {k : Nat} {a : Nat → Int32} {v : Int32} (h : yp N k a) (hv : (N k → v = 1) ∧ (¬ N k → v = 0)) : yp N (k + 1) (upd a k v) := by
  intro c hc
  by_cases z : c = k
  · subst z; rw [pk_us]; exact hv
  · rw [pk_un z]; exact h c (by omega)
theorem yp_u {N : Nat → Prop} {k : Nat} {a : Nat → Int32} {v : Int32} (h : yp N k a) : yp N k (upd a k v) := by
  intro c hc
  rw [pk_un (by omega)]
  exact h c hc
section
variable {P : Nat → Prop} {a_on : Nat → Int32}
theorem zY_fill_l (post : Int32 → SY → Prop) (hr : yr P a_on) (m : Bool) (N : Nat → Prop) (hN : ∀ c, c < 64 → (N c ↔ P c ∨ ∀ d, cc_cl (gd_w (!m) (fun c => ¬ P c)) c d → ¬ gd_ed d)) (h : ∀ f a aS aM an, yr N a → post (nI (yd P N 64)) (f, a, aS, aM, an)) : ∀ t c n f aS aM an, c + t = 64 → t < n → yp N c an → wY_fill_12 post (md m) n (nI c) f a_on aS aM an := by
  intro t
  induction t with
  | zero =>
    intro c n f aS aM an hc hn hp
    obtain ⟨n, rfl⟩ : ∃ j, n = j + 1 := ⟨n - 1, by omega⟩
    have e : c = 64 := by omega
    subst e
    exact br_t (show (64 : Int32) ≤ nI 64 by decide) (zY_take _ f a_on aS aM an hr hp (fun a ha => h f a aS aM an ha))
  | succ t ih =>
    intro c n f aS aM an hc hn hp
    obtain ⟨n, rfl⟩ : ∃ j, n = j + 1 := ⟨n - 1, by omega⟩
    have hc64 : c < 64 := by omega
    have ck : (nI c).toNatClampNeg = c := nI_clamp (by omega)
    have vc : vp_in (nI c) 64 := vp_in_nI (by omega) (by omega)
    refine br_f (nI_ge (b := 64) (by omega) (by decide)) ⟨vc, vc, ?_⟩
    rw [ck, yr_1 hr hc64, md_12]
    refine nm_e ⟨vc, br_c (fun hP => ?_) (fun hP => nm_r (nI_1 c) ?_)⟩
    · refine zY_walk _ _ _ _ _ _ (!m) (fun c => ¬ P c) hc64 hP (yr_off hr hc64 hP) (fun cnt mt st aS' aM' F => ?_)
      refine zY_inside _ F (fun hin => ⟨vc, nm_e (nm_r (nI_1 c) ?_)⟩) (fun hin => ⟨vc, nm_e (nm_r (nI_1 c) ?_)⟩)
      · exact ih (c + 1) n _ _ _ _ (by omega) (by omega) (yp_s (yp_u hp) ⟨fun _ => rfl, fun z => absurd ((hN c hc64).mpr (Or.inr hin)) z⟩)
      · exact ih (c + 1) n _ _ _ _ (by omega) (by omega) (yp_s (yp_u hp) ⟨fun z => absurd ((hN c hc64).mp z) (fun y => y.elim hP hin), fun _ => rfl⟩)
    · have hP' : P c := Classical.not_not.mp hP
      refine ih (c + 1) n _ _ _ _ (by omega) (by omega) (yp_s hp ⟨fun _ => ?_, fun z => absurd ((hN c hc64).mpr (Or.inl hP')) z⟩)
      rw [(hr c hc64).1 hP']
      rfl
theorem zY_clear_l (post : Int32 → SY → Prop) (hr : yr P a_on) (m : Bool) (q : Nat) (hq : q ≤ 64) (N : Nat → Prop) (hN : ∀ c, c < 64 → (N c ↔ P c ∧ q ≤ xp_sz m P c)) (h : ∀ f a aS aM an, yr N a → post (nI (yd P N 64)) (f, a, aS, aM, an)) : ∀ t c n f aS aM an, c + t = 64 → t < n → yp N c an → wY_clear_22 post (md m) (nI q) n (nI c) f a_on aS aM an := by
  intro t
  induction t with
  | zero =>
    intro c n f aS aM an hc hn hp
    obtain ⟨n, rfl⟩ : ∃ j, n = j + 1 := ⟨n - 1, by omega⟩
    have e : c = 64 := by omega
    subst e
    exact br_t (show (64 : Int32) ≤ nI 64 by decide) (zY_take _ f a_on aS aM an hr hp (fun a ha => h f a aS aM an ha))
  | succ t ih =>
    intro c n f aS aM an hc hn hp
    obtain ⟨n, rfl⟩ : ∃ j, n = j + 1 := ⟨n - 1, by omega⟩
    have hc64 : c < 64 := by omega
    have ck : (nI c).toNatClampNeg = c := nI_clamp (by omega)
    have vc : vp_in (nI c) 64 := vp_in_nI (by omega) (by omega)
    refine br_f (nI_ge (b := 64) (by omega) (by decide)) ⟨vc, ?_⟩
    rw [ck, yr_1 hr hc64]
    refine nm_e ⟨vc, br_c (fun hP => nm_r (nI_1 c) ?_) (fun hP => ?_)⟩
    · exact ih (c + 1) n _ _ _ _ (by omega) (by omega) (yp_s hp ⟨fun z => absurd ((hN c hc64).mp z).1 hP, fun _ => rfl⟩)
    · have hP' : P c := Classical.not_not.mp hP
      refine zY_walk _ _ _ _ _ _ m P hc64 hP' (yr_on hr hc64 hP') (fun cnt mt st aS' aM' F => ?_)
      have hsz := F.2.2.2.1
      refine pk_lt cnt q (fun z => ⟨vc, nm_e (nm_r (nI_1 c) ?_)⟩) (fun z => ⟨vc, nm_e (nm_r (nI_1 c) ?_)⟩)
      · exact ih (c + 1) n _ _ _ _ (by omega) (by omega) (yp_s (yp_u hp) ⟨fun y => absurd ((hN c hc64).mp y).2 (by rw [← hsz.1]; omega), fun _ => rfl⟩)
      · exact ih (c + 1) n _ _ _ _ (by omega) (by omega) (yp_s (yp_u hp) ⟨fun _ => rfl, fun y => absurd ((hN c hc64).mpr ⟨hP', by rw [← hsz.1]; exact z⟩) y⟩)
theorem zY_grow_l (post : Int32 → SY → Prop) (hr : yr P a_on) (m : Bool) (N : Nat → Prop) (hN : ∀ c, c < 64 → (N c ↔ P c ∨ ∃ i, i < 9 ∧ hn_I m i ∧ (gd_Q P (10 * (c / 8 + i / 3) + (c % 8 + i % 3)) ↔ true = true))) (f : Int32) (aS aM : Nat → Int32) (h : ∀ a an, yr N a → post (nI (yd P N 64)) (f, a, aS, aM, an)) : ∀ t c n an, c + t = 64 → t < n → yp N c an → wY_grow_12 post (md m) f n (nI c) a_on aS aM an := by
  intro t
  induction t with
  | zero =>
    intro c n an hc hn hp
    obtain ⟨n, rfl⟩ : ∃ j, n = j + 1 := ⟨n - 1, by omega⟩
    have e : c = 64 := by omega
    subst e
    exact br_t (show (64 : Int32) ≤ nI 64 by decide) (zY_take _ f a_on aS aM an hr hp (fun a ha => h a an ha))
  | succ t ih =>
    intro c n an hc hn hp
    obtain ⟨n, rfl⟩ : ∃ j, n = j + 1 := ⟨n - 1, by omega⟩
    have hc64 : c < 64 := by omega
    have ck : (nI c).toNatClampNeg = c := nI_clamp (by omega)
    have vc : vp_in (nI c) 64 := vp_in_nI (by omega) (by omega)
    refine br_f (nI_ge (b := 64) (by omega) (by decide)) ⟨vc, ?_⟩
    rw [ck, yr_1 hr hc64]
    refine br_c (fun hP => ?_) (fun hP => ⟨vc, nm_e (nm_r (nI_1 c) ?_)⟩)
    · refine zY_hasNear _ f a_on aS aM an hr hc64 m true (fun z => br_f (by decide) ⟨vc, nm_e (nm_r (nI_1 c) ?_)⟩) (fun z => br_t rfl ⟨vc, nm_e (nm_r (nI_1 c) ?_)⟩)
      · exact ih (c + 1) n _ (by omega) (by omega) (yp_s hp ⟨fun _ => rfl, fun y => absurd ((hN c hc64).mpr (Or.inr z)) y⟩)
      · exact ih (c + 1) n _ (by omega) (by omega) (yp_s hp ⟨fun y => absurd ((hN c hc64).mp y) (fun w => w.elim hP z), fun _ => rfl⟩)
    · exact ih (c + 1) n _ (by omega) (by omega) (yp_s hp ⟨fun _ => rfl, fun y => absurd ((hN c hc64).mpr (Or.inl (Classical.not_not.mp hP))) y⟩)
theorem zY_shrink_l (post : Int32 → SY → Prop) (hr : yr P a_on) (m : Bool) (N : Nat → Prop) (hN : ∀ c, c < 64 → (N c ↔ P c ∧ ¬ ∃ i, i < 9 ∧ hn_I m i ∧ (gd_Q P (10 * (c / 8 + i / 3) + (c % 8 + i % 3)) ↔ false = true))) (f : Int32) (aS aM : Nat → Int32) (h : ∀ a an, yr N a → post (nI (yd P N 64)) (f, a, aS, aM, an)) : ∀ t c n an, c + t = 64 → t < n → yp N c an → wY_shrink_12 post (md m) f n (nI c) a_on aS aM an := by
  intro t
  induction t with
  | zero =>
    intro c n an hc hn hp
    obtain ⟨n, rfl⟩ : ∃ j, n = j + 1 := ⟨n - 1, by omega⟩
    have e : c = 64 := by omega
    subst e
    exact br_t (show (64 : Int32) ≤ nI 64 by decide) (zY_take _ f a_on aS aM an hr hp (fun a ha => h a an ha))
  | succ t ih =>
    intro c n an hc hn hp
    obtain ⟨n, rfl⟩ : ∃ j, n = j + 1 := ⟨n - 1, by omega⟩
    have hc64 : c < 64 := by omega
    have ck : (nI c).toNatClampNeg = c := nI_clamp (by omega)
    have vc : vp_in (nI c) 64 := vp_in_nI (by omega) (by omega)
    refine br_f (nI_ge (b := 64) (by omega) (by decide)) ⟨vc, ?_⟩
    rw [ck, yr_1 hr hc64]
    refine br_c (fun hP => ⟨vc, nm_e (nm_r (nI_1 c) ?_)⟩) (fun hP => ?_)
    · exact ih (c + 1) n _ (by omega) (by omega) (yp_s hp ⟨fun y => absurd ((hN c hc64).mp y).1 hP, fun _ => rfl⟩)
    · have hP' : P c := Classical.not_not.mp hP
      refine zY_hasNear _ f a_on aS aM an hr hc64 m false (fun z => br_f (by decide) ⟨vc, nm_e (nm_r (nI_1 c) ?_)⟩) (fun z => br_t rfl ⟨vc, nm_e (nm_r (nI_1 c) ?_)⟩)
      · exact ih (c + 1) n _ (by omega) (by omega) (yp_s hp ⟨fun y => absurd z ((hN c hc64).mp y).2, fun _ => rfl⟩)
      · exact ih (c + 1) n _ (by omega) (by omega) (yp_s hp ⟨fun _ => rfl, fun y => absurd ((hN c hc64).mpr ⟨hP', z⟩) y⟩)
end
/-! ===== near cells by their nine places ===== -/
theorem ng_g8 {c i : Nat} (hc : c < 64) (hi : i < 9) (hb : 1 ≤ c % 8 + i % 3 ∧ c % 8 + i % 3 ≤ 8 ∧ 1 ≤ c / 8 + i / 3 ∧ c / 8 + i / 3 ≤ 8) (h4 : i ≠ 4) : gd_n8 (8 * (c / 8 + i / 3 - 1) + (c % 8 + i % 3 - 1)) c := by
  obtain ⟨X, hX⟩ : ∃ X, X = c / 8 + i / 3 - 1 := ⟨_, rfl⟩
  obtain ⟨Y, hY⟩ : ∃ Y, Y = c % 8 + i % 3 - 1 := ⟨_, rfl⟩
  rw [← hX, ← hY]
  have e1 : (8 * X + Y) / 8 = X := by omega
  have e2 : (8 * X + Y) % 8 = Y := by omega
  unfold gd_n8
  rw [e1, e2]
  have hx : i % 3 = 0 ∨ i % 3 = 1 ∨ i % 3 = 2 := by omega
  have hy : i / 3 = 0 ∨ i / 3 = 1 ∨ i / 3 = 2 := by omega
  rcases hx with hx | hx | hx <;> rcases hy with hy | hy | hy <;> rw [hx] at hY hb <;> rw [hy] at hX hb <;> omega
theorem ng_g4 {c i : Nat} (hc : c < 64) (hi : i < 9) (hb : 1 ≤ c % 8 + i % 3 ∧ c % 8 + i % 3 ≤ 8 ∧ 1 ≤ c / 8 + i / 3 ∧ c / 8 + i / 3 ≤ 8) (h4 : i % 2 = 1) : gd_n4 (8 * (c / 8 + i / 3 - 1) + (c % 8 + i % 3 - 1)) c := by
  obtain ⟨X, hX⟩ : ∃ X, X = c / 8 + i / 3 - 1 := ⟨_, rfl⟩
  obtain ⟨Y, hY⟩ : ∃ Y, Y = c % 8 + i % 3 - 1 := ⟨_, rfl⟩
  rw [← hX, ← hY]
  have e1 : (8 * X + Y) / 8 = X := by omega
  have e2 : (8 * X + Y) % 8 = Y := by omega
  unfold gd_n4
  rw [e1, e2]
  have hx : i % 3 = 0 ∨ i % 3 = 1 ∨ i % 3 = 2 := by omega
  have hy : i / 3 = 0 ∨ i / 3 = 1 ∨ i / 3 = 2 := by omega
  rcases hx with hx | hx | hx <;> rcases hy with hy | hy | hy <;> rw [hx] at hY hb <;> rw [hy] at hX hb <;> omega
theorem ng_on {P : Nat → Prop} {c : Nat} (hc : c < 64) (m : Bool) : (∃ i, i < 9 ∧ hn_I m i ∧ (gd_Q P (10 * (c / 8 + i / 3) + (c % 8 + i % 3)) ↔ true = true)) ↔ ∃ d, (d < 64 ∧ P d) ∧ gd_nr m d c := by
  constructor
  · rintro ⟨i, hi, hI, hQ⟩
    obtain ⟨hb, hP⟩ := (ps_q (by omega) (by omega)).mp (hQ.mpr rfl)
    refine ⟨_, ⟨by omega, hP⟩, ?_⟩
    cases m with
    | true =>
      refine gd_nr_t.mpr ?_
      have hI' : i ≠ 4 := by
        rcases hI with z | z
        · omega
        · exact z.2
      exact ng_g8 hc hi (by omega) hI'
    | false =>
      refine gd_nr_f.mpr ?_
      have hI' : i % 2 = 1 := by
        rcases hI with z | z
        · exact z
        · exact Bool.noConfusion z.1
      exact ng_g4 hc hi (by omega) hI'
  · rintro ⟨d, ⟨hd, hP⟩, hn⟩
    have h8 : d ≠ c ∧ d % 8 ≤ c % 8 + 1 ∧ c % 8 ≤ d % 8 + 1 ∧ d / 8 ≤ c / 8 + 1 ∧ c / 8 ≤ d / 8 + 1 := by
      cases m with
      | true => exact gd_nr_t.mp hn
      | false =>
        have := gd_nr_f.mp hn
        unfold gd_n4 at this
        omega
    have e1 : (3 * (d / 8 + 1 - c / 8) + (d % 8 + 1 - c % 8)) / 3 = d / 8 + 1 - c / 8 := by omega
    have e2 : (3 * (d / 8 + 1 - c / 8) + (d % 8 + 1 - c % 8)) % 3 = d % 8 + 1 - c % 8 := by omega
    refine ⟨3 * (d / 8 + 1 - c / 8) + (d % 8 + 1 - c % 8), by omega, ?_, ⟨fun _ => rfl, fun _ => ?_⟩⟩
    · cases m with
      | true => exact Or.inr ⟨rfl, by omega⟩
      | false =>
        have := gd_nr_f.mp hn
        unfold gd_n4 at this
        exact Or.inl (by omega)
    · rw [e1, e2, ps_q (by omega) (by omega)]
      refine ⟨by omega, ?_⟩
      rw [show 8 * (c / 8 + (d / 8 + 1 - c / 8) - 1) + (c % 8 + (d % 8 + 1 - c % 8) - 1) = d by omega]
      exact hP
theorem ng_off {P : Nat → Prop} {c : Nat} (hc : c < 64) (m : Bool) : (∃ i, i < 9 ∧ hn_I m i ∧ (gd_Q P (10 * (c / 8 + i / 3) + (c % 8 + i % 3)) ↔ false = true)) ↔ gd_ed c ∨ ∃ d, (d < 64 ∧ ¬ P d) ∧ gd_nr m d c := by
  constructor
  · rintro ⟨i, hi, hI, hQ⟩
    by_cases he : gd_ed c
    · exact Or.inl he
    · right
      unfold gd_ed at he
      have hnQ : ¬ gd_Q P (10 * (c / 8 + i / 3) + (c % 8 + i % 3)) := fun z => Bool.noConfusion (hQ.mp z)
      rw [ps_q (by omega) (by omega)] at hnQ
      have hP : ¬ P (8 * (c / 8 + i / 3 - 1) + (c % 8 + i % 3 - 1)) := fun z => hnQ ⟨by omega, z⟩
      refine ⟨_, ⟨by omega, hP⟩, ?_⟩
      cases m with
      | true =>
        refine gd_nr_t.mpr ?_
        have hI' : i ≠ 4 := by
          rcases hI with z | z
          · omega
          · exact z.2
        exact ng_g8 hc hi (by omega) hI'
      | false =>
        refine gd_nr_f.mpr ?_
        have hI' : i % 2 = 1 := by
          rcases hI with z | z
          · exact z
          · exact Bool.noConfusion z.1
        exact ng_g4 hc hi (by omega) hI'
  · intro h
    have key : ∃ i, i < 9 ∧ hn_I m i ∧ ¬ gd_Q P (10 * (c / 8 + i / 3) + (c % 8 + i % 3)) := by
      rcases h with he | ⟨d, ⟨hd, hP⟩, hn⟩
      · unfold gd_ed at he
        rcases he with z | z | z | z
        · exact ⟨3, by omega, Or.inl rfl, fun y => by rw [ps_q (by omega) (by omega)] at y; omega⟩
        · exact ⟨5, by omega, Or.inl rfl, fun y => by rw [ps_q (by omega) (by omega)] at y; omega⟩
        · exact ⟨1, by omega, Or.inl rfl, fun y => by rw [ps_q (by omega) (by omega)] at y; omega⟩
        · exact ⟨7, by omega, Or.inl rfl, fun y => by rw [ps_q (by omega) (by omega)] at y; omega⟩
      · obtain ⟨i, h1, h2, h3⟩ := (ng_on (P := fun c => ¬ P c) hc m).mpr ⟨d, ⟨hd, hP⟩, hn⟩
        have q := h3.mpr rfl
        rw [ps_q (by omega) (by omega)] at q
        exact ⟨i, h1, h2, fun y => by rw [ps_q (by omega) (by omega)] at y; exact q.2 y.2⟩
    obtain ⟨i, h1, h2, h3⟩ := key
    exact ⟨i, h1, h2, ⟨fun y => absurd y h3, fun y => Bool.noConfusion y⟩⟩
end
section
/-! the squares of two by two cells; cells; edge -/
def iI (x : Int) : Int32 := Int32.ofInt x
theorem iI_n (n : Nat) : nI n = iI (n : Int) := by
  apply Int32.toBitVec_inj.mp
  show BitVec.ofNat 32 n = BitVec.ofInt 32 (n : Int)
  exact (BitVec.ofInt_natCast 32 n).symm
theorem iI_a (a b : Int) : iI a + iI b = iI (a + b) := (Int32.ofInt_add a b).symm
theorem iI_s (a b : Int) : iI a - iI b = iI (a - b) := (Int32.ofInt_sub a b).symm
theorem iI_m1 : (-1 : Int32) = iI (-1) := by decide
theorem iI_d : ∀ k : Nat, k < 129 → iI (4 * ((k : Int) - 64)) / 4 = iI ((k : Int) - 64) := by decide +kernel
theorem iI_div {e : Int} (h1 : -64 ≤ e) (h2 : e ≤ 64) : iI (4 * e) / 4 = iI e := by
  have := iI_d (e + 64).toNat (by omega)
  rw [show (((e + 64).toNat : Nat) : Int) - 64 = e by omega] at this
  exact this
theorem ps_s (i : Nat) : nI i - 1 + 1 = nI (i + 1) - 1 := by
  rw [nI_pred]
  exact Int32.sub_add_cancel _ _
theorem ps_q8 {i : Nat} (h : i < 9) : ¬ (8 : Int32) ≤ nI i - 1 := fun z => by have := (ps_8 i (by omega)).mp z; omega
theorem lc_q_eq (m : Bool) (P : Nat → Prop) (i j : Nat) : lc_q m P i j = lc_wt m (cc_i (gd_Q P (10 * j + i))) (cc_i (gd_Q P (10 * j + (i + 1)))) (cc_i (gd_Q P (10 * (j + 1) + i))) (cc_i (gd_Q P (10 * (j + 1) + (i + 1)))) := by
  unfold lc_q
  rw [show 10 * j + (i + 1) = 10 * j + i + 1 by omega, show 10 * (j + 1) + i = 10 * j + i + 10 by omega, show 10 * (j + 1) + (i + 1) = 10 * j + i + 11 by omega]
theorem zX_quad1 (post : Int32 → Prop) (J : Int32 → Int32 → Prop) (m : Bool) (f : Int64) (a_far : Nat → Int32) (n i j : Nat) (S : Int) (hi : i < 9) (hj : j < 9) (h : wX_quads_13 post J (md m) (nI j - 1) f a_far n (iI (S + lc_q m (xs f) i j)) (nI (i + 1) - 1)) : wX_quads_13 post J (md m) (nI j - 1) f a_far (n + 1) (iI S) (nI i - 1) := by
  refine br_f (ps_q8 hi) ?_
  rw [ps_s i, ps_s j]
  refine zX_cellAt _ f a_far (by omega) (by omega) ?_
  refine zX_cellAt _ f a_far (by omega) (by omega) ?_
  refine zX_cellAt _ f a_far (by omega) (by omega) ?_
  refine zX_cellAt _ f a_far (by omega) (by omega) ?_
  rw [lc_q_eq] at h
  have la := lc_lt2 (gd_Q (xs f) (10 * j + i))
  have lb := lc_lt2 (gd_Q (xs f) (10 * j + (i + 1)))
  have lc := lc_lt2 (gd_Q (xs f) (10 * (j + 1) + i))
  have ld := lc_lt2 (gd_Q (xs f) (10 * (j + 1) + (i + 1)))
  generalize cc_i (gd_Q (xs f) (10 * j + i)) = a at *
  generalize cc_i (gd_Q (xs f) (10 * j + (i + 1))) = b at *
  generalize cc_i (gd_Q (xs f) (10 * (j + 1) + i)) = c at *
  generalize cc_i (gd_Q (xs f) (10 * (j + 1) + (i + 1))) = d at *
  have K : ∀ w, lc_wt m a b c d = w → wX_quads_13 post J (md m) (nI j - 1) f a_far n (iI (S + w)) (nI (i + 1) - 1) := fun w e => e ▸ h
  refine nm_r (e' := nI (a + b + c + d)) (by rw [nI_add, nI_add, nI_add]) ?_
  refine pk_eq (a + b + c + d) 1 (fun z1 => ?_) (fun z1 => pk_eq (a + b + c + d) 3 (fun z3 => ?_) (fun z3 => pk_eq (a + b + c + d) 2 (fun z2 => pk_eq a d (fun e => ?_) (fun e => ?_)) (fun z2 => ?_)))
  · refine nm_r (e' := iI (S + 1)) (iI_a S 1) (nm_e (K 1 ?_))
    unfold lc_wt
    rw [if_pos z1]
  · refine nm_r (e' := iI (S + (-1))) (by rw [iI_m1, iI_a]) (nm_e (K (-1) ?_))
    unfold lc_wt
    rw [if_neg z1, if_pos z3]
  · cases m with
    | false =>
      refine br_t rfl (nm_r (e' := iI (S + 2)) (iI_a S 2) (nm_e (K 2 ?_)))
      unfold lc_wt
      rw [if_neg z1, if_neg z3, if_pos ⟨z2, e⟩, if_pos rfl]
    | true =>
      refine br_f (by decide) (nm_r (e' := iI (S + (-2))) (iI_s S 2) (nm_e (K (-2) ?_)))
      unfold lc_wt
      rw [if_neg z1, if_neg z3, if_pos ⟨z2, e⟩, if_neg (by decide)]
  · have k := K 0 (by unfold lc_wt; rw [if_neg z1, if_neg z3, if_neg (fun q => e q.2)])
    rw [Int.add_zero] at k
    exact nm_e k
  · have k := K 0 (by unfold lc_wt; rw [if_neg z1, if_neg z3, if_neg (fun q => z2 q.1)])
    rw [Int.add_zero] at k
    exact nm_e k
theorem zX_quadR (post : Int32 → Prop) (J : Int32 → Int32 → Prop) (m : Bool) (f : Int64) (a_far : Nat → Int32) (j : Nat) (S : Int) (hj : j < 9) (h : J (iI (S + lc_sm (fun i => lc_q m (xs f) i j) 9)) (nI (j + 1) - 1)) : ∀ t i n, i + t = 9 → t < n → wX_quads_13 post J (md m) (nI j - 1) f a_far n (iI (S + lc_sm (fun i => lc_q m (xs f) i j) i)) (nI i - 1) := by
  intro t
  induction t with
  | zero =>
    intro i n hi hn
    obtain ⟨n, rfl⟩ : ∃ j, n = j + 1 := ⟨n - 1, by omega⟩
    have e : i = 9 := by omega
    subst e
    exact br_t (show (8 : Int32) ≤ nI 9 - 1 by decide) (nm_r (ps_s j) h)
  | succ t ih =>
    intro i n hi hn
    obtain ⟨n, rfl⟩ : ∃ j, n = j + 1 := ⟨n - 1, by omega⟩
    refine zX_quad1 post J m f a_far n i j _ (by omega) hj ?_
    have k := ih (i + 1) n (by omega) (by omega)
    rw [lc_sm_s, ← Int.add_assoc] at k
    exact k
theorem zX_quads_l (post : Int32 → Prop) (m : Bool) (f : Int64) (a_far : Nat → Int32) (h : post (iI (lc_s2 (lc_q m (xs f)) 9 9))) : ∀ t j n, j + t = 9 → t < n → wX_quads_4 post (md m) f a_far n (iI (lc_s2 (lc_q m (xs f)) 9 j)) (nI j - 1) := by
  intro t
  induction t with
  | zero =>
    intro j n hj hn
    obtain ⟨n, rfl⟩ : ∃ j, n = j + 1 := ⟨n - 1, by omega⟩
    have e : j = 9 := by omega
    subst e
    exact br_t (show (8 : Int32) ≤ nI 9 - 1 by decide) h
  | succ t ih =>
    intro j n hj hn
    obtain ⟨n, rfl⟩ : ∃ j, n = j + 1 := ⟨n - 1, by omega⟩
    refine br_f (ps_q8 (by omega)) ⟨10, ?_⟩
    have k := zX_quadR post (wX_quads_4 post (md m) f a_far n) m f a_far j (lc_s2 (lc_q m (xs f)) 9 j) (by omega) (ih (j + 1) n (by omega) (by omega)) 9 0 10 (by omega) (by omega)
    rw [show lc_sm (fun i => lc_q m (xs f) i j) 0 = 0 from rfl, Int.add_zero] at k
    exact k
theorem zX_quads (post : Int32 → Prop) (m : Bool) (f : Int64) (a_far : Nat → Int32) (h : post (iI (4 * ((gd_pc m (xs f) : Int) - (gd_ho (!m) (xs f) : Int))))) : wpX_quads post (f, a_far) (md m) := by
  rw [← lc_main] at h
  exact ⟨10, zX_quads_l post m f a_far h 9 0 10 (by omega) (by omega)⟩
theorem pc_le (m : Bool) (P : Nat → Prop) : gd_pc m P ≤ 64 := cc_max _ _
theorem ho_le (m : Bool) (P : Nat → Prop) : gd_ho m P ≤ 64 := cc_max _ _
theorem zX_balance (post : Int32 → Prop) (m : Bool) (f : Int64) (a_far : Nat → Int32) (h : post (nI (gd_pc m (xs f)) - nI (gd_ho (!m) (xs f)))) : wpX_balance post (f, a_far) (md m) := by
  unfold wpX_balance
  dsimp only
  refine zX_badM _ _ _ (br_t rfl ?_)
  refine zX_quads _ m f a_far ⟨by decide, ?_⟩
  have h1 := pc_le m (xs f)
  have h2 := ho_le (!m) (xs f)
  rw [iI_div (by omega) (by omega), ← iI_s, ← iI_n, ← iI_n]
  exact h
theorem zX_holes (post : Int32 → Prop) (m : Bool) (f : Int64) (a_far : Nat → Int32) (h : post (nI (gd_ho (!m) (xs f)))) : wpX_holes post (f, a_far) (md m) := by
  unfold wpX_holes
  dsimp only
  refine zX_badM _ _ _ (br_t rfl ?_)
  refine zX_pieces _ f a_far m ?_
  refine zX_quads _ m f a_far ⟨by decide, ?_⟩
  have h1 := pc_le m (xs f)
  have h2 := ho_le (!m) (xs f)
  rw [iI_div (by omega) (by omega), iI_n, iI_s, show (gd_pc m (xs f) : Int) - ((gd_pc m (xs f) : Int) - (gd_ho (!m) (xs f) : Int)) = (gd_ho (!m) (xs f) : Int) by omega, ← iI_n]
  exact h
/-! ===== how many cells are on ===== -/
theorem zY_cells_l (post : Int32 → Prop) (f_count : Int32) (a_on a_steps a_met a_next : Nat → Int32) {P : Nat → Prop} (hr : yr P a_on) (h : post (nI (cc_n P 64))) : ∀ t c n, c + t = 64 → t < n → wY_cells_4 post f_count a_on a_steps a_met a_next n (nI (cc_n P c)) (nI c) := by
  intro t
  induction t with
  | zero =>
    intro c n hc hn
    obtain ⟨n, rfl⟩ : ∃ j, n = j + 1 := ⟨n - 1, by omega⟩
    have e : c = 64 := by omega
    subst e
    exact br_t (show (64 : Int32) ≤ nI 64 by decide) h
  | succ t ih =>
    intro c n hc hn
    obtain ⟨n, rfl⟩ : ∃ j, n = j + 1 := ⟨n - 1, by omega⟩
    have ck : (nI c).toNatClampNeg = c := nI_clamp (by omega)
    refine br_f (nI_ge (b := 64) (by omega) (by decide)) ⟨vp_in_nI (by omega) (by omega), ?_⟩
    rw [ck, yr_1 hr (show c < 64 by omega)]
    have k := ih (c + 1) n (by omega) (by omega)
    refine br_c (fun z => nm_r (nI_1 c) ?_) (fun z => nm_r (nI_1 _) (nm_r (nI_1 c) ?_))
    · rw [cc_n_f z] at k; exact k
    · rw [cc_n_t (Classical.not_not.mp z)] at k; exact k
theorem zY_cells (post : Int32 → Prop) (f_count : Int32) (a_on a_steps a_met a_next : Nat → Int32) {P : Nat → Prop} (hr : yr P a_on) (h : post (nI (cc_n P 64))) : wpY_cells post (f_count, a_on, a_steps, a_met, a_next) :=
  ⟨65, zY_cells_l post f_count a_on a_steps a_met a_next hr h 64 0 65 (by omega) (by omega)⟩
/-! ===== the edge ===== -/
def eg_L (P : Nat → Prop) (c : Nat) : Prop := gd_Q P (10 * (c / 8 + 1) + c % 8)
def eg_R (P : Nat → Prop) (c : Nat) : Prop := gd_Q P (10 * (c / 8 + 1) + (c % 8 + 2))
def eg_U (P : Nat → Prop) (c : Nat) : Prop := gd_Q P (10 * (c / 8) + (c % 8 + 1))
def eg_D (P : Nat → Prop) (c : Nat) : Prop := gd_Q P (10 * (c / 8 + 2) + (c % 8 + 1))
noncomputable def eg_s (P : Nat → Prop) (n : Nat) : Nat := cc_n (fun c => P c ∧ ¬ eg_L P c) n + cc_n (fun c => P c ∧ ¬ eg_R P c) n + cc_n (fun c => P c ∧ ¬ eg_U P c) n + cc_n (fun c => P c ∧ ¬ eg_D P c) n
theorem eg_f {P : Nat → Prop} {c : Nat} (h : ¬ P c) : eg_s P (c + 1) = eg_s P c := by
  unfold eg_s
  rw [cc_n_f (fun z => h z.1), cc_n_f (fun z => h z.1), cc_n_f (fun z => h z.1), cc_n_f (fun z => h z.1)]
theorem eg_i {P : Nat → Prop} {c : Nat} (E : Nat → Prop) (h : P c) : cc_i (P c ∧ ¬ E c) = cc_i (¬ E c) := cc_i_congr ⟨fun z => z.2, fun z => ⟨h, z⟩⟩
theorem eg_t {P : Nat → Prop} {c : Nat} (h : P c) : eg_s P (c + 1) = eg_s P c + cc_i (¬ eg_L P c) + cc_i (¬ eg_R P c) + cc_i (¬ eg_U P c) + cc_i (¬ eg_D P c) := by
  unfold eg_s
  rw [cc_n_s, cc_n_s, cc_n_s, cc_n_s, eg_i (eg_L P) h, eg_i (eg_R P) h, eg_i (eg_U P) h, eg_i (eg_D P) h]
  omega
theorem zY_edge_l (post : Int32 → Prop) (f_count : Int32) (a_on a_steps a_met a_next : Nat → Int32) {P : Nat → Prop} (hr : yr P a_on) (h : post (nI (eg_s P 64))) : ∀ t c n, c + t = 64 → t < n → wY_edge_4 post f_count a_on a_steps a_met a_next n (nI (eg_s P c)) (nI c) := by
  intro t
  induction t with
  | zero =>
    intro c n hc hn
    obtain ⟨n, rfl⟩ : ∃ j, n = j + 1 := ⟨n - 1, by omega⟩
    have e : c = 64 := by omega
    subst e
    exact br_t (show (64 : Int32) ≤ nI 64 by decide) h
  | succ t ih =>
    intro c n hc hn
    obtain ⟨n, rfl⟩ : ∃ j, n = j + 1 := ⟨n - 1, by omega⟩
    have hc64 : c < 64 := by omega
    have ck : (nI c).toNatClampNeg = c := nI_clamp (by omega)
    have k8 : ¬ (8 : Int32) = 0 := by decide
    refine br_f (nI_ge (b := 64) (by omega) (by decide)) ⟨vp_in_nI (by omega) (by omega), ?_⟩
    rw [ck, yr_1 hr hc64]
    have k := ih (c + 1) n (by omega) (by omega)
    refine br_c (fun z => nm_r (nI_1 c) ?_) (fun z => ⟨k8, nm_r (e' := nI (c % 8 + 1) - 1) (by rw [wk_r8 hc64, nI_pred]) ⟨k8, nm_r (e' := nI (c / 8 + 1) - 1) (by rw [wk_d8 hc64, nI_pred]) ?_⟩⟩)
    · rw [eg_f z] at k; exact k
    · rw [eg_t (Classical.not_not.mp z)] at k
      have s4 : ∀ s1 s2 s3 : Nat, s3 + cc_i (¬ eg_D P c) = eg_s P c + cc_i (¬ eg_L P c) + cc_i (¬ eg_R P c) + cc_i (¬ eg_U P c) + cc_i (¬ eg_D P c) → s1 + s2 = s3 → wY_edge_84 post (wY_edge_4 post f_count a_on a_steps a_met a_next n) (nI c) (nI (c % 8 + 1) - 1) (nI (c / 8 + 1) - 1) (nI s2) (nI s1) f_count a_on a_steps a_met a_next := by
        intro s1 s2 s3 e e2
        unfold wY_edge_84
        rw [ps_s (c / 8 + 1), nI_add, e2]
        refine zY_isOn _ _ _ _ _ _ hr (by omega) (by omega) (fun q => br_f (by decide) (nm_r (e' := nI s3) ?_ (nm_r (nI_1 c) ?_))) (fun q => br_t rfl (nm_r (e' := nI (s3 + 1)) (nI_1 s3) (nm_r (nI_1 c) ?_)))
        · exact Int32.add_zero _
        · rw [← e, cc_i_f (p := ¬ eg_D P c) (fun w => w q)] at k
          exact k
        · rw [← e, cc_i_t (p := ¬ eg_D P c) q] at k
          exact k
      have s3 : ∀ s1 s2 s3 : Nat, s3 = eg_s P c + cc_i (¬ eg_L P c) + cc_i (¬ eg_R P c) → s1 + s2 = s3 → wY_edge_66 post (wY_edge_4 post f_count a_on a_steps a_met a_next n) (nI c) (nI (c % 8 + 1) - 1) (nI (c / 8 + 1) - 1) (nI s2) (nI s1) f_count a_on a_steps a_met a_next := by
        intro s1 s2 s3 e e2
        unfold wY_edge_66
        rw [nI_add, e2]
        have e0 : nI (c / 8 + 1) - 1 - 1 = nI (c / 8) - 1 := by rw [nI_pred]
        have g : ∀ w, cc_i (¬ eg_U P c) = w → wY_edge_84 post (wY_edge_4 post f_count a_on a_steps a_met a_next n) (nI c) (nI (c % 8 + 1) - 1) (nI (c / 8 + 1) - 1) (nI w) (nI s3) f_count a_on a_steps a_met a_next := fun w hw => s4 s3 w (s3 + w) (by omega) rfl
        have main : wpY_isOn (fun r_23 => (((r_23 = 0 → (wY_edge_84 post (wY_edge_4 post f_count a_on a_steps a_met a_next n) (nI c) (nI (c % 8 + 1) - 1) (nI (c / 8 + 1) - 1) 1 (nI s3) f_count a_on a_steps a_met a_next)) ∧ (¬ r_23 = 0 → (wY_edge_84 post (wY_edge_4 post f_count a_on a_steps a_met a_next n) (nI c) (nI (c % 8 + 1) - 1) (nI (c / 8 + 1) - 1) 0 (nI s3) f_count a_on a_steps a_met a_next))))) (f_count, a_on, a_steps, a_met, a_next) (nI (c % 8 + 1) - 1) (nI (c / 8) - 1) :=
          zY_isOn _ _ _ _ _ _ hr (by omega) (by omega) (fun q => br_f (by decide) (g 0 (cc_i_f (fun w => w q)))) (fun q => br_t rfl (g 1 (cc_i_t q)))
        rw [← e0] at main
        exact main
      have s2 : ∀ s2, s2 = cc_i (¬ eg_L P c) → wY_edge_48 post (wY_edge_4 post f_count a_on a_steps a_met a_next n) (nI c) (nI (c % 8 + 1) - 1) (nI (c / 8 + 1) - 1) (nI s2) (nI (eg_s P c)) f_count a_on a_steps a_met a_next := by
        intro s2 e
        unfold wY_edge_48
        rw [nI_add, ps_s (c % 8 + 1)]
        have g : ∀ w, cc_i (¬ eg_R P c) = w → wY_edge_66 post (wY_edge_4 post f_count a_on a_steps a_met a_next n) (nI c) (nI (c % 8 + 1) - 1) (nI (c / 8 + 1) - 1) (nI w) (nI (eg_s P c + s2)) f_count a_on a_steps a_met a_next := fun w hw => s3 (eg_s P c + s2) w (eg_s P c + s2 + w) (by omega) rfl
        exact zY_isOn _ _ _ _ _ _ hr (by omega) (by omega) (fun q => br_f (by decide) (g 0 (cc_i_f (fun w => w q)))) (fun q => br_t rfl (g 1 (cc_i_t q)))
      have e0 : nI (c % 8 + 1) - 1 - 1 = nI (c % 8) - 1 := by rw [nI_pred]
      rw [e0]
      exact zY_isOn _ _ _ _ _ _ hr (by omega) (by omega) (fun q => br_f (by decide) (s2 0 (cc_i_f (fun w => w q)).symm)) (fun q => br_t rfl (s2 1 (cc_i_t q).symm))
theorem zY_edgeM (post : Int32 → Prop) (f_count : Int32) (a_on a_steps a_met a_next : Nat → Int32) {P : Nat → Prop} (hr : yr P a_on) (h : post (nI (eg_s P 64))) : wpY_edge post (f_count, a_on, a_steps, a_met, a_next) :=
  ⟨65, zY_edge_l post f_count a_on a_steps a_met a_next hr h 64 0 65 (by omega) (by omega)⟩
theorem eg_sh {T : Nat → Prop} (k : Nat) (hk : k ≤ 64) (h : ∀ c, 64 - k ≤ c → c < 64 → ¬ T c) : cc_n (fun c => k ≤ c ∧ T (c - k)) 64 = cc_n T 64 := by
  have e1 : cc_n (fun c => k ≤ c ∧ T (c - k)) (k + (64 - k)) = cc_n T (64 - k) := by
    rw [pp_app, cc_none (fun i hi z => by omega), Nat.zero_add]
    refine cc_congr (fun i _ => ?_)
    rw [show k + i - k = i by omega]
    exact ⟨fun z => z.2, fun z => ⟨by omega, z⟩⟩
  have e2 : cc_n T ((64 - k) + k) = cc_n T (64 - k) := by
    rw [pp_app, cc_none (p := fun i => T (64 - k + i)) (fun i hi => h _ (by omega) (by omega)), Nat.add_zero]
  rw [show k + (64 - k) = 64 by omega] at e1
  rw [show 64 - k + k = 64 by omega] at e2
  rw [e1, e2]
theorem eg_sp (P E : Nat → Prop) : cc_n (fun c => P c ∧ ¬ E c) 64 + cc_n (fun c => P c ∧ E c) 64 = cc_n P 64 := by
  have := cc_split P E 64
  omega
theorem eg_LR (P : Nat → Prop) : cc_n (fun c => P c ∧ eg_L P c) 64 = cc_n (fun c => P c ∧ eg_R P c) 64 := by
  rw [← eg_sh (T := fun c => P c ∧ eg_R P c) 1 (by omega) (fun c h1 h2 z => by
    have := ((ps_q (by omega) (by omega)).mp z.2).1
    omega)]
  refine cc_congr (fun c hc => ?_)
  unfold eg_L eg_R
  constructor
  · intro z
    have q := (ps_q (by omega) (by omega)).mp z.2
    have e1 : (c - 1) / 8 = c / 8 := by omega
    have e2 : (c - 1) % 8 = c % 8 - 1 := by omega
    refine ⟨by omega, ?_, ?_⟩
    · rw [show c - 1 = 8 * (c / 8 + 1 - 1) + (c % 8 - 1) by omega]; exact q.2
    · rw [e1, e2, ps_q (by omega) (by omega)]
      refine ⟨by omega, ?_⟩
      rw [show 8 * (c / 8 + 1 - 1) + (c % 8 - 1 + 2 - 1) = c by omega]
      exact z.1
  · rintro ⟨h1, h2, h3⟩
    have q := (ps_q (by omega) (by omega)).mp h3
    have e : 8 * ((c - 1) / 8 + 1 - 1) + ((c - 1) % 8 + 2 - 1) = c := by omega
    rw [e] at q
    refine ⟨q.2, (ps_q (by omega) (by omega)).mpr ⟨by omega, ?_⟩⟩
    rw [show 8 * (c / 8 + 1 - 1) + (c % 8 - 1) = c - 1 by omega]
    exact h2
theorem eg_UD (P : Nat → Prop) : cc_n (fun c => P c ∧ eg_U P c) 64 = cc_n (fun c => P c ∧ eg_D P c) 64 := by
  rw [← eg_sh (T := fun c => P c ∧ eg_D P c) 8 (by omega) (fun c h1 h2 z => by
    have := ((ps_q (by omega) (by omega)).mp z.2).1
    omega)]
  refine cc_congr (fun c hc => ?_)
  unfold eg_U eg_D
  constructor
  · intro z
    have q := (ps_q (by omega) (by omega)).mp z.2
    have e1 : (c - 8) / 8 = c / 8 - 1 := by omega
    have e2 : (c - 8) % 8 = c % 8 := by omega
    refine ⟨by omega, ?_, ?_⟩
    · rw [show c - 8 = 8 * (c / 8 - 1) + (c % 8 + 1 - 1) by omega]; exact q.2
    · rw [e1, e2, ps_q (by omega) (by omega)]
      refine ⟨by omega, ?_⟩
      rw [show 8 * (c / 8 - 1 + 2 - 1) + (c % 8 + 1 - 1) = c by omega]
      exact z.1
  · rintro ⟨h1, h2, h3⟩
    have q := (ps_q (by omega) (by omega)).mp h3
    have e : 8 * ((c - 8) / 8 + 2 - 1) + ((c - 8) % 8 + 1 - 1) = c := by omega
    rw [e] at q
    refine ⟨q.2, (ps_q (by omega) (by omega)).mpr ⟨by omega, ?_⟩⟩
    rw [show 8 * (c / 8 - 1) + (c % 8 + 1 - 1) = c - 8 by omega]
    exact h2
theorem zX_edge (post : Int32 → Prop) (f : Int64) (a_far : Nat → Int32) (h : post (nI (eg_s (xs f) 64))) : wpX_edge post (f, a_far) := by
  have eA : xb_n (f &&& xg_r f) = cc_n (fun c => xs f c ∧ eg_L (xs f) c) 64 := by
    refine cc_congr (fun c hc => ?_)
    rw [xb_and, Bool.and_eq_true, xg_r_b f hc]
    unfold eg_L
    rw [ps_q (by omega) (by omega)]
    constructor
    · intro z
      refine ⟨z.1, by omega, ?_⟩
      rw [show 8 * (c / 8 + 1 - 1) + (c % 8 - 1) = c - 1 by omega]
      exact z.2.2.1
    · intro z
      have q := z.2.2
      rw [show 8 * (c / 8 + 1 - 1) + (c % 8 - 1) = c - 1 by omega] at q
      exact ⟨z.1, by omega, q, by omega⟩
  have eB : xb_n (f &&& (f <<< ((8 : Int32).toInt64 &&& 63))) = cc_n (fun c => xs f c ∧ eg_U (xs f) c) 64 := by
    refine cc_congr (fun c hc => ?_)
    have e : xb (f <<< ((8 : Int32).toInt64 &&& 63)) c = (decide (8 ≤ c) && xb f (c - 8)) := xb_shl (k := 8) (by omega) _ hc
    rw [xb_and, e, Bool.and_eq_true, Bool.and_eq_true, decide_eq_true_eq]
    unfold eg_U
    rw [ps_q (by omega) (by omega)]
    constructor
    · intro z
      refine ⟨z.1, by omega, ?_⟩
      rw [show 8 * (c / 8 - 1) + (c % 8 + 1 - 1) = c - 8 by omega]
      exact z.2.2
    · intro z
      have q := z.2.2
      rw [show 8 * (c / 8 - 1) + (c % 8 + 1 - 1) = c - 8 by omega] at q
      exact ⟨z.1, by omega, q⟩
  have eN : xb_n f = cc_n (xs f) 64 := rfl
  have s1 := eg_sp (xs f) (eg_L (xs f))
  have s2 := eg_sp (xs f) (eg_R (xs f))
  have s3 := eg_sp (xs f) (eg_U (xs f))
  have s4 := eg_sp (xs f) (eg_D (xs f))
  have t1 := eg_LR (xs f)
  have t2 := eg_UD (xs f)
  unfold eg_s at h
  refine nm_e (nm_e ?_)
  refine zX_ones _ _ _ (zX_ones _ _ _ (nm_e (zX_ones _ _ _ ?_)))
  have e1 : xb_n (f &&& ((f &&& 9187201950435737471) <<< ((1 : Int32).toInt64 &&& 63))) = cc_n (fun c => xs f c ∧ eg_L (xs f) c) 64 := eA
  rw [e1, eB, eN]
  have k : (4 : Int32) * nI (cc_n (xs f) 64) - 2 * (nI (cc_n (fun c => xs f c ∧ eg_L (xs f) c) 64) + nI (cc_n (fun c => xs f c ∧ eg_U (xs f) c) 64)) = nI (cc_n (fun c => xs f c ∧ ¬ eg_L (xs f) c) 64 + cc_n (fun c => xs f c ∧ ¬ eg_R (xs f) c) 64 + cc_n (fun c => xs f c ∧ ¬ eg_U (xs f) c) 64 + cc_n (fun c => xs f c ∧ ¬ eg_D (xs f) c) 64) := by
    show nI 4 * _ - nI 2 * _ = _
    rw [nI_add, pk_mul, pk_mul, pk_sub (by omega)]
    congr 1
    omega
  rw [k]
  exact h
end
section
/-! drawing: turn, line, box -/
/-- the array in the middle of a change: below k the new picture, from k on the old one -/
def tk (P N : Nat → Prop) (k : Nat) (a : Nat → Int32) : Prop := ∀ c, c < 64 → if c < k then (N c → a c = 1) ∧ (¬ N c → a c = 0) else (P c → a c = 1) ∧ (¬ P c → a c = 0)
theorem tk_lo {P N : Nat → Prop} {k : Nat} {a : Nat → Int32} (h : tk P N k a) {c : Nat} (hc : c < 64) (z : c < k) : (N c → a c = 1) ∧ (¬ N c → a c = 0) := by
  have := h c hc
  rw [if_pos z] at this
  exact this
theorem tk_hi {P N : Nat → Prop} {k : Nat} {a : Nat → Int32} (h : tk P N k a) {c : Nat} (hc : c < 64) (z : k ≤ c) : (P c → a c = 1) ∧ (¬ P c → a c = 0) := by
  have := h c hc
  rw [if_neg (by omega)] at this
  exact this
theorem tk_mk {P N : Nat → Prop} {k : Nat} {a : Nat → Int32} (h1 : ∀ c, c < 64 → c < k → (N c → a c = 1) ∧ (¬ N c → a c = 0)) (h2 : ∀ c, c < 64 → k ≤ c → (P c → a c = 1) ∧ (¬ P c → a c = 0)) : tk P N k a := by
  intro c hc
  by_cases z : c < k
  · rw [if_pos z]; exact h1 c hc z
  · rw [if_neg z]; exact h2 c hc (by omega)
theorem tk_cg {P N : Nat → Prop} {v : Int32} {c : Nat} (e : P c ↔ N c) (h : (P c → v = 1) ∧ (¬ P c → v = 0)) : (N c → v = 1) ∧ (¬ N c → v = 0) := ⟨fun z => h.1 (e.mpr z), fun z => h.2 (fun y => z (e.mp y))⟩
theorem tk_0 {P N : Nat → Prop} {k : Nat} {a : Nat → Int32} (h : yr P a) (e : ∀ c, c < k → (P c ↔ N c)) : tk P N k a := tk_mk (fun c hc z => tk_cg (e c z) (h c hc)) (fun c hc _ => h c hc)
theorem tk_end {P N : Nat → Prop} {k : Nat} {a : Nat → Int32} (h : tk P N k a) (e : ∀ c, c < 64 → k ≤ c → (P c ↔ N c)) : yr N a := by
  intro c hc
  by_cases z : c < k
  · exact tk_lo h hc z
  · exact tk_cg (e c hc (by omega)) (tk_hi h hc (by omega))
theorem tk_skip {P N : Nat → Prop} {k l : Nat} {a : Nat → Int32} (h : tk P N k a) (hl : k ≤ l) (e : ∀ c, k ≤ c → c < l → (P c ↔ N c)) : tk P N l a := by
  refine tk_mk (fun c hc z => ?_) (fun c hc z => tk_hi h hc (by omega))
  by_cases y : c < k
  · exact tk_lo h hc y
  · exact tk_cg (e c (by omega) z) (tk_hi h hc (by omega))
theorem tk_st {P N : Nat → Prop} {k : Nat} {a : Nat → Int32} {v : Int32} (h : tk P N k a) (hv : (N k → v = 1) ∧ (¬ N k → v = 0)) : tk P N (k + 1) (upd a k v) := by
  refine tk_mk (fun c hc z => ?_) (fun c hc z => ?_)
  · by_cases y : c = k
    · subst y; rw [pk_us]; exact hv
    · rw [pk_un y]; exact tk_lo h hc (by omega)
  · rw [pk_un (by omega)]; exact tk_hi h hc (by omega)
theorem tk_g {P N : Nat → Prop} {k : Nat} {a : Nat → Int32} (h : tk P N k a) (hk : k < 64) : a k = 0 ↔ ¬ P k := by
  have q := tk_hi h hk (Nat.le_refl k)
  by_cases z : P k
  · rw [q.1 z]; exact ⟨fun y => absurd y (by decide), fun y => absurd z y⟩
  · rw [q.2 z]; exact ⟨fun _ => z, fun _ => rfl⟩
theorem yd_skip {P N : Nat → Prop} {a b : Nat} (h : a ≤ b) (e : ∀ c, a ≤ c → c < b → (P c ↔ N c)) : yd P N a = yd P N b := by
  unfold yd
  obtain ⟨d, rfl⟩ : ∃ d, b = a + d := ⟨b - a, by omega⟩
  rw [pp_app, cc_none (p := fun i => ¬ (P (a + i) ↔ N (a + i))) (fun i hi z => z (e (a + i) (by omega) (by omega))), Nat.add_zero]
theorem yr_cg {P N : Nat → Prop} {a : Nat → Int32} (h : yr P a) (e : ∀ c, c < 64 → (P c ↔ N c)) : yr N a := fun c hc => tk_cg (e c hc) (h c hc)
theorem yd_cg {P N M : Nat → Prop} (e : ∀ c, c < 64 → (N c ↔ M c)) : yd P N 64 = yd P M 64 := cc_congr (fun c hc => not_congr ⟨fun z => z.trans (e c hc), fun z => z.trans (e c hc).symm⟩)
theorem xy_d (f g : Int64) : xb_n (f ^^^ g) = yd (xs f) (xs g) 64 := by
  refine cc_congr (fun c _ => ?_)
  unfold xs
  rw [xb_xor]
  cases xb f c <;> cases xb g c <;> decide
/-! ===== turn ===== -/
theorem zX_turn (post : Int32 → SX → Prop) (f : Int64) (a_far : Nat → Int32) {c : Nat} (hc : c < 64) (h : post (bo (!xb f c)) (f ^^^ ((1 : Int64) <<< ((nI c).toInt64 &&& 63)), a_far)) : wpX_turn post (f, a_far) (nI c) := by
  unfold wpX_turn
  dsimp only
  refine zX_badC _ _ hc (br_t rfl (nm_e ?_))
  rw [xb_tsI hc, xb_xor, xb_one hc hc, decide_eq_true rfl, Bool.xor_true]
  exact h
theorem tu_b (f : Int64) {c : Nat} (hc : c < 64) {i : Nat} (hi : i < 64) : xs (f ^^^ ((1 : Int64) <<< ((nI c).toInt64 &&& 63))) i ↔ (if i = c then ¬ xs f c else xs f i) := by
  unfold xs
  rw [xb_xor, xb_one hc hi]
  by_cases e : i = c
  · subst e
    rw [decide_eq_true rfl, if_pos rfl, Bool.xor_true]
    cases xb f i <;> decide
  · rw [decide_eq_false e, if_neg e, Bool.xor_false]
theorem zY_turn (post : Int32 → SY → Prop) (f_count : Int32) (a_on aS aM an : Nat → Int32) {P : Nat → Prop} (hr : yr P a_on) {c : Nat} (hc : c < 64) (h : ∀ a, yr (fun i => if i = c then ¬ P c else P i) a → (P c → post 0 (f_count, a, aS, aM, an)) ∧ (¬ P c → post 1 (f_count, a, aS, aM, an))) : wpY_turn post (f_count, a_on, aS, aM, an) (nI c) := by
  unfold wpY_turn
  dsimp only
  have ck : (nI c).toNatClampNeg = c := nI_clamp (by omega)
  have vc : vp_in (nI c) 64 := vp_in_nI (by omega) (by omega)
  have N : ∀ v : Int32, ((¬ P c) → v = 1) ∧ (¬ ¬ P c → v = 0) → yr (fun i => if i = c then ¬ P c else P i) (upd a_on c v) := by
    intro v hv i hi
    by_cases e : i = c
    · subst e
      rw [pk_us]
      dsimp only
      rw [if_pos rfl]
      exact hv
    · rw [pk_un e]
      dsimp only
      rw [if_neg e]
      exact hr i hi
  refine zY_isC _ _ hc (br_f (by decide) ⟨vc, ?_⟩)
  rw [ck, yr_1 hr hc]
  refine br_c (fun z => ?_) (fun z => ?_)
  · refine ⟨vc, nm_r (e' := upd a_on c 1) (by rw [ck]; rfl) ⟨vc, ?_⟩⟩
    rw [ck, pk_us]
    exact br_f (by decide) ((h _ (N 1 ⟨fun _ => rfl, fun y => absurd z y⟩)).2 z)
  · refine ⟨vc, nm_r (e' := upd a_on c 0) (by rw [ck]; rfl) ⟨vc, ?_⟩⟩
    rw [ck, pk_us]
    exact br_t rfl ((h _ (N 0 ⟨fun y => absurd y z, fun _ => rfl⟩)).1 (Classical.not_not.mp z))
/-! ===== line ===== -/
def ln_N (P : Nat → Prop) (y w : Nat) (c : Nat) : Prop := if c / 8 = y then w.testBit (c % 8) = true else P c
theorem ln_bit : ∀ w, w < 256 → ∀ k, k < 8 → (((nI w >>> (nI k &&& 31)) &&& 1 = 1) ↔ w.testBit k = true) := by decide +kernel
theorem ln_8 (y : Nat) : 8 * nI y = nI (8 * y) := pk_mul 8 y
theorem ln_ix {y k : Nat} : 8 * nI y + nI k = nI (8 * y + k) := by rw [ln_8, nI_add]
theorem bt_1 : ∀ i, i < 32 → bt 1 i = decide (i = 0) := by decide +kernel
theorem ln_or {k : Nat} (hk : k < 32) (x : Int32) {i : Nat} (hi : i < 32) : bt (x ||| ((1 : Int32) <<< (nI k &&& 31))) i = true ↔ bt x i = true ∨ i = k := by
  rw [b_or, b_shl k hk 1 hi, bt_1 (i - k) (by omega), Bool.or_eq_true, Bool.and_eq_true, decide_eq_true_eq, decide_eq_true_eq]
  constructor
  · rintro (z | z)
    · exact Or.inl z
    · exact Or.inr (by omega)
  · rintro (z | z)
    · exact Or.inl z
    · exact Or.inr (by omega)
theorem zY_line_l (post : Int32 → SY → Prop) (f_count : Int32) (aS aM an : Nat → Int32) {P : Nat → Prop} {y w : Nat} (hy : y < 8) (hw : w < 256) (h : ∀ (r : Int32) (a : Nat → Int32), (∀ i, i < 32 → (bt r i = true ↔ i < 8 ∧ P (8 * y + i))) → yr (ln_N P y w) a → post r (f_count, a, aS, aM, an)) : ∀ t k n r a, k + t = 8 → t < n → (∀ i, i < 32 → (bt r i = true ↔ i < k ∧ P (8 * y + i))) → tk P (ln_N P y w) (8 * y + k) a → wY_line_28 post (nI y) (nI w) f_count n r (nI k) a aS aM an := by
  intro t
  induction t with
  | zero =>
    intro k n r a hk hn hb ha
    obtain ⟨n, rfl⟩ : ∃ j, n = j + 1 := ⟨n - 1, by omega⟩
    have e : k = 8 := by omega
    subst e
    refine br_t (show (8 : Int32) ≤ nI 8 by decide) (h r a hb (tk_end ha (fun c _ hc => ?_)))
    unfold ln_N
    rw [if_neg (by omega)]
  | succ t ih =>
    intro k n r a hk hn hb ha
    obtain ⟨n, rfl⟩ : ∃ j, n = j + 1 := ⟨n - 1, by omega⟩
    have ck : (nI (8 * y + k)).toNatClampNeg = 8 * y + k := nI_clamp (by omega)
    have vc : vp_in (nI (8 * y + k)) 64 := vp_in_nI (by omega) (by omega)
    have eN : ln_N P y w (8 * y + k) ↔ w.testBit k = true := by
      unfold ln_N
      rw [if_pos (by omega), show (8 * y + k) % 8 = k by omega]
    have fin : ∀ z0 : Int32, (∀ i, i < 32 → (bt z0 i = true ↔ i < k + 1 ∧ P (8 * y + i))) → wY_line_60 post (wY_line_28 post (nI y) (nI w) f_count n) (nI y) (nI w) (nI k) z0 f_count a aS aM an := by
      intro z0 hz
      unfold wY_line_60
      rw [ln_bit w hw k (by omega), ln_ix, ck]
      refine br_c (fun q => ⟨vc, nm_e (nm_r (nI_1 k) ?_)⟩) (fun q => ⟨vc, nm_e (nm_r (nI_1 k) ?_)⟩)
      · exact ih (k + 1) n z0 _ (by omega) (by omega) hz (tk_st ha ⟨fun _ => rfl, fun z => absurd (eN.mpr q) z⟩)
      · exact ih (k + 1) n z0 _ (by omega) (by omega) hz (tk_st ha ⟨fun z => absurd (eN.mp z) q, fun _ => rfl⟩)
    refine br_f (nI_ge (b := 8) (by omega) (by decide)) ?_
    rw [ln_ix, ck, tk_g ha (by omega)]
    refine ⟨vc, br_c (fun z => fin r (fun i hi => ?_)) (fun z => fin _ (fun i hi => ?_))⟩
    · rw [hb i hi]
      constructor
      · intro q; exact ⟨by omega, q.2⟩
      · intro q
        refine ⟨?_, q.2⟩
        have : i ≠ k := fun e => z (e ▸ q.2)
        omega
    · rw [ln_or (by omega) r hi, hb i hi]
      constructor
      · rintro (q | q)
        · exact ⟨by omega, q.2⟩
        · rw [q]; exact ⟨by omega, Classical.not_not.mp z⟩
      · intro q
        by_cases e : i = k
        · exact Or.inr e
        · exact Or.inl ⟨by omega, q.2⟩
theorem xb_255 : ∀ i, i < 64 → xb 255 i = decide (i < 8) := by decide +kernel
theorem ln_ans (f : Int64) {y : Nat} (hy : y < 8) {i : Nat} (hi : i < 32) : bt ((((f.toUInt64 >>> ((nI (8 * y)).toInt64.toUInt64 &&& Int64.toUInt64 63)).toInt64) &&& 255).toInt32) i = true ↔ i < 8 ∧ xs f (8 * y + i) := by
  have e : bt ((((f.toUInt64 >>> ((nI (8 * y)).toInt64.toUInt64 &&& Int64.toUInt64 63)).toInt64) &&& 255).toInt32) i = xb (((f.toUInt64 >>> ((nI (8 * y)).toInt64.toUInt64 &&& Int64.toUInt64 63)).toInt64) &&& 255) i := by
    unfold bt xb
    rw [Int64.toBitVec_toInt32, BitVec.getLsbD_signExtend]
    simp [hi, show i < 64 by omega]
  rw [e, xb_and, xb_ushr (by omega), xb_255 i (by omega), Bool.and_eq_true, decide_eq_true_eq]
  exact ⟨fun z => ⟨z.2, z.1⟩, fun z => ⟨z.2, z.1⟩⟩
theorem ln_new (f : Int64) {y w : Nat} (hy : y < 8) (hw : w < 256) {i : Nat} (hi : i < 64) : xs ((f &&& (((255 : Int64) <<< ((nI (8 * y)).toInt64 &&& 63)) ^^^ (-1))) ||| ((nI w).toInt64 <<< ((nI (8 * y)).toInt64 &&& 63))) i ↔ ln_N (xs f) y w i := by
  unfold xs ln_N
  rw [xb_or, xb_and, xb_not _ hi, xb_shl (by omega) _ hi, xb_shl (by omega) _ hi, xb_255 (i - 8 * y) (by omega), nI_l (by omega), xb_uN (lN w), pp_uN_lN (by omega), Bool.or_eq_true, Bool.and_eq_true, Bool.and_eq_true, Bool.not_eq_true', decide_eq_true_eq]
  by_cases z : i / 8 = y
  · rw [if_pos z, show i - 8 * y = i % 8 by omega, decide_eq_true (show 8 * y ≤ i by omega), decide_eq_true (show i % 8 < 8 by omega)]
    constructor
    · rintro (q | q)
      · exact absurd q.2 (by decide)
      · exact q.2
    · intro q
      exact Or.inr ⟨by omega, q⟩
  · rw [if_neg z]
    have e : (decide (8 * y ≤ i) && decide (i - 8 * y < 8)) = false := by
      by_cases y1 : 8 * y ≤ i
      · rw [decide_eq_false (show ¬ i - 8 * y < 8 by omega), Bool.and_false]
      · rw [decide_eq_false y1, Bool.false_and]
    rw [e]
    constructor
    · rintro (q | q)
      · exact q.1
      · exfalso
        have : w.testBit (i - 8 * y) = false := Nat.testBit_lt_two_pow (Nat.lt_of_lt_of_le hw (show 2 ^ 8 ≤ 2 ^ (i - 8 * y) from Nat.pow_le_pow_right (by decide) (by omega)))
        rw [this] at q
        exact Bool.noConfusion q.2
    · intro q
      exact Or.inl ⟨q, rfl⟩
/-! ===== box ===== -/
def bx_in (a b c : Nat) : Prop := (a / 8 ≤ c / 8 ∧ c / 8 ≤ b / 8) ∧ a % 8 ≤ c % 8 ∧ c % 8 ≤ b % 8
def bx_N (P : Nat → Prop) (a b : Nat) (v : Bool) (c : Nat) : Prop := (bx_in a b c ∧ v = true) ∨ (¬ bx_in a b c ∧ P c)
theorem bx_row : ∀ r, r < 64 → r / 8 ≤ r % 8 → ∀ i, i < 64 → xb (((2 : Int64) <<< ((nI (r % 8)).toInt64 &&& 63)) - ((1 : Int64) <<< ((nI (r / 8)).toInt64 &&& 63))) i = decide (r / 8 ≤ i ∧ i ≤ r % 8) := by decide +kernel
theorem bx_rw {p q : Nat} (hp : p < 8) (hq : q < 8) (h : p ≤ q) {i : Nat} (hi : i < 64) : xb (((2 : Int64) <<< ((nI q).toInt64 &&& 63)) - ((1 : Int64) <<< ((nI p).toInt64 &&& 63))) i = decide (p ≤ i ∧ i ≤ q) := by
  have k := bx_row (8 * p + q) (by omega) (by omega) i hi
  rw [show (8 * p + q) % 8 = q by omega, show (8 * p + q) / 8 = p by omega] at k
  exact k
theorem bx_sh {c : Nat} (h : c < 64) : nI c >>> ((3 : Int32) &&& 31) = nI (c / 8) := pk_shrN (by omega) _ 3 (by decide)
theorem bx_7 {c : Nat} (h : c < 64) : nI c &&& 7 = nI (c % 8) := pk_andN (by omega) 3 (by decide)
theorem zX_box_l (post : Int32 → SX → Prop) {a b : Nat} (ha : a < 64) (hb : b < 64) (hx : a % 8 ≤ b % 8) (hy : a / 8 ≤ b / 8) (v : Bool) (f : Int64) (a_far : Nat → Int32) (R : Int64) (hR : ∀ i, i < 64 → xb R i = decide (a % 8 ≤ i ∧ i ≤ b % 8)) (h : ∀ g, (∀ c, c < 64 → (xs g c ↔ bx_N (xs f) a b v c)) → post (nI (xb_n (f ^^^ g))) (g, a_far)) : ∀ t y n M, y + t = b / 8 + 1 → t < n → a / 8 ≤ y → (∀ i, i < 64 → (xb M i = true ↔ bx_in a b i ∧ i / 8 < y)) → wX_box_78 post (nI b) (bo v) R f a_far n M (nI y) := by
  intro t
  induction t with
  | zero =>
    intro y n M ht hn hay hM
    obtain ⟨n, rfl⟩ : ∃ j, n = j + 1 := ⟨n - 1, by omega⟩
    have hin : ∀ i, i < 64 → (xb M i = true ↔ bx_in a b i) := by
      intro i hi
      rw [hM i hi]
      unfold bx_in
      constructor
      · intro z; exact z.1
      · intro z; exact ⟨z, by omega⟩
    unfold wX_box_78
    rw [bx_sh hb]
    refine br_t (nI_lt (by omega) (by omega)) ?_
    cases v with
    | true =>
      refine br_t rfl (zX_change _ _ _ _ (h _ (fun c hc => ?_)))
      unfold xs bx_N
      rw [xb_or, Bool.or_eq_true, hin c hc]
      by_cases z : bx_in a b c
      · exact ⟨fun _ => Or.inl ⟨z, rfl⟩, fun _ => Or.inr z⟩
      · exact ⟨fun q => Or.inr ⟨z, q.elim id (fun y => absurd y z)⟩, fun q => q.elim (fun y => absurd y.1 z) (fun y => Or.inl y.2)⟩
    | false =>
      refine br_f (by decide) (zX_change _ _ _ _ (h _ (fun c hc => ?_)))
      unfold xs bx_N
      rw [xb_and, xb_not _ hc, Bool.and_eq_true, Bool.not_eq_true']
      have e : xb M c = false ↔ ¬ bx_in a b c := by
        rw [← hin c hc, Bool.not_eq_true]
      rw [e]
      exact ⟨fun q => Or.inr ⟨q.2, q.1⟩, fun q => q.elim (fun y => Bool.noConfusion y.2) (fun y => ⟨y.2, y.1⟩)⟩
  | succ t ih =>
    intro y n M ht hn hay hM
    obtain ⟨n, rfl⟩ : ∃ j, n = j + 1 := ⟨n - 1, by omega⟩
    unfold wX_box_78
    rw [bx_sh hb, ln_8]
    refine br_f (nI_nlt (by omega) (by omega)) (nm_e (nm_r (nI_1 y) ?_))
    refine ih (y + 1) n _ (by omega) (by omega) (by omega) (fun i hi => ?_)
    rw [xb_or, xb_shl (by omega) _ hi, hR (i - 8 * y) (by omega), Bool.or_eq_true, hM i hi, Bool.and_eq_true, decide_eq_true_eq, decide_eq_true_eq]
    unfold bx_in
    omega
theorem zX_box (post : Int32 → SX → Prop) {a b : Nat} (ha : a < 64) (hb : b < 64) (hx : a % 8 ≤ b % 8) (hy : a / 8 ≤ b / 8) (v : Bool) (f : Int64) (a_far : Nat → Int32) (h : ∀ g, (∀ c, c < 64 → (xs g c ↔ bx_N (xs f) a b v c)) → post (nI (xb_n (f ^^^ g))) (g, a_far)) : wpX_box post (f, a_far) (nI a) (nI b) (bo v) := by
  unfold wpX_box
  dsimp only
  refine zX_badC _ _ ha (br_t rfl ?_)
  refine zX_badC _ _ hb (br_t rfl ?_)
  have v0 : ¬ bo v < 0 := by cases v <;> decide
  have v1 : bo v ≤ 1 := by cases v <;> decide
  rw [bx_7 ha, bx_7 hb, bx_sh ha, bx_sh hb]
  refine br_f v0 (br_t v1 (nm_e (nm_e (br_f (nI_nlt (by omega) (by omega)) (br_t (nI_le hy (by omega)) (nm_e (nm_e ⟨b / 8 + 2, ?_⟩)))))))
  refine zX_box_l post ha hb hx hy v f a_far _ (fun i hi => bx_rw (by omega) (by omega) hx hi) h (b / 8 + 1 - a / 8) (a / 8) (b / 8 + 2) 0 (by omega) (by omega) (Nat.le_refl _) (fun i hi => ?_)
  rw [xb_0]
  unfold bx_in
  exact ⟨fun z => Bool.noConfusion z, fun z => by omega⟩
theorem bo_cases (v : Int32) : (∃ b, v = bo b) ∨ v < 0 ∨ (¬ v < 0 ∧ ¬ v ≤ 1) := by
  by_cases h : v < 0
  · exact Or.inr (Or.inl h)
  · by_cases h1 : v ≤ 1
    · obtain ⟨j, hj, e⟩ := nI_of2 (x := v) (M := 1) (n := 1) (by decide) h h1
      rcases (show j = 0 ∨ j = 1 by omega) with z | z
      · exact Or.inl ⟨false, by rw [e, z]; rfl⟩
      · exact Or.inl ⟨true, by rw [e, z]; rfl⟩
    · exact Or.inr (Or.inr ⟨h, h1⟩)
def bx_bad (a b : Nat) (v : Int32) : Prop := b % 8 < a % 8 ∨ b / 8 < a / 8 ∨ v < 0 ∨ (¬ v < 0 ∧ ¬ v ≤ 1)
theorem zX_boxB (post : Int32 → SX → Prop) {a b : Nat} (ha : a < 64) (hb : b < 64) {v : Int32} (hv : bx_bad a b v) (f : Int64) (a_far : Nat → Int32) (h : post (-1) (f, a_far)) : wpX_box post (f, a_far) (nI a) (nI b) v := by
  unfold wpX_box
  dsimp only
  refine zX_badC _ _ ha (br_t rfl ?_)
  refine zX_badC _ _ hb (br_t rfl ?_)
  rw [bx_7 ha, bx_7 hb, bx_sh ha, bx_sh hb]
  refine br_c (fun _ => h) (fun h0 => br_c (fun h1 => nm_e (nm_e (pk_lt (b % 8) (a % 8) (fun _ => h) (fun h2 => pk_le (a / 8) (b / 8) (fun h3 => ?_) (fun _ => h))))) (fun _ => h))
  exfalso
  rcases hv with z | z | z | z
  · omega
  · omega
  · exact h0 z
  · exact z.2 h1
theorem zY_boxB (post : Int32 → SY → Prop) {a b : Nat} (ha : a < 64) (hb : b < 64) {v : Int32} (hv : bx_bad a b v) (f_count : Int32) (a_on aS aM an : Nat → Int32) (h : post (-1) (f_count, a_on, aS, aM, an)) : wpY_box post (f_count, a_on, aS, aM, an) (nI a) (nI b) v := by
  unfold wpY_box
  dsimp only
  have k8 : ¬ (8 : Int32) = 0 := by decide
  refine zY_isC _ _ ha (br_f (by decide) ?_)
  refine zY_isC _ _ hb (br_f (by decide) ?_)
  rw [wk_r8 ha, wk_r8 hb, wk_d8 ha, wk_d8 hb]
  refine ⟨k8, k8, pk_lt (b % 8) (a % 8) (fun _ => h) (fun h1 => ⟨k8, k8, pk_lt (b / 8) (a / 8) (fun _ => h) (fun h2 => br_c (fun _ => h) (fun h3 => br_c (fun h4 => ?_) (fun _ => h)))⟩)⟩
  exfalso
  rcases hv with z | z | z | z
  · omega
  · omega
  · exact h3 z
  · exact z.2 h4
section
variable {P : Nat → Prop} {a b : Nat} {v : Bool}
theorem bx_Nin {c : Nat} (h : bx_in a b c) : bx_N P a b v c ↔ v = true := ⟨fun z => z.elim (fun y => y.2) (fun y => absurd h y.1), fun z => Or.inl ⟨h, z⟩⟩
theorem bx_Nout {c : Nat} (h : ¬ bx_in a b c) : P c ↔ bx_N P a b v c := ⟨fun z => Or.inr ⟨h, z⟩, fun z => z.elim (fun y => absurd y.1 h) (fun y => y.2)⟩
end
end
section
/-! the reference's box -/
section
variable {P : Nat → Prop} {a b : Nat} {v : Bool} {aS aM an : Nat → Int32} {f_count : Int32}
theorem zY_box_c (post : Int32 → SY → Prop) (J58 J73 : Int32 → Int32 → (Nat → Int32) → (Nat → Int32) → (Nat → Int32) → (Nat → Int32) → Prop) {x y : Nat} {r : Nat → Int32} (hxy : 8 * y + x < 64) (hin : bx_in a b (8 * y + x)) (hr : tk P (bx_N P a b v) (8 * y + x) r) (h : ∀ r', tk P (bx_N P a b v) (8 * y + x + 1) r' → J73 (nI (yd P (bx_N P a b v) (8 * y + x + 1))) (nI (x + 1)) r' aS aM an) : wY_box_105 post J58 J73 (nI a) (nI b) (bo v) (nI (yd P (bx_N P a b v) (8 * y + x))) (nI y) (nI x) (bo v) (r (8 * nI y + nI x).toNatClampNeg) f_count r aS aM an := by
  have ck : (nI (8 * y + x)).toNatClampNeg = 8 * y + x := nI_clamp (by omega)
  have vc : vp_in (nI (8 * y + x)) 64 := vp_in_nI (by omega) (by omega)
  have eN : bx_N P a b v (8 * y + x) ↔ v = true := bx_Nin hin
  have fin : ∀ z0 : Int32, z0 = nI (yd P (bx_N P a b v) (8 * y + x + 1)) → wY_box_117 post J58 J73 (nI a) (nI b) (bo v) (nI y) (nI x) z0 f_count r aS aM an := by
    intro z0 e0
    unfold wY_box_117
    rw [ln_ix, ck, e0]
    cases v with
    | true => exact br_t rfl ⟨vc, nm_e (nm_r (nI_1 x) (h _ (tk_st hr ⟨fun _ => rfl, fun z => absurd (eN.mpr rfl) z⟩)))⟩
    | false => exact br_f (by decide) ⟨vc, nm_e (nm_r (nI_1 x) (h _ (tk_st hr ⟨fun z => Bool.noConfusion (eN.mp z), fun _ => rfl⟩)))⟩
  have eq : r (8 * y + x) = bo v ↔ (P (8 * y + x) ↔ bx_N P a b v (8 * y + x)) := by
    rw [eN]
    have q := tk_hi hr hxy (Nat.le_refl _)
    by_cases z : P (8 * y + x)
    · rw [q.1 z]
      cases v with
      | true => exact ⟨fun _ => ⟨fun _ => rfl, fun _ => z⟩, fun _ => rfl⟩
      | false => exact ⟨fun w => absurd w (by decide), fun w => Bool.noConfusion (w.mp z)⟩
    · rw [q.2 z]
      cases v with
      | true => exact ⟨fun w => absurd w (by decide), fun w => absurd (w.mpr rfl) z⟩
      | false => exact ⟨fun _ => ⟨fun w => absurd w z, fun w => Bool.noConfusion w⟩, fun _ => rfl⟩
  unfold wY_box_105
  rw [ln_ix, ck, eq]
  refine br_c (fun z => fin _ ?_) (fun z => fin _ ?_)
  · unfold yd
    rw [cc_n_f (fun q => q z)]
  · unfold yd
    rw [cc_n_t (p := fun c => ¬ (P c ↔ bx_N P a b v c)) z, nI_1]
theorem zY_box_r (post : Int32 → SY → Prop) (J : Int32 → Int32 → (Nat → Int32) → (Nat → Int32) → (Nat → Int32) → (Nat → Int32) → Prop) (ha : a < 64) (hb : b < 64) {y : Nat} (hy1 : a / 8 ≤ y) (hy2 : y ≤ b / 8) (h : ∀ r', tk P (bx_N P a b v) (8 * y + (b % 8 + 1)) r' → J (nI (yd P (bx_N P a b v) (8 * y + (b % 8 + 1)))) (nI (y + 1)) r' aS aM an) : ∀ t x n r, x + t = b % 8 + 1 → t < n → a % 8 ≤ x → tk P (bx_N P a b v) (8 * y + x) r → wY_box_73 post J (nI a) (nI b) (bo v) (nI y) f_count n (nI (yd P (bx_N P a b v) (8 * y + x))) (nI x) r aS aM an := by
  intro t
  have k8 : ¬ (8 : Int32) = 0 := by decide
  induction t with
  | zero =>
    intro x n r hx hn hax hr
    obtain ⟨n, rfl⟩ : ∃ j, n = j + 1 := ⟨n - 1, by omega⟩
    have e : x = b % 8 + 1 := by omega
    subst e
    unfold wY_box_73
    rw [wk_r8 hb]
    exact ⟨k8, br_t (nI_lt (by omega) (by omega)) (nm_r (nI_1 y) (h r hr))⟩
  | succ t ih =>
    intro x n r hx hn hax hr
    obtain ⟨n, rfl⟩ : ∃ j, n = j + 1 := ⟨n - 1, by omega⟩
    have hin : bx_in a b (8 * y + x) := by unfold bx_in; omega
    have k : wY_box_105 post J (wY_box_73 post J (nI a) (nI b) (bo v) (nI y) f_count n) (nI a) (nI b) (bo v) (nI (yd P (bx_N P a b v) (8 * y + x))) (nI y) (nI x) (bo v) (r (8 * nI y + nI x).toNatClampNeg) f_count r aS aM an :=
      zY_box_c post _ _ (by omega) hin hr (fun r' hr' => ih (x + 1) n r' (by omega) (by omega) (by omega) hr')
    unfold wY_box_73
    rw [wk_r8 hb]
    refine ⟨k8, br_f (nI_nlt (by omega) (by omega)) ⟨by rw [ln_ix]; exact vp_in_nI (by omega) (by omega), ?_⟩⟩
    cases v with
    | true => exact br_t rfl k
    | false => exact br_f (by decide) k
theorem zY_box_o (post : Int32 → SY → Prop) (ha : a < 64) (hb : b < 64) (hx : a % 8 ≤ b % 8) (h : ∀ r, yr (bx_N P a b v) r → post (nI (yd P (bx_N P a b v) 64)) (f_count, r, aS, aM, an)) : ∀ t y n r, y + t = b / 8 + 1 → t < n → a / 8 ≤ y → tk P (bx_N P a b v) (8 * y + a % 8) r → wY_box_58 post (nI a) (nI b) (bo v) f_count n (nI (yd P (bx_N P a b v) (8 * y + a % 8))) (nI y) r aS aM an := by
  intro t
  have k8 : ¬ (8 : Int32) = 0 := by decide
  induction t with
  | zero =>
    intro y n r hy hn hay hr
    obtain ⟨n, rfl⟩ : ∃ j, n = j + 1 := ⟨n - 1, by omega⟩
    have out : ∀ c, 8 * y + a % 8 ≤ c → (P c ↔ bx_N P a b v c) := fun c hc => bx_Nout (by unfold bx_in; omega)
    have e : yd P (bx_N P a b v) (8 * y + a % 8) = yd P (bx_N P a b v) 64 := by
      rcases Nat.le_total (8 * y + a % 8) 64 with z | z
      · exact yd_skip z (fun c h1 _ => out c h1)
      · exact (yd_skip z (fun c h1 _ => bx_Nout (by unfold bx_in; omega))).symm
    unfold wY_box_58
    rw [wk_d8 hb, e]
    exact ⟨k8, br_t (nI_lt (by omega) (by omega)) (h r (tk_end hr (fun c _ hc => out c hc)))⟩
  | succ t ih =>
    intro y n r hy hn hay hr
    obtain ⟨n, rfl⟩ : ∃ j, n = j + 1 := ⟨n - 1, by omega⟩
    unfold wY_box_58
    rw [wk_d8 hb]
    refine ⟨k8, br_f (nI_nlt (by omega) (by omega)) ⟨k8, nm_r (wk_r8 ha) ⟨b % 8 + 2, ?_⟩⟩⟩
    refine zY_box_r post _ ha hb hay (by omega) (fun r' hr' => ?_) (b % 8 + 1 - a % 8) (a % 8) (b % 8 + 2) r (by omega) (by omega) (Nat.le_refl _) hr
    have out : ∀ c, 8 * y + (b % 8 + 1) ≤ c → c < 8 * (y + 1) + a % 8 → (P c ↔ bx_N P a b v c) := fun c h1 h2 => bx_Nout (by unfold bx_in; omega)
    have k := ih (y + 1) n r' (by omega) (by omega) (by omega) (tk_skip hr' (by omega) out)
    rw [← yd_skip (show 8 * y + (b % 8 + 1) ≤ 8 * (y + 1) + a % 8 by omega) out] at k
    exact k
theorem zY_box (post : Int32 → SY → Prop) (ha : a < 64) (hb : b < 64) (hx : a % 8 ≤ b % 8) (hy : a / 8 ≤ b / 8) {a_on : Nat → Int32} (hr : yr P a_on) (h : ∀ r, yr (bx_N P a b v) r → post (nI (yd P (bx_N P a b v) 64)) (f_count, r, aS, aM, an)) : wpY_box post (f_count, a_on, aS, aM, an) (nI a) (nI b) (bo v) := by
  unfold wpY_box
  dsimp only
  have k8 : ¬ (8 : Int32) = 0 := by decide
  refine zY_isC _ _ ha (br_f (by decide) ?_)
  refine zY_isC _ _ hb (br_f (by decide) ?_)
  have v0 : ¬ bo v < 0 := by cases v <;> decide
  have v1 : bo v ≤ 1 := by cases v <;> decide
  rw [wk_r8 ha, wk_r8 hb, wk_d8 ha, wk_d8 hb]
  refine ⟨k8, k8, br_f (nI_nlt (by omega) (by omega)) ⟨k8, k8, br_f (nI_nlt (by omega) (by omega)) (br_f v0 (br_t v1 ⟨k8, nm_e ⟨b / 8 + 2, ?_⟩⟩))⟩⟩
  have out : ∀ c, c < 8 * (a / 8) + a % 8 → (P c ↔ bx_N P a b v c) := fun c h1 => bx_Nout (by unfold bx_in; omega)
  have k := zY_box_o post (P := P) (v := v) (f_count := f_count) (aS := aS) (aM := aM) (an := an) ha hb hx h (b / 8 + 1 - a / 8) (a / 8) (b / 8 + 2) a_on (by omega) (by omega) (Nat.le_refl _) (tk_0 hr out)
  rw [← yd_skip (a := 0) (Nat.zero_le _) (fun c _ h2 => out c h2)] at k
  exact k
end
end
section
/-! distances by two sweeps -/
def dp_ds (p q : Nat) : Nat := ((p % 10 - q % 10) + (q % 10 - p % 10)) + ((p / 10 - q / 10) + (q / 10 - p / 10))
def dp_lo (Q : Nat → Prop) (p v : Nat) : Prop := ∃ q, q < 100 ∧ ¬ Q q ∧ dp_ds p q ≤ v
def dp_o1 (Q : Nat → Prop) (p v : Nat) : Prop := dp_lo Q p v ∧ ∀ q, q < 100 → ¬ Q q → q % 10 ≤ p % 10 → q / 10 ≤ p / 10 → v ≤ dp_ds p q
def dp_o2 (Q : Nat → Prop) (p v : Nat) : Prop := dp_lo Q p v ∧ ∀ q, q < 100 → ¬ Q q → v ≤ dp_ds p q
theorem dp_u {Q : Nat → Prop} {p v w : Nat} (h : dp_o2 Q p v) (g : dp_o2 Q p w) : v = w := by
  obtain ⟨⟨q, q1, q2, q3⟩, h2⟩ := h
  obtain ⟨⟨r, r1, r2, r3⟩, g2⟩ := g
  have := h2 r r1 r2
  have := g2 q q1 q2
  omega
theorem dp_self (p : Nat) : dp_ds p p = 0 := by unfold dp_ds; omega
theorem dp_off {Q : Nat → Prop} {p : Nat} (hp : p < 100) (h : ¬ Q p) : dp_o2 Q p 0 := ⟨⟨p, hp, h, by rw [dp_self]; exact Nat.le_refl _⟩, fun _ _ _ => Nat.zero_le _⟩
theorem dp_21 {Q : Nat → Prop} {p v : Nat} (h : dp_o2 Q p v) : dp_o1 Q p v := ⟨h.1, fun q h1 h2 _ _ => h.2 q h1 h2⟩
theorem dp_pm {c : Nat} (hc : c < 64) : (gd_ph c % 10 = c % 8 + 1 ∧ gd_ph c / 10 = c / 8 + 1) ∧ ((gd_ph c - 1) % 10 = c % 8 ∧ (gd_ph c - 1) / 10 = c / 8 + 1) ∧ ((gd_ph c - 10) % 10 = c % 8 + 1 ∧ (gd_ph c - 10) / 10 = c / 8) ∧ ((gd_ph c + 1) % 10 = c % 8 + 2 ∧ (gd_ph c + 1) / 10 = c / 8 + 1) ∧ ((gd_ph c + 10) % 10 = c % 8 + 1 ∧ (gd_ph c + 10) / 10 = c / 8 + 2) := by
  unfold gd_ph
  omega
theorem dp_l65 {Q : Nat → Prop} (h0 : ¬ Q 0) {p v : Nat} (hp : p < 100) (hv : 65 ≤ v) : dp_lo Q p v := ⟨0, by omega, h0, by unfold dp_ds; omega⟩
theorem dp_l1 {Q : Nat → Prop} {c u v : Nat} (hc : c < 64) {p : Nat} (hp : p = gd_ph c - 1 ∨ p = gd_ph c - 10 ∨ p = gd_ph c + 1 ∨ p = gd_ph c + 10) (h : dp_lo Q p u) (hv : u + 1 ≤ v) : dp_lo Q (gd_ph c) v := by
  obtain ⟨q, q1, q2, q3⟩ := h
  refine ⟨q, q1, q2, ?_⟩
  obtain ⟨a, b, d, e, g⟩ := dp_pm hc
  unfold dp_ds at *
  rw [a.1, a.2]
  rcases hp with hp | hp | hp | hp
  · rw [hp, b.1, b.2] at q3; omega
  · rw [hp, d.1, d.2] at q3; omega
  · rw [hp, e.1, e.2] at q3; omega
  · rw [hp, g.1, g.2] at q3; omega
theorem dp_lm {Q : Nat → Prop} (h0 : ¬ Q 0) {c u w : Nat} (hc : c < 64) {p r : Nat} (hp : p = gd_ph c - 1 ∨ p = gd_ph c - 10 ∨ p = gd_ph c + 1 ∨ p = gd_ph c + 10) (hr : r = gd_ph c - 1 ∨ r = gd_ph c - 10 ∨ r = gd_ph c + 1 ∨ r = gd_ph c + 10) (hu : dp_lo Q p u) (hw : dp_lo Q r w) : dp_lo Q (gd_ph c) (1 + min (min u w) 64) := by
  rcases (show min (min u w) 64 = u ∨ min (min u w) 64 = w ∨ min (min u w) 64 = 64 by omega) with z | z | z
  · rw [z]; exact dp_l1 hc hp hu (by omega)
  · rw [z]; exact dp_l1 hc hr hw (by omega)
  · rw [z]; exact dp_l65 h0 (gd_ph_lt hc).1 (by omega)
theorem dp_s1 {Q : Nat → Prop} (h0 : ¬ Q 0) {c u w : Nat} (hc : c < 64) (hQ : Q (gd_ph c)) (hu : dp_o1 Q (gd_ph c - 1) u) (hw : dp_o1 Q (gd_ph c - 10) w) : dp_o1 Q (gd_ph c) (1 + min (min u w) 64) := by
  refine ⟨dp_lm h0 hc (Or.inl rfl) (Or.inr (Or.inl rfl)) hu.1 hw.1, ?_⟩
  intro q hq hn h1 h2
  obtain ⟨a, b, d, _, _⟩ := dp_pm hc
  have ne : q ≠ gd_ph c := fun e => hn (e ▸ hQ)
  by_cases z : q % 10 < gd_ph c % 10
  · have k := hu.2 q hq hn (by omega) (by omega)
    unfold dp_ds at *
    rw [b.1, b.2] at k
    rw [a.1, a.2] at *
    omega
  · have z2 : q / 10 < gd_ph c / 10 := by omega
    have k := hw.2 q hq hn (by omega) (by omega)
    unfold dp_ds at *
    rw [d.1, d.2] at k
    rw [a.1, a.2] at *
    omega
theorem dp_s2 {Q : Nat → Prop} (h0 : ¬ Q 0) {c u v w : Nat} (hc : c < 64) (hv : dp_o1 Q (gd_ph c) v) (hu : dp_o2 Q (gd_ph c + 1) u) (hw : dp_o2 Q (gd_ph c + 10) w) : dp_o2 Q (gd_ph c) (min v (1 + min (min u w) 64)) := by
  constructor
  · rcases Nat.le_total v (1 + min (min u w) 64) with z | z
    · rw [Nat.min_eq_left z]; exact hv.1
    · rw [Nat.min_eq_right z]; exact dp_lm h0 hc (Or.inr (Or.inr (Or.inl rfl))) (Or.inr (Or.inr (Or.inr rfl))) hu.1 hw.1
  · intro q hq hn
    obtain ⟨a, _, _, e, g⟩ := dp_pm hc
    by_cases z1 : gd_ph c % 10 < q % 10
    · have k := hu.2 q hq hn
      unfold dp_ds at *
      rw [e.1, e.2] at k
      rw [a.1, a.2] at *
      omega
    · by_cases z2 : gd_ph c / 10 < q / 10
      · have k := hw.2 q hq hn
        unfold dp_ds at *
        rw [g.1, g.2] at k
        rw [a.1, a.2] at *
        omega
      · have k := hv.2 q hq hn (by omega) (by omega)
        omega
/-! ===== the sweeps ===== -/
def dp_A (F : Nat → Nat) (a : Nat → Int32) : Prop := ∀ p, p < 100 → a p = nI (F p) ∧ F p ≤ 65
def dp_I1 (Q : Nat → Prop) (c : Nat) (F : Nat → Nat) : Prop := (∀ p, p < 100 → gd_fr p → F p = 0) ∧ ∀ d, d < 64 → d < c → dp_o1 Q (gd_ph d) (F (gd_ph d))
def dp_I2 (Q : Nat → Prop) (c : Nat) (F : Nat → Nat) : Prop := (∀ p, p < 100 → gd_fr p → F p = 0) ∧ (∀ d, d < 64 → d < c → dp_o1 Q (gd_ph d) (F (gd_ph d))) ∧ ∀ d, d < 64 → c ≤ d → dp_o2 Q (gd_ph d) (F (gd_ph d))
def dp_w (F : Nat → Nat) (p v : Nat) : Nat → Nat := fun q => if q = p then v else F q
theorem dp_ws {F : Nat → Nat} {p v : Nat} : dp_w F p v p = v := if_pos rfl
theorem dp_wn {F : Nat → Nat} {p v q : Nat} (h : q ≠ p) : dp_w F p v q = F q := if_neg h
theorem dp_Aw {F : Nat → Nat} {a : Nat → Int32} (h : dp_A F a) {p v : Nat} (hv : v ≤ 65) : dp_A (dp_w F p v) (upd a p (nI v)) := by
  intro q hq
  by_cases e : q = p
  · subst e; rw [pk_us, dp_ws]; exact ⟨rfl, hv⟩
  · rw [pk_un e, dp_wn e]; exact h q hq
theorem dp_frw {F : Nat → Nat} (h : ∀ p, p < 100 → gd_fr p → F p = 0) {c v : Nat} (hc : c < 64) : ∀ p, p < 100 → gd_fr p → dp_w F (gd_ph c) v p = 0 := by
  intro p hp hf
  have ne : p ≠ gd_ph c := fun e => (gd_ph_lt hc).2 (by rw [← e]; exact hf)
  rw [dp_wn ne]
  exact h p hp hf
theorem dp_i1 {Q : Nat → Prop} {c v : Nat} {F : Nat → Nat} (h : dp_I1 Q c F) (hc : c < 64) (hv : dp_o1 Q (gd_ph c) v) : dp_I1 Q (c + 1) (dp_w F (gd_ph c) v) := by
  refine ⟨dp_frw h.1 hc, fun d hd hd' => ?_⟩
  by_cases e : d = c
  · subst e; rw [dp_ws]; exact hv
  · rw [dp_wn (fun z => e (gd_ph_inj hd hc z))]; exact h.2 d hd (by omega)
theorem dp_i2 {Q : Nat → Prop} {c v : Nat} {F : Nat → Nat} (h : dp_I2 Q (c + 1) F) (hc : c < 64) (hv : dp_o2 Q (gd_ph c) v) : dp_I2 Q c (dp_w F (gd_ph c) v) := by
  refine ⟨dp_frw h.1 hc, fun d hd hd' => ?_, fun d hd hd' => ?_⟩
  · rw [dp_wn (fun z => by have := gd_ph_inj hd hc z; omega)]; exact h.2.1 d hd (by omega)
  · by_cases e : d = c
    · subst e; rw [dp_ws]; exact hv
    · rw [dp_wn (fun z => e (gd_ph_inj hd hc z))]; exact h.2.2 d hd (by omega)
theorem zX_least (post : Int32 → Prop) (u : SX) {a b : Nat} (ha : a ≤ 65) (hb : b ≤ 65) (h : post (nI (min (min a b) 64))) : wpX_least post u (nI a) (nI b) 64 := by
  obtain ⟨f_on, a_far⟩ := u
  have fin : ∀ z, z ≤ 65 → z = min a b → wX_least_10 post 64 (nI z) f_on a_far := by
    intro z hz e
    refine pk_le 64 z (fun q => ?_) (fun q => ?_)
    · rw [show min (min a b) 64 = 64 by omega] at h; exact h
    · rw [show min (min a b) 64 = z by omega] at h; exact h
  exact pk_le b a (fun z => fin b hb (by omega)) (fun z => fin a ha (by omega))
theorem dp_at {c : Nat} (hc : c < 64) : ((10 * (nI c >>> ((3 : Int32) &&& 31))) + (nI c &&& 7)) + 11 = nI (gd_ph c) := by
  rw [bx_sh hc, bx_7 hc, show (10 : Int32) = nI 10 from rfl, pk_mul, nI_add, show (11 : Int32) = nI 11 from rfl, nI_add]
  rfl
section
variable {f : Int64}
theorem dp_Q0 : ¬ gd_Q (xs f) 0 := fun z => z.1 (Or.inl rfl)
theorem dp_left {F : Nat → Nat} {c : Nat} (h : dp_I1 (gd_Q (xs f)) c F) (hc : c < 64) : dp_o1 (gd_Q (xs f)) (gd_ph c - 1) (F (gd_ph c - 1)) ∧ dp_o1 (gd_Q (xs f)) (gd_ph c - 10) (F (gd_ph c - 10)) := by
  constructor
  · by_cases z : c % 8 = 0
    · have hf : gd_fr (gd_ph c - 1) := by unfold gd_fr gd_ph; omega
      have hp : gd_ph c - 1 < 100 := by unfold gd_ph; omega
      rw [h.1 _ hp hf]
      exact dp_21 (dp_off hp (fun y => y.1 hf))
    · rw [show gd_ph c - 1 = gd_ph (c - 1) by unfold gd_ph; omega]
      exact h.2 (c - 1) (by omega) (by omega)
  · by_cases z : c / 8 = 0
    · have hf : gd_fr (gd_ph c - 10) := by unfold gd_fr gd_ph; omega
      have hp : gd_ph c - 10 < 100 := by unfold gd_ph; omega
      rw [h.1 _ hp hf]
      exact dp_21 (dp_off hp (fun y => y.1 hf))
    · rw [show gd_ph c - 10 = gd_ph (c - 8) by unfold gd_ph; omega]
      exact h.2 (c - 8) (by omega) (by omega)
theorem dp_right {F : Nat → Nat} {c : Nat} (h : dp_I2 (gd_Q (xs f)) (c + 1) F) (hc : c < 64) : dp_o2 (gd_Q (xs f)) (gd_ph c + 1) (F (gd_ph c + 1)) ∧ dp_o2 (gd_Q (xs f)) (gd_ph c + 10) (F (gd_ph c + 10)) := by
  constructor
  · by_cases z : c % 8 = 7
    · have hf : gd_fr (gd_ph c + 1) := by unfold gd_fr gd_ph; omega
      have hp : gd_ph c + 1 < 100 := by unfold gd_ph; omega
      rw [h.1 _ hp hf]
      exact dp_off hp (fun y => y.1 hf)
    · rw [show gd_ph c + 1 = gd_ph (c + 1) by unfold gd_ph; omega]
      exact h.2.2 (c + 1) (by omega) (by omega)
  · by_cases z : c / 8 = 7
    · have hf : gd_fr (gd_ph c + 10) := by unfold gd_fr gd_ph; omega
      have hp : gd_ph c + 10 < 100 := by unfold gd_ph; omega
      rw [h.1 _ hp hf]
      exact dp_off hp (fun y => y.1 hf)
    · rw [show gd_ph c + 10 = gd_ph (c + 8) by unfold gd_ph; omega]
      exact h.2.2 (c + 8) (by omega) (by omega)
theorem zX_back (post : SX → Prop) (h : ∀ F a, dp_A F a → dp_I2 (gd_Q (xs f)) 0 F → post (f, a)) : ∀ k n F a, k ≤ 64 → k < n → dp_A F a → dp_I2 (gd_Q (xs f)) k F → wX_sweep_111 post f n (nI k - 1) a := by
  intro k
  induction k with
  | zero =>
    intro n F a hk hn hA I
    obtain ⟨n, rfl⟩ : ∃ j, n = j + 1 := ⟨n - 1, by omega⟩
    exact br_t (show nI 0 - 1 < 0 by decide) (h F a hA I)
  | succ c ih =>
    intro n F a hk hn hA I
    obtain ⟨n, rfl⟩ : ∃ j, n = j + 1 := ⟨n - 1, by omega⟩
    have hc : c < 64 := by omega
    have hp := (gd_ph_lt hc).1
    have hp2 : gd_ph c + 10 < 100 := by unfold gd_ph; omega
    rw [nI_pred]
    have c0 : (nI (gd_ph c)).toNatClampNeg = gd_ph c := nI_clamp (by omega)
    have c1 : (nI (gd_ph c) + 1).toNatClampNeg = gd_ph c + 1 := by rw [nI_1]; exact nI_clamp (by omega)
    have c2 : (nI (gd_ph c) + 10).toNatClampNeg = gd_ph c + 10 := by rw [show (10 : Int32) = nI 10 from rfl, nI_add]; exact nI_clamp (by omega)
    have v0 : vp_in (nI (gd_ph c)) 100 := vp_in_nI hp (by omega)
    have v1 : vp_in (nI (gd_ph c) + 1) 100 := by rw [nI_1]; exact vp_in_nI (by omega) (by omega)
    have v2 : vp_in (nI (gd_ph c) + 10) 100 := by rw [show (10 : Int32) = nI 10 from rfl, nI_add]; exact vp_in_nI hp2 (by omega)
    obtain ⟨r1, r2⟩ := dp_right I hc
    have a0 := hA (gd_ph c) hp
    have a1 := hA (gd_ph c + 1) (by omega)
    have a2 := hA (gd_ph c + 10) hp2
    have o2 := dp_s2 dp_Q0 hc (I.2.1 c hc (by omega)) r1 r2
    have em : nI c + (-1) = nI c - 1 := (Int32.sub_eq_add_neg _ _).symm
    refine br_f (nI_pos (by omega)) (nm_r (dp_at hc) ⟨v1, v2, ?_⟩)
    rw [c0, c1, c2, a1.1, a2.1]
    refine zX_least _ _ a1.2 a2.2 (nm_r (e' := nI (1 + min (min (F (gd_ph c + 1)) (F (gd_ph c + 10))) 64)) (nI_add 1 _) ⟨v0, ?_⟩)
    rw [a0.1]
    refine pk_le (F (gd_ph c)) (1 + min (min (F (gd_ph c + 1)) (F (gd_ph c + 10))) 64) (fun z => ⟨v0, v0, nm_e (nm_r em ?_)⟩) (fun z => ⟨v0, nm_e (nm_r em ?_)⟩) rfl rfl
    · rw [Nat.min_eq_left z] at o2
      exact ih n _ _ (by omega) (by omega) (dp_Aw hA a0.2) (dp_i2 I hc o2)
    · rw [Nat.min_eq_right (by omega)] at o2
      exact ih n _ _ (by omega) (by omega) (dp_Aw hA (by omega)) (dp_i2 I hc o2)
theorem zX_fwd (post : SX → Prop) (h : ∀ F a, dp_A F a → dp_I2 (gd_Q (xs f)) 0 F → post (f, a)) : ∀ t c n F a, c + t = 64 → t < n → dp_A F a → dp_I1 (gd_Q (xs f)) c F → wX_sweep_23 post f n (nI c) a := by
  intro t
  induction t with
  | zero =>
    intro c n F a hc hn hA I
    obtain ⟨n, rfl⟩ : ∃ j, n = j + 1 := ⟨n - 1, by omega⟩
    have e : c = 64 := by omega
    subst e
    refine br_t (show (64 : Int32) ≤ nI 64 by decide) ⟨65, ?_⟩
    exact zX_back post h 64 65 F a (by omega) (by omega) hA ⟨I.1, I.2, fun d h1 h2 => by omega⟩
  | succ t ih =>
    intro c n F a hct hn hA I
    obtain ⟨n, rfl⟩ : ∃ j, n = j + 1 := ⟨n - 1, by omega⟩
    have hc : c < 64 := by omega
    have hp := (gd_ph_lt hc).1
    have h11 : 11 ≤ gd_ph c := by unfold gd_ph; omega
    have c0 : (nI (gd_ph c)).toNatClampNeg = gd_ph c := nI_clamp (by omega)
    have s1 : nI (gd_ph c) - 1 = nI (gd_ph c - 1) := pk_sub (b := 1) (by omega)
    have s2 : nI (gd_ph c) - 10 = nI (gd_ph c - 10) := pk_sub (b := 10) (by omega)
    have v0 : vp_in (nI (gd_ph c)) 100 := vp_in_nI hp (by omega)
    obtain ⟨r1, r2⟩ := dp_left I hc
    have a1 := hA (gd_ph c - 1) (by omega)
    have a2 := hA (gd_ph c - 10) (by omega)
    refine br_f (nI_ge (b := 64) hc (by decide)) (nm_r (dp_at hc) ?_)
    rw [xb_ts1 hc]
    refine br_c (fun z => ?_) (fun z => ?_)
    · unfold wX_sweep_62
      refine br_f (by decide) ?_
      rw [s1, s2, nI_clamp (show gd_ph c - 1 < 2 ^ 31 by omega), nI_clamp (show gd_ph c - 10 < 2 ^ 31 by omega), c0, a1.1, a2.1]
      refine ⟨vp_in_nI (by omega) (by omega), vp_in_nI (by omega) (by omega), ?_⟩
      refine zX_least _ _ a1.2 a2.2 ⟨v0, nm_r (e' := upd a (gd_ph c) (nI (1 + min (min (F (gd_ph c - 1)) (F (gd_ph c - 10))) 64))) (by rw [← nI_add]; rfl) (nm_r (nI_1 c) ?_)⟩
      exact ih (c + 1) n _ _ (by omega) (by omega) (dp_Aw hA (by omega)) (dp_i1 I hc (dp_s1 dp_Q0 hc ((gd_Qph hc).mpr z) r1 r2))
    · unfold wX_sweep_62
      refine br_t rfl ?_
      rw [c0]
      refine ⟨v0, nm_e (nm_r (nI_1 c) ?_)⟩
      exact ih (c + 1) n (dp_w F (gd_ph c) 0) _ (by omega) (by omega) (dp_Aw hA (by omega)) (dp_i1 I hc (dp_21 (dp_off hp (fun y => z ((gd_Qph hc).mp y)))))
theorem zX_zero (post : SX → Prop) (h : ∀ F a, dp_A F a → dp_I2 (gd_Q (xs f)) 0 F → post (f, a)) : ∀ t k n a, k + t = 100 → t < n → (∀ p, p < k → a p = 0) → wX_sweep_2 post f n (nI k) a := by
  intro t
  induction t with
  | zero =>
    intro k n a hk hn ha
    obtain ⟨n, rfl⟩ : ∃ j, n = j + 1 := ⟨n - 1, by omega⟩
    have e : k = 100 := by omega
    subst e
    refine br_t (show (100 : Int32) ≤ nI 100 by decide) ⟨65, ?_⟩
    exact zX_fwd post h 64 0 65 (fun _ => 0) a (by omega) (by omega) (fun p hp => ⟨ha p hp, Nat.zero_le _⟩) ⟨fun _ _ _ => rfl, fun d _ hd => absurd hd (Nat.not_lt_zero d)⟩
  | succ t ih =>
    intro k n a hk hn ha
    obtain ⟨n, rfl⟩ : ∃ j, n = j + 1 := ⟨n - 1, by omega⟩
    have ck : (nI k).toNatClampNeg = k := nI_clamp (by omega)
    refine br_f (nI_ge (b := 100) (by omega) (by decide)) ?_
    rw [ck]
    refine ⟨vp_in_nI (by omega) (by omega), nm_e (nm_r (nI_1 k) (ih (k + 1) n _ (by omega) (by omega) (fun p hp => ?_)))⟩
    by_cases z : p = k
    · subst z; exact pk_us
    · rw [pk_un z]; exact ha p (by omega)
end
theorem zX_depth (post : Int32 → SX → Prop) (f : Int64) (a_far : Nat → Int32) {c : Nat} (hc : c < 64) (h : ∀ v a, dp_o2 (gd_Q (xs f)) (gd_ph c) v → post (nI v) (f, a)) : wpX_depth post (f, a_far) (nI c) := by
  unfold wpX_depth
  dsimp only
  refine zX_badC _ _ hc (br_t rfl ?_)
  rw [dp_at hc, nI_clamp (show gd_ph c < 2 ^ 31 by have := (gd_ph_lt hc).1; omega)]
  refine ⟨101, zX_zero _ (fun F a hA I => ?_) 100 0 101 a_far (by omega) (by omega) (fun p hp => absurd hp (Nat.not_lt_zero p))⟩
  refine ⟨vp_in_nI (gd_ph_lt hc).1 (by omega), ?_⟩
  show post (a (gd_ph c)) (f, a)
  rw [(hA (gd_ph c) (gd_ph_lt hc).1).1]
  exact h _ a (I.2.2 c hc (Nat.zero_le _))
/-! ===== the reference's distance ===== -/
theorem dq_a : ∀ a, a < 8 → ∀ e, e < 10 → (nI e - 1 ≤ nI a ↔ e ≤ a + 1) := by decide +kernel
theorem dq_b : ∀ a, a < 8 → ∀ e, e < 10 → e ≤ a + 1 → nI a - (nI e - 1) = nI (a + 1 - e) := by decide +kernel
theorem dq_c : ∀ a, a < 8 → ∀ e, e < 10 → ¬ e ≤ a + 1 → (nI e - 1) - nI a = nI (e - (a + 1)) := by decide +kernel
theorem dq_r {i : Nat} (h : i < 100) : nI i - nI i / 10 * 10 = nI (i % 10) := pk_rem (d := 10) (by omega) (by omega) (by omega)
theorem dq_d {i : Nat} (h : i < 100) : nI i / 10 = nI (i / 10) := pk_div (d := 10) (by omega) (by omega) (by omega)
theorem zY_depth_l (post : Int32 → Prop) (f_count : Int32) (a_on aS aM an : Nat → Int32) {P : Nat → Prop} (hr : yr P a_on) {c : Nat} (hc : c < 64) (h : ∀ v, dp_o2 (gd_Q P) (gd_ph c) v → post (nI v)) : ∀ t i n l, i + t = 100 → t < n → l ≤ 100 → (∀ q, q < i → ¬ gd_Q P q → l ≤ dp_ds (gd_ph c) q) → (l = 100 ∨ ∃ q, q < 100 ∧ ¬ gd_Q P q ∧ dp_ds (gd_ph c) q ≤ l) → wY_depth_15 post (nI c) f_count a_on aS aM an n (nI l) (nI i) := by
  intro t
  have k8 : ¬ (8 : Int32) = 0 := by decide
  have k10 : ¬ (10 : Int32) = 0 := by decide
  induction t with
  | zero =>
    intro i n l hi hn hl h1 h2
    obtain ⟨n, rfl⟩ : ∃ j, n = j + 1 := ⟨n - 1, by omega⟩
    have e : i = 100 := by omega
    subst e
    refine br_t (show (100 : Int32) ≤ nI 100 by decide) (h l ⟨?_, h1⟩)
    rcases h2 with z | z
    · exact ⟨0, by omega, fun y => y.1 (Or.inl rfl), by unfold dp_ds gd_ph; omega⟩
    · exact z
  | succ t ih =>
    intro i n l hi hn hl h1 h2
    obtain ⟨n, rfl⟩ : ∃ j, n = j + 1 := ⟨n - 1, by omega⟩
    have hi100 : i < 100 := by omega
    have hds : dp_ds (gd_ph c) i ≤ 18 := by unfold dp_ds gd_ph; omega
    have s3 : ∀ dx dy, dx + dy = dp_ds (gd_ph c) i → wY_depth_91 post (wY_depth_15 post (nI c) f_count a_on aS aM an n) (nI c) (nI l) (nI i) (nI (i % 10) - 1) (nI (i / 10) - 1) (nI dx) (nI dy) f_count a_on aS aM an := by
      intro dx dy e
      unfold wY_depth_91
      rw [nI_add, e]
      have eQ : 10 * (i / 10) + i % 10 = i := by omega
      refine zY_isOn _ _ _ _ _ _ hr (by omega) (by omega) (fun q => br_f (by decide) (nm_r (nI_1 i) ?_)) (fun q => br_t rfl (pk_le l (dp_ds (gd_ph c) i) (fun z => nm_r (nI_1 i) ?_) (fun z => nm_e (nm_r (nI_1 i) ?_))))
      · rw [eQ] at q
        refine ih (i + 1) n l (by omega) (by omega) hl (fun r hr' hn' => ?_) h2
        by_cases z : r = i
        · subst z; exact absurd q hn'
        · exact h1 r (by omega) hn'
      · refine ih (i + 1) n l (by omega) (by omega) hl (fun r hr' hn' => ?_) h2
        by_cases y : r = i
        · subst y; exact z
        · exact h1 r (by omega) hn'
      · rw [eQ] at q
        refine ih (i + 1) n _ (by omega) (by omega) (by omega) (fun r hr' hn' => ?_) (Or.inr ⟨i, hi100, q, Nat.le_refl _⟩)
        by_cases y : r = i
        · subst y; exact Nat.le_refl _
        · have := h1 r (by omega) hn'
          omega
    have s2 : ∀ dx, dx = (c % 8 + 1 - i % 10) + (i % 10 - (c % 8 + 1)) → wY_depth_63 post (wY_depth_15 post (nI c) f_count a_on aS aM an n) (nI c) (nI l) (nI i) (nI (i % 10) - 1) (nI (i / 10) - 1) (nI dx) f_count a_on aS aM an := by
      intro dx e
      unfold wY_depth_63
      rw [wk_d8 hc, dq_a (c / 8) (by omega) (i / 10) (by omega)]
      have hD : dp_ds (gd_ph c) i = dx + ((c / 8 + 1 - i / 10) + (i / 10 - (c / 8 + 1))) := by
        have hp := (dp_pm hc).1
        unfold dp_ds
        rw [hp.1, hp.2, e]
      refine ⟨k8, br_c (fun z => ⟨k8, ?_⟩) (fun z => ⟨k8, ?_⟩)⟩
      · rw [dq_b (c / 8) (by omega) (i / 10) (by omega) z]
        exact s3 dx _ (by omega)
      · rw [dq_c (c / 8) (by omega) (i / 10) (by omega) z]
        exact s3 dx _ (by omega)
    refine br_f (nI_ge (b := 100) hi100 (by decide)) ?_
    rw [dq_r hi100, dq_d hi100, wk_r8 hc]
    refine ⟨k10, nm_e ⟨k10, nm_e ⟨k8, ?_⟩⟩⟩
    rw [dq_a (c % 8) (by omega) (i % 10) (by omega)]
    refine br_c (fun z => ⟨k8, ?_⟩) (fun z => ⟨k8, ?_⟩)
    · rw [dq_b (c % 8) (by omega) (i % 10) (by omega) z]
      exact s2 _ (by omega)
    · rw [dq_c (c % 8) (by omega) (i % 10) (by omega) z]
      exact s2 _ (by omega)
theorem zY_depth (post : Int32 → Prop) (f_count : Int32) (a_on aS aM an : Nat → Int32) {P : Nat → Prop} (hr : yr P a_on) {c : Nat} (hc : c < 64) (h : ∀ v, dp_o2 (gd_Q P) (gd_ph c) v → post (nI v)) : wpY_depth post (f_count, a_on, aS, aM, an) (nI c) := by
  unfold wpY_depth
  dsimp only
  refine zY_isC _ _ hc (br_f (by decide) ⟨101, ?_⟩)
  exact zY_depth_l post f_count a_on aS aM an hr hc h 100 0 101 100 (by omega) (by omega) (by omega) (fun q hq => absurd hq (Nat.not_lt_zero q)) (Or.inl rfl)
end
section
/-! one piece; the way between two cells -/
theorem zX_off0 (post : Int32 → Prop) (f : Int64) (a_far : Nat → Int32) {c : Nat} (hc : c < 64) (h : xs f c) (hp : post 0) : wpX_isOff post (f, a_far) (nI c) := by
  unfold wpX_isOff
  dsimp only
  refine zX_badC _ _ hc (br_t rfl ?_)
  rw [xb_ts0 hc]
  refine br_f (fun z => ?_) hp
  have : xb f c = true := h
  rw [z] at this
  exact Bool.noConfusion this
theorem zX_off1 (post : Int32 → Prop) (f : Int64) (a_far : Nat → Int32) {c : Nat} (hc : c < 64) (h : ¬ xs f c) (hp : post 1) : wpX_isOff post (f, a_far) (nI c) := by
  unfold wpX_isOff
  dsimp only
  refine zX_badC _ _ hc (br_t rfl ?_)
  rw [xb_ts0 hc]
  exact br_t (Bool.not_eq_true _ ▸ h) hp
theorem zX_off2 (post : Int32 → Prop) (f : Int64) (a_far : Nat → Int32) {v : Int32} (hv : v < 0 ∨ (¬ v < 0 ∧ (64 : Int32) ≤ v)) (hp : post 1) : wpX_isOff post (f, a_far) v := by
  unfold wpX_isOff
  dsimp only
  exact zX_badC' _ _ hv (br_f (by decide) hp)
theorem xw_1 {c : Nat} (hc : c < 64) (i : Nat) : xs ((1 : Int64) <<< ((nI c).toInt64 &&& 63)) i ↔ i = c := by
  unfold xs
  rcases Nat.lt_or_ge i 64 with z | z
  · rw [xb_one hc z, decide_eq_true_eq]
  · rw [xb_big z]
    exact ⟨fun y => Bool.noConfusion y, fun y => by omega⟩
theorem xw_pc (m : Bool) (f : Int64) {c : Nat} (hc : c < 64) (h : xs f c) (d : Nat) : xs (xf m f ((1 : Int64) <<< ((nI c).toInt64 &&& 63))) d ↔ cc_cl (gd_w m (xs f)) c d := by
  rw [xf_spec]
  constructor
  · rintro ⟨a, ⟨ha, _⟩, g⟩
    rw [(xw_1 hc a).mp ha] at g
    exact g
  · intro g
    exact ⟨c, ⟨(xw_1 hc c).mpr rfl, h⟩, g⟩
theorem xw_it (m : Bool) (f : Int64) {c : Nat} (hc : c < 64) (h : xs f c) : ∀ k d, xs (xf_it m f ((1 : Int64) <<< ((nI c).toInt64 &&& 63)) k) d ↔ wk_D m (xs f) c k d := by
  intro k
  induction k with
  | zero =>
    intro d
    show xb ((1 : Int64) <<< ((nI c).toInt64 &&& 63) &&& f) d = true ↔ d = c
    rw [xb_and, Bool.and_eq_true]
    constructor
    · intro z; exact (xw_1 hc d).mp z.1
    · intro z; subst z; exact ⟨(xw_1 hc d).mpr rfl, h⟩
  | succ k ih =>
    intro d
    show xb (xg m (xf_it m f ((1 : Int64) <<< ((nI c).toInt64 &&& 63)) k) &&& f) d = true ↔ (wk_D m (xs f) c k d ∨ ∃ x, wk_D m (xs f) c k x ∧ gd_w m (xs f) x d)
    rw [xb_and, Bool.and_eq_true]
    constructor
    · intro z
      have hd := xb_lt z.2
      rcases (xg_b m _ hd).mp z.1 with y | ⟨x, y1, y2⟩
      · exact Or.inl ((ih d).mp y)
      · exact Or.inr ⟨x, (ih x).mp y1, ⟨xb_lt y1, hd⟩, ⟨xf_sub _ _ _ k x y1, z.2⟩, y2⟩
    · rintro (z | ⟨x, z, w⟩)
      · have q := (ih d).mpr z
        exact ⟨(xg_b m _ (xb_lt q)).mpr (Or.inl q), xf_sub _ _ _ k d q⟩
      · exact ⟨(xg_b m _ w.1.2).mpr (Or.inr ⟨x, (ih x).mpr z, w.2.2⟩), w.2.1.2⟩
theorem xw_0 (m : Bool) (f : Int64) {c : Nat} (hc : c < 64) (h : xs f c) : xf_it m f ((1 : Int64) <<< ((nI c).toInt64 &&& 63)) 0 = (1 : Int64) <<< ((nI c).toInt64 &&& 63) := by
  apply xb_ext
  intro i hi
  show xb ((1 : Int64) <<< ((nI c).toInt64 &&& 63) &&& f) i = _
  rw [xb_and, xb_one hc hi]
  by_cases e : i = c
  · subst e
    rw [decide_eq_true rfl, Bool.true_and]
    exact h
  · rw [decide_eq_false e, Bool.false_and]
theorem zX_way_l (post : Int32 → Prop) (f : Int64) (a_far : Nat → Int32) (m : Bool) {a b : Nat} (ha : a < 64) (hb : b < 64) (hA : xs f a) (h1 : ∀ k, k < 64 → wk_D m (xs f) a k b → (∀ j, j < k → ¬ wk_D m (xs f) a j b) → post (nI k)) (h0 : (∀ j, j < 64 → ¬ wk_D m (xs f) a j b) → post (-4)) : ∀ t k n, k + t = 64 → t < n → (∀ j, j < k → ¬ wk_D m (xs f) a j b) → wX_way_37 post (md m) (nI b) f a_far n (xf_it m f ((1 : Int64) <<< ((nI a).toInt64 &&& 63)) k) (nI k) := by
  intro t
  induction t with
  | zero =>
    intro k n hk hn hj
    obtain ⟨n, rfl⟩ : ∃ j, n = j + 1 := ⟨n - 1, by omega⟩
    have e : k = 64 := by omega
    subst e
    exact br_t (show (64 : Int32) ≤ nI 64 by decide) (h0 hj)
  | succ t ih =>
    intro k n hk hn hj
    obtain ⟨n, rfl⟩ : ∃ j, n = j + 1 := ⟨n - 1, by omega⟩
    refine br_f (nI_ge (b := 64) (by omega) (by decide)) ?_
    rw [xb_ts1 hb]
    refine br_c (fun z => h1 k (by omega) ((xw_it m f ha hA k b).mp z) hj) (fun z => ?_)
    refine zX_grown _ _ _ m (nm_e (nm_r (nI_1 k) ?_))
    refine ih (k + 1) n (by omega) (by omega) (fun j hj' => ?_)
    by_cases e : j = k
    · subst e; exact fun y => z ((xw_it m f ha hA j b).mpr y)
    · exact hj j (by omega)
theorem zX_way (post : Int32 → Prop) (f : Int64) (a_far : Nat → Int32) (m : Bool) {a b : Nat} (ha : a < 64) (hb : b < 64) (hA : xs f a) (hB : xs f b) (h1 : ∀ k, k < 64 → wk_D m (xs f) a k b → (∀ j, j < k → ¬ wk_D m (xs f) a j b) → post (nI k)) (h0 : (∀ j, j < 64 → ¬ wk_D m (xs f) a j b) → post (-4)) : wpX_way post (f, a_far) (md m) (nI a) (nI b) := by
  unfold wpX_way
  dsimp only
  refine zX_badM _ _ _ (br_t rfl ?_)
  refine zX_off0 _ _ _ ha hA (br_t rfl ?_)
  refine zX_off0 _ _ _ hb hB (br_t rfl (nm_e ⟨65, ?_⟩))
  have k := zX_way_l post f a_far m ha hb hA h1 h0 64 0 65 (by omega) (by omega) (fun j hj => absurd hj (Nat.not_lt_zero j))
  rw [xw_0 m f ha hA] at k
  exact k
theorem zY_way (post : Int32 → SY → Prop) (f_count : Int32) (a_on aS aM an : Nat → Int32) {P : Nat → Prop} (hr : yr P a_on) (m : Bool) {a b : Nat} (ha : a < 64) (hb : b < 64) (hA : P a) (hB : P b) (h1 : ∀ k fc aS aM, wk_D m P a k b → (∀ j, wk_D m P a j b → k ≤ j) → k < 64 → post (nI k) (fc, a_on, aS, aM, an)) (h0 : (∀ j, ¬ wk_D m P a j b) → ∀ fc aS aM, post (-4) (fc, a_on, aS, aM, an)) : wpY_way post (f_count, a_on, aS, aM, an) (md m) (nI a) (nI b) := by
  unfold wpY_way
  dsimp only
  have va : vp_in (nI a) 64 := vp_in_nI ha (by omega)
  have vb : vp_in (nI b) 64 := vp_in_nI hb (by omega)
  refine zY_isM _ _ m (br_f (by decide) ?_)
  refine zY_isC _ _ ha (br_f (by decide) ?_)
  refine zY_isC _ _ hb (br_f (by decide) ?_)
  rw [nI_clamp (show a < 2 ^ 31 by omega), nI_clamp (show b < 2 ^ 31 by omega), yr_1 hr ha, yr_1 hr hb]
  refine ⟨va, br_f (fun z => z hA) ⟨vb, br_f (fun z => z hB) ?_⟩⟩
  refine zY_walk _ _ _ _ _ _ m P ha hA (yr_on hr ha hA) (fun cnt mt st aS' aM' F => ?_)
  obtain ⟨f1, f2, f3, f4, f5, f6⟩ := F
  have fb := f1 b hb
  refine ⟨vb, ?_⟩
  show (0 ≤ aS' b → _) ∧ (¬ 0 ≤ aS' b → _)
  rcases Nat.eq_zero_or_pos (st b) with z | z
  · have e : aS' b = -1 := by rw [fb.1, z]; decide
    refine br_f (by rw [e]; decide) (h0 (fun j y => ?_) _ _ _)
    have := (f6 j b y).1
    omega
  · obtain ⟨k, hk⟩ : ∃ k, st b = k + 1 := ⟨st b - 1, by omega⟩
    have e : aS' b = nI k := by rw [fb.1, hk, nI_pred]
    have d := f5 b hb z
    rw [hk, Nat.add_sub_cancel] at d
    refine br_t (by rw [e]; exact nI_pos' (by omega)) ⟨vb, ?_⟩
    show post (aS' b) _
    rw [e]
    exact h1 k _ _ _ d (fun j y => by have := (f6 j b y).2; omega) (by omega)
theorem zX_piece (post : Int32 → Prop) (f : Int64) (a_far : Nat → Int32) (m : Bool) {c : Nat} (hc : c < 64) (h : xs f c) (hp : ∀ r, cc_cl (gd_w m (xs f)) c r → (∀ d, cc_cl (gd_w m (xs f)) c d → r ≤ d) → post (nI r)) : wpX_piece post (f, a_far) (md m) (nI c) := by
  unfold wpX_piece
  dsimp only
  refine zX_badM _ _ _ (br_t rfl ?_)
  refine zX_off0 _ _ _ hc h (br_t rfl ?_)
  refine zX_flooded _ _ _ _ m ?_
  have sp := xw_pc m f hc h
  obtain ⟨r, r1, _, r3⟩ := cc_least (xs (xf m f ((1 : Int64) <<< ((nI c).toInt64 &&& 63)))) ((sp c).mpr cc_rf)
  refine zX_lowest _ _ r1 r3 (hp r ((sp r).mp r1) (fun d hd => ?_))
  rcases Nat.lt_or_ge d r with z | z
  · exact absurd ((sp d).mpr hd) (r3 d z)
  · exact z
theorem zX_size (post : Int32 → Prop) (f : Int64) (a_far : Nat → Int32) (m : Bool) {c : Nat} (hc : c < 64) (h : xs f c) (hp : post (nI (xp_sz m (xs f) c))) : wpX_size post (f, a_far) (md m) (nI c) := by
  unfold wpX_size
  dsimp only
  refine zX_badM _ _ _ (br_t rfl ?_)
  refine zX_off0 _ _ _ hc h (br_t rfl ?_)
  refine zX_flooded _ _ _ _ m ?_
  refine zX_ones _ _ _ ?_
  have e : xb_n (xf m f ((1 : Int64) <<< ((nI c).toInt64 &&& 63))) = xp_sz m (xs f) c := cc_congr (fun d _ => xw_pc m f hc h d)
  rw [e]
  exact hp
/-! ===== what the changing calls leave, against the reference's pictures ===== -/
theorem gd_w_cg {m : Bool} {A B : Nat → Prop} (h : ∀ c, c < 64 → (A c ↔ B c)) : gd_w m A = gd_w m B :=
  funext (fun x => funext (fun y => propext ⟨fun w => ⟨w.1, ⟨(h x w.1.1).mp w.2.1.1, (h y w.1.2).mp w.2.1.2⟩, w.2.2⟩, fun w => ⟨w.1, ⟨(h x w.1.1).mpr w.2.1.1, (h y w.1.2).mpr w.2.1.2⟩, w.2.2⟩⟩))
theorem xn_not (f : Int64) {c : Nat} (hc : c < 64) : xs (f ^^^ (-1)) c ↔ ¬ xs f c := by
  unfold xs
  rw [xb_not f hc, Bool.not_eq_true', Bool.not_eq_true]
theorem xn_grow (m : Bool) (f : Int64) : ∀ c, c < 64 → (xs (xg m f) c ↔ xs f c ∨ ∃ i, i < 9 ∧ hn_I m i ∧ (gd_Q (xs f) (10 * (c / 8 + i / 3) + (c % 8 + i % 3)) ↔ true = true)) := by
  intro c hc
  rw [ng_on hc m]
  refine (xg_b m f hc).trans ⟨fun z => ?_, fun z => ?_⟩
  · rcases z with z | ⟨d, h1, h2⟩
    · exact Or.inl z
    · exact Or.inr ⟨d, ⟨xb_lt h1, h1⟩, h2⟩
  · rcases z with z | ⟨d, h1, h2⟩
    · exact Or.inl z
    · exact Or.inr ⟨d, h1.2, h2⟩
theorem xn_shrink (m : Bool) (f : Int64) : ∀ c, c < 64 → (xs ((f &&& (xg m (f ^^^ (-1)) ^^^ (-1))) &&& 35604928818740736) c ↔ xs f c ∧ ¬ ∃ i, i < 9 ∧ hn_I m i ∧ (gd_Q (xs f) (10 * (c / 8 + i / 3) + (c % 8 + i % 3)) ↔ false = true)) := by
  intro c hc
  rw [ng_off hc m]
  have e : xs ((f &&& (xg m (f ^^^ (-1)) ^^^ (-1))) &&& 35604928818740736) c ↔ (xs f c ∧ ¬ xs (xg m (f ^^^ (-1))) c) ∧ ¬ gd_ed c := by
    rw [← xn_not (xg m (f ^^^ (-1))) hc]
    unfold xs
    rw [xb_and, xb_and, xb_nb c hc, Bool.and_eq_true, Bool.and_eq_true, decide_eq_true_eq]
  have g : xs (xg m (f ^^^ (-1))) c ↔ ¬ xs f c ∨ ∃ d, (d < 64 ∧ ¬ xs f d) ∧ gd_nr m d c := by
    refine (xg_b m (f ^^^ (-1)) hc).trans ⟨fun z => ?_, fun z => ?_⟩
    · rcases z with z | ⟨d, h1, h2⟩
      · exact Or.inl ((xn_not f hc).mp z)
      · exact Or.inr ⟨d, ⟨xb_lt h1, (xn_not f (xb_lt h1)).mp h1⟩, h2⟩
    · rcases z with z | ⟨d, h1, h2⟩
      · exact Or.inl ((xn_not f hc).mpr z)
      · exact Or.inr ⟨d, (xn_not f h1.1).mpr h1.2, h2⟩
  rw [e, g]
  constructor
  · intro z
    exact ⟨z.1.1, fun y => y.elim z.2 (fun q => z.1.2 (Or.inr q))⟩
  · intro z
    exact ⟨⟨z.1, fun y => y.elim (fun q => q z.1) (fun q => z.2 (Or.inr q))⟩, fun y => z.2 (Or.inl y)⟩
theorem xn_fill (m : Bool) (f : Int64) : ∀ c, c < 64 → (xs (xf m (f ^^^ (-1)) (-35604928818740737) ^^^ (-1)) c ↔ xs f c ∨ ∀ d, cc_cl (gd_w m (fun c => ¬ xs f c)) c d → ¬ gd_ed d) := by
  intro c hc
  rw [xn_not _ hc, xf_spec, gd_w_cg (A := xs (f ^^^ (-1))) (B := fun c => ¬ xs f c) (fun c hc => xn_not f hc)]
  have bd : ∀ a, xs (-35604928818740737) a ↔ a < 64 ∧ gd_ed a := by
    intro a
    unfold xs
    rcases Nat.lt_or_ge a 64 with z | z
    · rw [xb_bd a z, decide_eq_true_eq]; exact ⟨fun y => ⟨z, y⟩, fun y => y.2⟩
    · rw [xb_big z]; exact ⟨fun y => Bool.noConfusion y, fun y => by omega⟩
  constructor
  · intro z
    by_cases y : xs f c
    · exact Or.inl y
    · refine Or.inr (fun d h hd => z ?_)
      have hd' := gd_w_in hc y h
      exact ⟨d, ⟨(bd d).mpr ⟨hd'.1, hd⟩, (xn_not f hd'.1).mpr hd'.2⟩, cc_sy (gd_w_sy _ _) h⟩
  · rintro z ⟨a, ⟨h1, h2⟩, h3⟩
    have ha := (bd a).mp h1
    have hc' := gd_w_in ha.1 ((xn_not f ha.1).mp h2) h3
    rcases z with z | z
    · exact hc'.2 z
    · exact z a (cc_sy (gd_w_sy _ _) h3) ha.2
end
section
/-! what is owed -/
/-- the same cells are on -/
def i_Rel (_ : Nat) (u : SX) (v : SY) : Prop := yr (xs u.1) v.2.1
theorem i_up {k : Nat} {u : SX} {v : SY} (h : i_Rel k u v) : i_Rel (k + 4) u v := h
theorem i_vc0 : wpX_init (fun u => wpY_init (fun v => i_Rel 0 u v)) := fun c _ => ⟨fun z => absurd z (xp_z c), fun _ => rfl⟩
theorem i_vc_turn {k : Nat} {u : SX} {v : SY} (I : i_Rel k u v) (hk : k + 4 ≤ 2048) (v1 : Int32) : wpX_turn (fun r u' => wpY_turn (fun r' v' => r' = r ∧ i_Rel (k + 4) u' v') v v1) u v1 := by
  obtain ⟨f, a_far⟩ := u
  obtain ⟨fc, a_on, aS, aM, an⟩ := v
  have hr : yr (xs f) a_on := I
  rcases ce_cases v1 with ⟨c, hc, rfl⟩ | hv
  · refine zX_turn _ f a_far hc ?_
    refine zY_turn _ fc a_on aS aM an hr hc (fun a ha => ⟨fun z => ⟨?_, ?_⟩, fun z => ⟨?_, ?_⟩⟩)
    · rw [show xb f c = true from z]; rfl
    · exact yr_cg ha (fun i hi => (tu_b f hc hi).symm)
    · rw [show xb f c = false from Bool.not_eq_true _ ▸ z]; rfl
    · exact yr_cg ha (fun i hi => (tu_b f hc hi).symm)
  · unfold wpX_turn
    dsimp only
    refine zX_badC' _ _ hv (br_f (by decide) ?_)
    unfold wpY_turn
    dsimp only
    exact zY_isC' _ _ hv (br_t rfl ⟨rfl, hr⟩)
theorem i_vc_line {k : Nat} {u : SX} {v : SY} (I : i_Rel k u v) (hk : k + 4 ≤ 2048) (v1 : Int32) (v2 : Int32) : wpX_line (fun r u' => wpY_line (fun r' v' => r' = r ∧ i_Rel (k + 4) u' v') v v1 v2) u v1 v2 := by
  obtain ⟨f, a_far⟩ := u
  obtain ⟨fc, a_on, aS, aM, an⟩ := v
  have hr : yr (xs f) a_on := I
  by_cases h0 : v1 < 0
  · exact br_t h0 (br_t h0 ⟨rfl, hr⟩)
  · rcases pk_ix v1 (n := 8) (by omega) with h | h | ⟨y, hy, rfl⟩
    · exact absurd h h0
    · have h' : (8 : Int32) ≤ v1 := h
      exact br_f h0 (br_t h' (br_f h0 (br_t (Int32.lt_of_lt_of_le (by decide) h') ⟨rfl, hr⟩)))
    · have y8 : ¬ (8 : Int32) ≤ nI y := nI_ge (b := 8) hy (by decide)
      have y7 : ¬ (7 : Int32) < nI y := nI_nlt (a := 7) (by omega) (by decide)
      by_cases h2 : v2 < 0
      · exact br_f h0 (br_f y8 (br_t h2 (br_f h0 (br_f y7 (br_t h2 ⟨rfl, hr⟩)))))
      · by_cases h3 : v2 ≤ 255
        · obtain ⟨w, hw, rfl⟩ := nI_of2 (x := v2) (M := 255) (n := 255) (by decide) h2 h3
          refine br_f h0 (br_f y8 (br_f h2 (br_t h3 (nm_r (ln_8 y) (nm_e (nm_e ?_))))))
          refine br_f h0 (br_f y7 (br_f h2 (br_t h3 ⟨9, ?_⟩)))
          refine zY_line_l (P := xs f) _ fc aS aM an hy (show w < 256 by omega) (fun r a hb ha => ⟨?_, ?_⟩) 8 0 9 0 a_on (by omega) (by omega) (fun i hi => ?_) (tk_0 hr (fun c hc => ?_))
          · rw [b_0]
            exact ⟨fun z => Bool.noConfusion z, fun z => absurd z.1 (Nat.not_lt_zero i)⟩
          · unfold ln_N
            rw [if_neg (by omega)]
          · apply b_ext
            intro i hi
            have e1 := hb i hi
            have e2 := ln_ans f hy hi
            exact Bool.eq_iff_iff.mpr (e1.trans e2.symm)
          · exact yr_cg ha (fun i hi => (ln_new f hy (by omega) hi).symm)
        · exact br_f h0 (br_f y8 (br_f h2 (br_f h3 (br_f h0 (br_f y7 (br_f h2 (br_f h3 ⟨rfl, hr⟩)))))))
theorem i_vc_box {k : Nat} {u : SX} {v : SY} (I : i_Rel k u v) (hk : k + 4 ≤ 2048) (v1 : Int32) (v2 : Int32) (v3 : Int32) : wpX_box (fun r u' => wpY_box (fun r' v' => r' = r ∧ i_Rel (k + 4) u' v') v v1 v2 v3) u v1 v2 v3 := by
  obtain ⟨f, a_far⟩ := u
  obtain ⟨fc, a_on, aS, aM, an⟩ := v
  have hr : yr (xs f) a_on := I
  rcases ce_cases v1 with ⟨a, ha, rfl⟩ | hv
  · rcases ce_cases v2 with ⟨b, hb, rfl⟩ | hv
    · by_cases bad : bx_bad a b v3
      · exact zX_boxB _ ha hb bad f a_far (zY_boxB _ ha hb bad fc a_on aS aM an ⟨rfl, hr⟩)
      · have hx : a % 8 ≤ b % 8 := by
          rcases Nat.lt_or_ge (b % 8) (a % 8) with z | z
          · exact absurd (Or.inl z) bad
          · exact z
        have hy : a / 8 ≤ b / 8 := by
          rcases Nat.lt_or_ge (b / 8) (a / 8) with z | z
          · exact absurd (Or.inr (Or.inl z)) bad
          · exact z
        rcases bo_cases v3 with ⟨q, rfl⟩ | z
        · refine zX_box _ ha hb hx hy q f a_far (fun g hg => ?_)
          refine zY_box (P := xs f) _ ha hb hx hy hr (fun r h => ⟨?_, yr_cg h (fun c hc => (hg c hc).symm)⟩)
          rw [xy_d, yd_cg hg]
        · exact absurd (Or.inr (Or.inr z)) bad
    · unfold wpX_box
      dsimp only
      refine zX_badC _ _ ha (br_t rfl ?_)
      refine zX_badC' _ _ hv (br_f (by decide) ?_)
      unfold wpY_box
      dsimp only
      refine zY_isC _ _ ha (br_f (by decide) ?_)
      exact zY_isC' _ _ hv (br_t rfl ⟨rfl, hr⟩)
  · unfold wpX_box
    dsimp only
    refine zX_badC' _ _ hv (br_f (by decide) ?_)
    unfold wpY_box
    dsimp only
    exact zY_isC' _ _ hv (br_t rfl ⟨rfl, hr⟩)
theorem i_vc_cells {k : Nat} {u : SX} {v : SY} (I : i_Rel k u v) (hk : k + 4 ≤ 2048) : wpX_cells (fun r => wpY_cells (fun r' => r' = r ∧ i_Rel (k + 4) u v) v) u := by
  obtain ⟨f, a_far⟩ := u
  obtain ⟨fc, a_on, aS, aM, an⟩ := v
  have hr : yr (xs f) a_on := I
  unfold wpX_cells
  dsimp only
  refine zX_ones _ _ _ ?_
  exact zY_cells _ fc a_on aS aM an hr ⟨rfl, hr⟩
theorem i_vc_pieces {k : Nat} {u : SX} {v : SY} (I : i_Rel k u v) (hk : k + 4 ≤ 2048) (v1 : Int32) : wpX_pieces (fun r => wpY_pieces (fun r' v' => r' = r ∧ i_Rel (k + 4) u v') v v1) u v1 := by
  obtain ⟨f, a_far⟩ := u
  obtain ⟨fc, a_on, aS, aM, an⟩ := v
  have hr : yr (xs f) a_on := I
  rcases md_cases v1 with ⟨m, rfl⟩ | hv
  · refine zX_pieces _ f a_far m ?_
    exact zY_pieces _ hr fc aS aM m (fun _ _ _ => ⟨rfl, hr⟩)
  · unfold wpX_pieces
    dsimp only
    refine zX_badM' _ _ hv (br_f (by decide) ?_)
    unfold wpY_pieces
    dsimp only
    exact zY_isM' _ _ hv (br_t rfl ⟨rfl, hr⟩)
theorem i_vc_holes {k : Nat} {u : SX} {v : SY} (I : i_Rel k u v) (hk : k + 4 ≤ 2048) (v1 : Int32) : wpX_holes (fun r => wpY_holes (fun r' v' => r' = r ∧ i_Rel (k + 4) u v') v v1) u v1 := by
  obtain ⟨f, a_far⟩ := u
  obtain ⟨fc, a_on, aS, aM, an⟩ := v
  have hr : yr (xs f) a_on := I
  rcases md_cases v1 with ⟨m, rfl⟩ | hv
  · refine zX_holes _ m f a_far ?_
    exact zY_holes _ hr fc aS aM m (fun _ _ _ => ⟨rfl, hr⟩)
  · unfold wpX_holes
    dsimp only
    refine zX_badM' _ _ hv (br_f (by decide) ?_)
    unfold wpY_holes
    dsimp only
    exact zY_isM' _ _ hv (br_t rfl ⟨rfl, hr⟩)
theorem i_vc_balance {k : Nat} {u : SX} {v : SY} (I : i_Rel k u v) (hk : k + 4 ≤ 2048) (v1 : Int32) : wpX_balance (fun r => wpY_balance (fun r' v' => r' = r ∧ i_Rel (k + 4) u v') v v1) u v1 := by
  obtain ⟨f, a_far⟩ := u
  obtain ⟨fc, a_on, aS, aM, an⟩ := v
  have hr : yr (xs f) a_on := I
  rcases md_cases v1 with ⟨m, rfl⟩ | hv
  · refine zX_balance _ m f a_far ?_
    unfold wpY_balance
    dsimp only
    refine zY_isM _ _ m (br_f (by decide) ?_)
    refine zY_pieces _ hr fc aS aM m (fun fc' aS' aM' => ?_)
    exact zY_holes _ hr fc' aS' aM' m (fun _ _ _ => ⟨rfl, hr⟩)
  · unfold wpX_balance
    dsimp only
    refine zX_badM' _ _ hv (br_f (by decide) ?_)
    unfold wpY_balance
    dsimp only
    exact zY_isM' _ _ hv (br_t rfl ⟨rfl, hr⟩)
theorem i_vc_piece {k : Nat} {u : SX} {v : SY} (I : i_Rel k u v) (hk : k + 4 ≤ 2048) (v1 : Int32) (v2 : Int32) : wpX_piece (fun r => wpY_piece (fun r' v' => r' = r ∧ i_Rel (k + 4) u v') v v1 v2) u v1 v2 := by
  obtain ⟨f, a_far⟩ := u
  obtain ⟨fc, a_on, aS, aM, an⟩ := v
  have hr : yr (xs f) a_on := I
  rcases md_cases v1 with ⟨m, rfl⟩ | hv
  · rcases ce_cases v2 with ⟨c, hc, rfl⟩ | hw
    · have ck : (nI c).toNatClampNeg = c := nI_clamp (by omega)
      have vc : vp_in (nI c) 64 := vp_in_nI hc (by omega)
      by_cases hP : xs f c
      · refine zX_piece _ f a_far m hc hP (fun r h1 h2 => ?_)
        unfold wpY_piece
        dsimp only
        refine zY_isM _ _ m (br_f (by decide) ?_)
        refine zY_isC _ _ hc (br_f (by decide) ?_)
        rw [ck, yr_1 hr hc]
        refine ⟨vc, br_f (fun z => z hP) ?_⟩
        refine zY_walk _ _ _ _ _ _ m (xs f) hc hP (yr_on hr hc hP) (fun cnt mt st aS' aM' F => ?_)
        refine zY_least _ F (fun r' _ g1 g2 => ⟨?_, hr⟩)
        have := h2 r' g1
        have := g2 r h1
        rw [show r' = r by omega]
      · unfold wpX_piece
        dsimp only
        refine zX_badM _ _ m (br_t rfl ?_)
        refine zX_off1 _ _ _ hc hP (br_f (by decide) ?_)
        unfold wpY_piece
        dsimp only
        refine zY_isM _ _ m (br_f (by decide) ?_)
        refine zY_isC _ _ hc (br_f (by decide) ?_)
        rw [ck, yr_1 hr hc]
        exact ⟨vc, br_t hP ⟨rfl, hr⟩⟩
    · unfold wpX_piece
      dsimp only
      refine zX_badM _ _ m (br_t rfl ?_)
      refine zX_off2 _ _ _ hw (br_f (by decide) ?_)
      unfold wpY_piece
      dsimp only
      refine zY_isM _ _ m (br_f (by decide) ?_)
      exact zY_isC' _ _ hw (br_t rfl ⟨rfl, hr⟩)
  · unfold wpX_piece
    dsimp only
    refine zX_badM' _ _ hv (br_f (by decide) ?_)
    unfold wpY_piece
    dsimp only
    exact zY_isM' _ _ hv (br_t rfl ⟨rfl, hr⟩)
theorem i_vc_size {k : Nat} {u : SX} {v : SY} (I : i_Rel k u v) (hk : k + 4 ≤ 2048) (v1 : Int32) (v2 : Int32) : wpX_size (fun r => wpY_size (fun r' v' => r' = r ∧ i_Rel (k + 4) u v') v v1 v2) u v1 v2 := by
  obtain ⟨f, a_far⟩ := u
  obtain ⟨fc, a_on, aS, aM, an⟩ := v
  have hr : yr (xs f) a_on := I
  rcases md_cases v1 with ⟨m, rfl⟩ | hv
  · rcases ce_cases v2 with ⟨c, hc, rfl⟩ | hw
    · have ck : (nI c).toNatClampNeg = c := nI_clamp (by omega)
      have vc : vp_in (nI c) 64 := vp_in_nI hc (by omega)
      by_cases hP : xs f c
      · refine zX_size _ f a_far m hc hP ?_
        unfold wpY_size
        dsimp only
        refine zY_isM _ _ m (br_f (by decide) ?_)
        refine zY_isC _ _ hc (br_f (by decide) ?_)
        rw [ck, yr_1 hr hc]
        refine ⟨vc, br_f (fun z => z hP) ?_⟩
        refine zY_walk _ _ _ _ _ _ m (xs f) hc hP (yr_on hr hc hP) (fun cnt mt st aS' aM' F => ⟨?_, hr⟩)
        show nI cnt = _
        rw [F.2.2.2.1.1]
      · unfold wpX_size
        dsimp only
        refine zX_badM _ _ m (br_t rfl ?_)
        refine zX_off1 _ _ _ hc hP (br_f (by decide) ?_)
        unfold wpY_size
        dsimp only
        refine zY_isM _ _ m (br_f (by decide) ?_)
        refine zY_isC _ _ hc (br_f (by decide) ?_)
        rw [ck, yr_1 hr hc]
        exact ⟨vc, br_t hP ⟨rfl, hr⟩⟩
    · unfold wpX_size
      dsimp only
      refine zX_badM _ _ m (br_t rfl ?_)
      refine zX_off2 _ _ _ hw (br_f (by decide) ?_)
      unfold wpY_size
      dsimp only
      refine zY_isM _ _ m (br_f (by decide) ?_)
      exact zY_isC' _ _ hw (br_t rfl ⟨rfl, hr⟩)
  · unfold wpX_size
    dsimp only
    refine zX_badM' _ _ hv (br_f (by decide) ?_)
    unfold wpY_size
    dsimp only
    exact zY_isM' _ _ hv (br_t rfl ⟨rfl, hr⟩)
theorem i_vc_largest {k : Nat} {u : SX} {v : SY} (I : i_Rel k u v) (hk : k + 4 ≤ 2048) (v1 : Int32) : wpX_largest (fun r => wpY_largest (fun r' v' => r' = r ∧ i_Rel (k + 4) u v') v v1) u v1 := by
  obtain ⟨f, a_far⟩ := u
  obtain ⟨fc, a_on, aS, aM, an⟩ := v
  have hr : yr (xs f) a_on := I
  rcases md_cases v1 with ⟨m, rfl⟩ | hv
  · refine zX_largest _ f a_far m (fun b hb => ?_)
    refine zY_largest _ hr fc aS aM m (fun b' _ _ _ hb' => ⟨?_, hr⟩)
    rw [xp_mx_u hb hb']
  · unfold wpX_largest
    dsimp only
    refine zX_badM' _ _ hv (br_f (by decide) ?_)
    unfold wpY_largest
    dsimp only
    exact zY_isM' _ _ hv (br_t rfl ⟨rfl, hr⟩)
theorem i_vc_edge {k : Nat} {u : SX} {v : SY} (I : i_Rel k u v) (hk : k + 4 ≤ 2048) : wpX_edge (fun r => wpY_edge (fun r' => r' = r ∧ i_Rel (k + 4) u v) v) u := by
  obtain ⟨f, a_far⟩ := u
  obtain ⟨fc, a_on, aS, aM, an⟩ := v
  have hr : yr (xs f) a_on := I
  refine zX_edge _ f a_far ?_
  exact zY_edgeM _ fc a_on aS aM an hr ⟨rfl, hr⟩
theorem i_vc_grow {k : Nat} {u : SX} {v : SY} (I : i_Rel k u v) (hk : k + 4 ≤ 2048) (v1 : Int32) : wpX_grow (fun r u' => wpY_grow (fun r' v' => r' = r ∧ i_Rel (k + 4) u' v') v v1) u v1 := by
  obtain ⟨f, a_far⟩ := u
  obtain ⟨fc, a_on, aS, aM, an⟩ := v
  have hr : yr (xs f) a_on := I
  rcases md_cases v1 with ⟨m, rfl⟩ | hv
  · unfold wpX_grow
    dsimp only
    refine zX_badM _ _ m (br_t rfl ?_)
    refine zX_grown _ _ _ m ?_
    refine zX_change _ _ _ _ ?_
    show wpY_grow _ _ _
    unfold wpY_grow
    dsimp only
    refine zY_isM _ _ m (br_f (by decide) ⟨65, ?_⟩)
    refine zY_grow_l _ hr m (xs (xg m f)) (xn_grow m f) fc aS aM (fun a an' ha => ⟨?_, ha⟩) 64 0 65 an (by omega) (by omega) (fun c hc => absurd hc (Nat.not_lt_zero c))
    rw [xy_d]
  · unfold wpX_grow
    dsimp only
    refine zX_badM' _ _ hv (br_f (by decide) ?_)
    unfold wpY_grow
    dsimp only
    exact zY_isM' _ _ hv (br_t rfl ⟨rfl, hr⟩)
theorem i_vc_shrink {k : Nat} {u : SX} {v : SY} (I : i_Rel k u v) (hk : k + 4 ≤ 2048) (v1 : Int32) : wpX_shrink (fun r u' => wpY_shrink (fun r' v' => r' = r ∧ i_Rel (k + 4) u' v') v v1) u v1 := by
  obtain ⟨f, a_far⟩ := u
  obtain ⟨fc, a_on, aS, aM, an⟩ := v
  have hr : yr (xs f) a_on := I
  rcases md_cases v1 with ⟨m, rfl⟩ | hv
  · unfold wpX_shrink
    dsimp only
    refine zX_badM _ _ m (br_t rfl ?_)
    refine zX_grown _ _ _ m ?_
    refine zX_change _ _ _ _ ?_
    show wpY_shrink _ _ _
    unfold wpY_shrink
    dsimp only
    refine zY_isM _ _ m (br_f (by decide) ⟨65, ?_⟩)
    refine zY_shrink_l _ hr m (xs ((f &&& (xg m (f ^^^ (-1)) ^^^ (-1))) &&& 35604928818740736)) (xn_shrink m f) fc aS aM (fun a an' ha => ⟨?_, ha⟩) 64 0 65 an (by omega) (by omega) (fun c hc => absurd hc (Nat.not_lt_zero c))
    rw [xy_d]
  · unfold wpX_shrink
    dsimp only
    refine zX_badM' _ _ hv (br_f (by decide) ?_)
    unfold wpY_shrink
    dsimp only
    exact zY_isM' _ _ hv (br_t rfl ⟨rfl, hr⟩)
theorem i_vc_fill {k : Nat} {u : SX} {v : SY} (I : i_Rel k u v) (hk : k + 4 ≤ 2048) (v1 : Int32) : wpX_fill (fun r u' => wpY_fill (fun r' v' => r' = r ∧ i_Rel (k + 4) u' v') v v1) u v1 := by
  obtain ⟨f, a_far⟩ := u
  obtain ⟨fc, a_on, aS, aM, an⟩ := v
  have hr : yr (xs f) a_on := I
  rcases md_cases v1 with ⟨m, rfl⟩ | hv
  · unfold wpX_fill
    dsimp only
    refine zX_badM _ _ m (br_t rfl ?_)
    rw [md_12]
    refine zX_flooded _ _ _ _ (!m) ?_
    refine zX_change _ _ _ _ ?_
    show wpY_fill _ _ _
    unfold wpY_fill
    dsimp only
    refine zY_isM _ _ m (br_f (by decide) ⟨65, ?_⟩)
    refine zY_fill_l _ hr m (xs (xf (!m) (f ^^^ (-1)) (-35604928818740737) ^^^ (-1))) (xn_fill (!m) f) (fun fc' a aS' aM' an' ha => ⟨?_, ha⟩) 64 0 65 fc aS aM an (by omega) (by omega) (fun c hc => absurd hc (Nat.not_lt_zero c))
    rw [xy_d]
  · unfold wpX_fill
    dsimp only
    refine zX_badM' _ _ hv (br_f (by decide) ?_)
    unfold wpY_fill
    dsimp only
    exact zY_isM' _ _ hv (br_t rfl ⟨rfl, hr⟩)
theorem i_vc_clear {k : Nat} {u : SX} {v : SY} (I : i_Rel k u v) (hk : k + 4 ≤ 2048) (v1 : Int32) (v2 : Int32) : wpX_clear (fun r u' => wpY_clear (fun r' v' => r' = r ∧ i_Rel (k + 4) u' v') v v1 v2) u v1 v2 := by
  obtain ⟨f, a_far⟩ := u
  obtain ⟨fc, a_on, aS, aM, an⟩ := v
  have hr : yr (xs f) a_on := I
  rcases md_cases v1 with ⟨m, rfl⟩ | hv
  · unfold wpX_clear
    dsimp only
    refine zX_badM _ _ m (br_t rfl ?_)
    have Y : ∀ {post : Int32 → SY → Prop}, (((v2 < 0 → (post (-1) (fc, a_on, aS, aM, an))) ∧ (¬ v2 < 0 → (((v2 ≤ 64 → (∃ n22 : Nat, wY_clear_22 post (md m) v2 n22 0 fc a_on aS aM an)) ∧ (¬ v2 ≤ 64 → (post (-1) (fc, a_on, aS, aM, an)))))))) → wpY_clear post (fc, a_on, aS, aM, an) (md m) v2 := by
      intro post h
      unfold wpY_clear
      dsimp only
      exact zY_isM _ _ m (br_f (by decide) h)
    by_cases h2 : v2 < 0
    · exact br_t h2 (Y (br_t h2 ⟨rfl, hr⟩))
    · by_cases h3 : v2 ≤ 64
      · obtain ⟨t, ht, rfl⟩ := nI_of2 (x := v2) (M := 64) (n := 64) (by decide) h2 h3
        refine br_f h2 (br_t h3 ⟨65, ?_⟩)
        refine zX_clear_l _ m t ht f a_far (fun g hg => ?_) 64 0 65 f 0 (by omega) (by omega) (xp_ok0 m f) (xb_n_le f) (fun c => ⟨fun z => absurd z (xp_z c), fun z => absurd z.1.1 z.1.2⟩)
        refine Y (br_f h2 (br_t h3 ⟨65, ?_⟩))
        refine zY_clear_l _ hr m t ht (xs g) (fun c _ => hg c) (fun fc' a aS' aM' an' ha => ⟨?_, ha⟩) 64 0 65 fc aS aM an (by omega) (by omega) (fun c hc => absurd hc (Nat.not_lt_zero c))
        rw [xy_d]
      · exact br_f h2 (br_f h3 (Y (br_f h2 (br_f h3 ⟨rfl, hr⟩))))
  · unfold wpX_clear
    dsimp only
    refine zX_badM' _ _ hv (br_f (by decide) ?_)
    unfold wpY_clear
    dsimp only
    exact zY_isM' _ _ hv (br_t rfl ⟨rfl, hr⟩)
theorem i_vc_depth {k : Nat} {u : SX} {v : SY} (I : i_Rel k u v) (hk : k + 4 ≤ 2048) (v1 : Int32) : wpX_depth (fun r u' => wpY_depth (fun r' => r' = r ∧ i_Rel (k + 4) u' v) v v1) u v1 := by
  obtain ⟨f, a_far⟩ := u
  obtain ⟨fc, a_on, aS, aM, an⟩ := v
  have hr : yr (xs f) a_on := I
  rcases ce_cases v1 with ⟨c, hc, rfl⟩ | hv
  · refine zX_depth _ f a_far hc (fun d a hd => ?_)
    refine zY_depth _ fc a_on aS aM an hr hc (fun e he => ⟨?_, hr⟩)
    rw [dp_u he hd]
  · unfold wpX_depth
    dsimp only
    refine zX_badC' _ _ hv (br_f (by decide) ?_)
    unfold wpY_depth
    dsimp only
    exact zY_isC' _ _ hv (br_t rfl ⟨rfl, hr⟩)
theorem i_vc_way {k : Nat} {u : SX} {v : SY} (I : i_Rel k u v) (hk : k + 4 ≤ 2048) (v1 : Int32) (v2 : Int32) (v3 : Int32) : wpX_way (fun r => wpY_way (fun r' v' => r' = r ∧ i_Rel (k + 4) u v') v v1 v2 v3) u v1 v2 v3 := by
  obtain ⟨f, a_far⟩ := u
  obtain ⟨fc, a_on, aS, aM, an⟩ := v
  have hr : yr (xs f) a_on := I
  rcases md_cases v1 with ⟨m, rfl⟩ | hv
  · rcases ce_cases v2 with ⟨a, ha, rfl⟩ | hw
    · have ca : (nI a).toNatClampNeg = a := nI_clamp (by omega)
      have va : vp_in (nI a) 64 := vp_in_nI ha (by omega)
      rcases ce_cases v3 with ⟨b, hb, rfl⟩ | hw
      · have cb : (nI b).toNatClampNeg = b := nI_clamp (by omega)
        have vb : vp_in (nI b) 64 := vp_in_nI hb (by omega)
        by_cases hA : xs f a
        · by_cases hB : xs f b
          · refine zX_way _ f a_far m ha hb hA hB (fun n hn h1 h2 => ?_) (fun h => ?_)
            · refine zY_way _ fc a_on aS aM an hr m ha hb hA hB (fun n' fc' aS' aM' g1 g2 _ => ⟨?_, hr⟩) (fun g => absurd h1 (g n))
              have e1 := g2 n h1
              have e2 : ¬ n' < n := fun z => h2 n' z g1
              rw [show n' = n by omega]
            · exact zY_way _ fc a_on aS aM an hr m ha hb hA hB (fun n' fc' aS' aM' g1 g2 hn' => absurd g1 (h n' hn')) (fun g fc' aS' aM' => ⟨rfl, hr⟩)
          · unfold wpX_way
            dsimp only
            refine zX_badM _ _ m (br_t rfl ?_)
            refine zX_off0 _ _ _ ha hA (br_t rfl ?_)
            refine zX_off1 _ _ _ hb hB (br_f (by decide) ?_)
            unfold wpY_way
            dsimp only
            refine zY_isM _ _ m (br_f (by decide) ?_)
            refine zY_isC _ _ ha (br_f (by decide) ?_)
            refine zY_isC _ _ hb (br_f (by decide) ?_)
            rw [ca, cb, yr_1 hr ha, yr_1 hr hb]
            exact ⟨va, br_f (fun z => z hA) ⟨vb, br_t hB ⟨rfl, hr⟩⟩⟩
        · unfold wpX_way
          dsimp only
          refine zX_badM _ _ m (br_t rfl ?_)
          refine zX_off1 _ _ _ ha hA (br_f (by decide) ?_)
          unfold wpY_way
          dsimp only
          refine zY_isM _ _ m (br_f (by decide) ?_)
          refine zY_isC _ _ ha (br_f (by decide) ?_)
          refine zY_isC _ _ hb (br_f (by decide) ?_)
          rw [ca, yr_1 hr ha]
          exact ⟨va, br_t hA ⟨rfl, hr⟩⟩
      · have Y : ∀ {post : Int32 → SY → Prop}, post (-4) (fc, a_on, aS, aM, an) → wpY_way post (fc, a_on, aS, aM, an) (md m) (nI a) v3 := by
          intro post h
          unfold wpY_way
          dsimp only
          refine zY_isM _ _ m (br_f (by decide) ?_)
          refine zY_isC _ _ ha (br_f (by decide) ?_)
          exact zY_isC' _ _ hw (br_t rfl h)
        unfold wpX_way
        dsimp only
        refine zX_badM _ _ m (br_t rfl ?_)
        by_cases hA : xs f a
        · refine zX_off0 _ _ _ ha hA (br_t rfl ?_)
          exact zX_off2 _ _ _ hw (br_f (by decide) (Y ⟨rfl, hr⟩))
        · exact zX_off1 _ _ _ ha hA (br_f (by decide) (Y ⟨rfl, hr⟩))
    · unfold wpX_way
      dsimp only
      refine zX_badM _ _ m (br_t rfl ?_)
      refine zX_off2 _ _ _ hw (br_f (by decide) ?_)
      unfold wpY_way
      dsimp only
      refine zY_isM _ _ m (br_f (by decide) ?_)
      exact zY_isC' _ _ hw (br_t rfl ⟨rfl, hr⟩)
  · unfold wpX_way
    dsimp only
    refine zX_badM' _ _ hv (br_f (by decide) ?_)
    unfold wpY_way
    dsimp only
    exact zY_isM' _ _ hv (br_t rfl ⟨rfl, hr⟩)
end

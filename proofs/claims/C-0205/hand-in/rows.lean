section
/-! pure rows to paste: stores, nI and lN arithmetic, masks, shifts, narrowing, branches by naturals (pk_le, pk_lt, pk_eq), loops (lp1 .. lp16: the measure of the state; rp1 ..: recursion), negatives. Take what you need -/
theorem pk_us {f : Nat → Int32} {k : Nat} {x : Int32} : upd f k x k = x := if_pos rfl
theorem pk_un {f : Nat → Int32} {k j : Nat} {x : Int32} (h : j ≠ k) : upd f k x j = f j := if_neg h
theorem pk_uLs {f : Nat → Int64} {k : Nat} {x : Int64} : vp_updL f k x k = x := if_pos rfl
theorem pk_uLn {f : Nat → Int64} {k j : Nat} {x : Int64} (h : j ≠ k) : vp_updL f k x j = f j := if_neg h
theorem pk_sub {a b : Nat} (h : b ≤ a) : nI a - nI b = nI (a - b) := by
  obtain ⟨c, rfl⟩ : ∃ c, a = c + b := ⟨a - b, by omega⟩
  rw [← nI_add, Int32.add_sub_cancel, Nat.add_sub_cancel]
theorem pk_m1 (n : Nat) : nI (n + 1) + (-1) = nI n := by
  rw [← nI_1, Int32.add_assoc, show (1 : Int32) + (-1) = 0 from rfl, Int32.add_zero]
theorem pk_mul (a b : Nat) : nI a * nI b = nI (a * b) := (Int32.ofNat_mul a b).symm
theorem pk_div {a d : Nat} (ha : a < 2 ^ 31) (h0 : 0 < d) (hd : d < 2 ^ 31) : nI a / nI d = nI (a / d) := by
  apply Int32.toInt_inj.mp
  rw [lg_idiv_nonneg (by rw [nI_toInt ha]; omega) (by rw [nI_toInt hd]; omega), nI_toInt ha, nI_toInt hd, nI_toInt (Nat.lt_of_le_of_lt (Nat.div_le_self a d) ha)]
  first | rfl | exact (Int.natCast_ediv _ _).symm
theorem pk_rem {a d : Nat} (ha : a < 2 ^ 31) (h0 : 0 < d) (hd : d < 2 ^ 31) : nI a - nI a / nI d * nI d = nI (a % d) := by
  rw [pk_div ha h0 hd, pk_mul, pk_sub (Nat.div_mul_le_self a d)]
  exact congrArg nI (by have := Nat.div_add_mod' a d; omega)
theorem pk_sub_toInt {a b : Nat} (ha : a < 2 ^ 30) (hb : b < 2 ^ 30) : (nI a - nI b).toInt = (a : Int) - b := by
  rw [Int32.toInt_sub, nI_toInt (by omega), nI_toInt (by omega)]
  exact Int.bmod_eq_of_le (by omega) (by omega)
theorem pk_sneg {a b : Nat} (hb : b < 2 ^ 30) (h : a < b) : nI a - nI b < 0 := by
  rw [Int32.lt_iff_toInt_lt, pk_sub_toInt (by omega) hb, show (0 : Int32).toInt = 0 from by decide]
  omega
theorem pk_ix (x : Int32) {n : Nat} (hn : n < 2 ^ 31) : x < 0 ∨ nI n ≤ x ∨ ∃ j : Nat, j < n ∧ x = nI j := by
  by_cases h : x < 0
  · exact Or.inl h
  · obtain ⟨j, hj, rfl⟩ := nI_of h
    by_cases h2 : j < n
    · exact Or.inr (Or.inr ⟨j, h2, rfl⟩)
    · exact Or.inr (Or.inl (nI_le (by omega) hj))
theorem pk_le {x y : Int32} {A B : Prop} (a b : Nat) (f : a ≤ b → A) (g : b < a → B) (hx : x = nI a := by rfl) (hy : y = nI b := by rfl) (ha : a < 2 ^ 31 := by omega) (hb : b < 2 ^ 31 := by omega) : (x ≤ y → A) ∧ (¬ x ≤ y → B) := by
  subst hx hy
  rw [nI_leI ha hb]
  exact ⟨f, fun z => g (by omega)⟩
theorem pk_lt {x y : Int32} {A B : Prop} (a b : Nat) (f : a < b → A) (g : b ≤ a → B) (hx : x = nI a := by rfl) (hy : y = nI b := by rfl) (ha : a < 2 ^ 31 := by omega) (hb : b < 2 ^ 31 := by omega) : (x < y → A) ∧ (¬ x < y → B) := by
  subst hx hy
  rw [nI_ltI ha hb]
  exact ⟨f, fun z => g (by omega)⟩
theorem pk_eq {x y : Int32} {A B : Prop} (a b : Nat) (f : a = b → A) (g : a ≠ b → B) (hx : x = nI a := by rfl) (hy : y = nI b := by rfl) (ha : a < 2 ^ 31 := by omega) (hb : b < 2 ^ 31 := by omega) : (x = y → A) ∧ (¬ x = y → B) := by
  subst hx hy
  rw [nI_eq ha hb]
  exact ⟨f, g⟩
theorem pk_in {x : Int32} (n N : Nat) (h : n < N) (hx : x = nI n := by rfl) (hN : N < 2 ^ 31 := by omega) : vp_in x N := by
  subst hx
  exact vp_in_nI h hN
theorem pk_cl {x : Int32} (n : Nat) (hx : x = nI n := by rfl) (h : n < 2 ^ 31 := by omega) : x.toNatClampNeg = n := by
  subst hx
  exact nI_clamp h
theorem pk_tn {n : Nat} (h : n < 2 ^ 32) : (nI n).toBitVec.toNat = n := Nat.mod_eq_of_lt h
theorem pk_and (x : Int32) {m : Int32} (k : Nat) (hm : m.toBitVec.toNat = 2 ^ k - 1) : x &&& m = nI (x.toBitVec.toNat % 2 ^ k) := by
  apply Int32.toBitVec_inj.mp
  apply BitVec.eq_of_toNat_eq
  rw [Int32.toBitVec_and, BitVec.toNat_and, hm, Nat.and_two_pow_sub_one_eq_mod]
  show _ = (BitVec.ofNat 32 _).toNat
  rw [BitVec.toNat_ofNat]
  exact (Nat.mod_eq_of_lt (Nat.lt_of_le_of_lt (Nat.mod_le _ _) x.toBitVec.isLt)).symm
theorem pk_andN {n : Nat} (h : n < 2 ^ 32) {m : Int32} (k : Nat) (hm : m.toBitVec.toNat = 2 ^ k - 1) : nI n &&& m = nI (n % 2 ^ k) := by
  rw [pk_and _ k hm, pk_tn h]
theorem pk_andE (x : Int32) {m : Int32} (k : Nat) (hm : m.toBitVec.toNat = 2 ^ k - 1) : ∃ j : Nat, j < 2 ^ k ∧ x &&& m = nI j := ⟨_, Nat.mod_lt _ (Nat.two_pow_pos k), pk_and x k hm⟩
theorem pk_andIn (x : Int32) {m : Int32} (k : Nat) (hm : m.toBitVec.toNat = 2 ^ k - 1) (hk : k ≤ 30) : vp_in (x &&& m) (2 ^ k) := by
  obtain ⟨j, hj, e⟩ := pk_andE x k hm
  rw [e]
  exact vp_in_nI hj (Nat.lt_of_le_of_lt (Nat.pow_le_pow_right (by decide) hk) (by decide))
theorem pk_shl (a s : Int32) (k : Nat) (hs : (s.toBitVec.smod 32).toNat = k) : (a <<< s).toBitVec.toNat = a.toBitVec.toNat * 2 ^ k % 2 ^ 32 := by
  show (a.toBitVec <<< (s.toBitVec.smod 32).toNat).toNat = _
  rw [hs, BitVec.toNat_shiftLeft, Nat.shiftLeft_eq]
theorem pk_shlN {n : Nat} (s : Int32) (k : Nat) (hs : (s.toBitVec.smod 32).toNat = k) (h : n * 2 ^ k < 2 ^ 32) : nI n <<< s = nI (n * 2 ^ k) := by
  apply Int32.toBitVec_inj.mp
  apply BitVec.eq_of_toNat_eq
  have hn : n < 2 ^ 32 := Nat.lt_of_le_of_lt (Nat.le_mul_of_pos_right n (Nat.two_pow_pos k)) h
  rw [pk_shl _ _ k hs, pk_tn hn, pk_tn h, Nat.mod_eq_of_lt h]
theorem pk_shr (a s : Int32) (k : Nat) (hs : (s.toBitVec.smod 32).toNat = k) : (a >>> s).toInt = a.toInt >>> k := by
  show (a.toBitVec.sshiftRight (s.toBitVec.smod 32).toNat).toInt = _
  rw [hs, BitVec.toInt_sshiftRight]
  rfl
theorem pk_shrN {n : Nat} (h : n < 2 ^ 31) (s : Int32) (k : Nat) (hs : (s.toBitVec.smod 32).toNat = k) : nI n >>> s = nI (n / 2 ^ k) := by
  apply Int32.toInt_inj.mp
  have h2 : n / 2 ^ k ≤ n := Nat.div_le_self _ _
  rw [pk_shr _ _ k hs, nI_toInt h, nI_toInt (by omega), Int.shiftRight_eq_div_pow]
  rfl
theorem pk_ushr (x s : Int32) (k : Nat) (hs : ((s.toUInt32 &&& Int32.toUInt32 31).toBitVec % 32).toNat = k) : (x.toUInt32 >>> (s.toUInt32 &&& Int32.toUInt32 31)).toInt32.toBitVec.toNat = x.toBitVec.toNat / 2 ^ k := by
  have e : (x.toUInt32 >>> (s.toUInt32 &&& Int32.toUInt32 31)).toInt32.toBitVec = x.toBitVec >>> k := by
    rw [← hs]
    exact UInt32.toBitVec_shiftRight _ _
  rw [e, BitVec.toNat_ushiftRight, Nat.shiftRight_eq_div_pow]
theorem pk_ushrN {n : Nat} (hn : n < 2 ^ 32) (s : Int32) (k : Nat) (hs : ((s.toUInt32 &&& Int32.toUInt32 31).toBitVec % 32).toNat = k) : ((nI n).toUInt32 >>> (s.toUInt32 &&& Int32.toUInt32 31)).toInt32 = nI (n / 2 ^ k) := by
  apply Int32.toBitVec_inj.mp
  apply BitVec.eq_of_toNat_eq
  rw [pk_ushr _ s k hs, pk_tn hn, pk_tn (Nat.lt_of_le_of_lt (Nat.div_le_self _ _) hn)]
theorem pk_nb (z : Int32) : narrow .byte (.int z.toInt8.toInt32) = .int z.toInt8.toInt32 := congrArg Value.int (by simp)
theorem pk_ns (z : Int32) : narrow .short (.int z.toInt16.toInt32) = .int z.toInt16.toInt32 := congrArg Value.int (by simp)
theorem pk_fb (r : Int32) : fits .byte (.int r.toInt8.toInt32) = true := by
  have ⟨a, b⟩ := lg_i2b_range r
  have h1 : (-128 : Int32).toInt = -128 := by decide
  have h2 : (127 : Int32).toInt = 127 := by decide
  simp only [fits, Bool.and_eq_true, decide_eq_true_eq, Int32.le_iff_toInt_le, h1, h2]
  omega
theorem pk_fs (r : Int32) : fits .short (.int r.toInt16.toInt32) = true := by
  have ⟨a, b⟩ := lg_i2s_range r
  have h1 : (-32768 : Int32).toInt = -32768 := by decide
  have h2 : (32767 : Int32).toInt = 32767 := by decide
  simp only [fits, Bool.and_eq_true, decide_eq_true_eq, Int32.le_iff_toInt_le, h1, h2]
  omega
theorem pk_charN {q : Nat} (hq : q < 65536) : narrow .char (.int (nI q)) = .int (nI q) ∧ fits .char (.int (nI q)) = true := by
  constructor
  · have e : (nI q).toUInt32.toUInt16.toUInt32.toInt32 = nI q := by
      apply Int32.toBitVec_inj.mp
      apply BitVec.eq_of_toNat_eq
      show (nI q).toUInt32.toUInt16.toUInt32.toNat = q % 2 ^ 32
      rw [UInt16.toNat_toUInt32, UInt32.toNat_toUInt16, show (nI q).toUInt32.toNat = q % 2 ^ 32 from rfl]
      omega
    exact congrArg Value.int e
  · have a : (0 : Int32) ≤ nI q := nI_pos' (by omega)
    have b : nI q ≤ 65535 := nI_le (b := 65535) (by omega) (by decide)
    show (decide ((0 : Int32) ≤ nI q) && decide (nI q ≤ 65535)) = true
    rw [decide_eq_true a, decide_eq_true b]
    rfl
theorem pk_char (x : Int32) : (x.toUInt32 % 65536).toInt32 = nI (x.toBitVec.toNat % 65536) := by
  apply Int32.toBitVec_inj.mp
  apply BitVec.eq_of_toNat_eq
  rw [pk_tn (by omega)]
  show (x.toUInt32 % 65536).toNat = _
  rw [UInt32.toNat_mod]
  rfl
theorem pk_nc (x : Int32) : narrow .char (.int (x.toUInt32 % 65536).toInt32) = .int (x.toUInt32 % 65536).toInt32 := by
  rw [pk_char]
  exact (pk_charN (Nat.mod_lt _ (by decide))).1
theorem pk_fc (x : Int32) : fits .char (.int (x.toUInt32 % 65536).toInt32) = true := by
  rw [pk_char]
  exact (pk_charN (Nat.mod_lt _ (by decide))).2
theorem pk_vb (z : Int32) : vp_nar .byte z.toInt8.toInt32 = z.toInt8.toInt32 := by rw [vp_nar_byte]; simp
theorem pk_vs (z : Int32) : vp_nar .short z.toInt16.toInt32 = z.toInt16.toInt32 := by rw [vp_nar_short]; simp
theorem pk_vc (z : Int32) : vp_nar .char (z.toUInt32 % 65536).toInt32 = (z.toUInt32 % 65536).toInt32 := Value.int.inj (pk_nc z)
theorem pk_lT {n : Nat} (h : n < 2 ^ 63) : (lN n).toInt = (n : Int) := lg_ofNat_toInt h
theorem pk_lLT {a b : Nat} (ha : a < 2 ^ 63) (hb : b < 2 ^ 63) : lN a < lN b ↔ a < b := by
  rw [Int64.lt_iff_toInt_lt, pk_lT ha, pk_lT hb]; omega
theorem pk_lLE {a b : Nat} (ha : a < 2 ^ 63) (hb : b < 2 ^ 63) : lN a ≤ lN b ↔ a ≤ b := by
  rw [Int64.le_iff_toInt_le, pk_lT ha, pk_lT hb]; omega
theorem pk_lEQ {a b : Nat} (ha : a < 2 ^ 63) (hb : b < 2 ^ 63) : lN a = lN b ↔ a = b := by
  rw [← Int64.toInt_inj, pk_lT ha, pk_lT hb]; omega
theorem pk_lOf {x : Int64} (h : ¬ x < 0) : ∃ k : Nat, k < 2 ^ 63 ∧ x = lN k := by
  rw [Int64.lt_iff_toInt_lt] at h
  have h0 : (0 : Int64).toInt = 0 := by decide
  have hx := Int64.toInt_lt x
  refine ⟨x.toInt.toNat, by omega, Int64.toInt_inj.mp ?_⟩
  rw [pk_lT (by omega)]
  omega
theorem pk_lDiv {a b : Nat} (ha : a < 2 ^ 63) (h0 : 0 < b) (hb : b < 2 ^ 63) : lN a / lN b = lN (a / b) := by
  apply Int64.toInt_inj.mp
  rw [lg_ldiv_nonneg (by rw [pk_lT ha]; omega) (by rw [pk_lT hb]; omega), pk_lT ha, pk_lT hb, pk_lT (Nat.lt_of_le_of_lt (Nat.div_le_self a b) ha)]
  rfl
theorem pk_lRem {a b : Nat} (ha : a < 2 ^ 63) (h0 : 0 < b) (hb : b < 2 ^ 63) : lN a - lN a / lN b * lN b = lN (a % b) := by
  rw [pk_lDiv ha h0 hb, lN_mul, lN_sub (Nat.div_mul_le_self a b)]
  exact congrArg lN (by have := Nat.div_add_mod' a b; omega)
theorem pk_loop {σ : Type} (W : Nat → Nat → σ → Prop) (I : Nat → σ → Prop) (e i0 : Nat) (s : σ) (hi : i0 ≤ e) (h0 : I i0 s) (hx : ∀ n s, I e s → W (n + 1) e s)
    (hs : ∀ n i s, i < e → I i s → (∀ s', I (i + 1) s' → W n (i + 1) s') → W (n + 1) i s) : ∃ n, W n i0 s :=
  ⟨e + 1, loop_i W I e hx hs (e + 1) i0 s hi (by omega) h0⟩
theorem pk_loopD {σ : Type} (W : Nat → Nat → σ → Prop) (I : Nat → σ → Prop) (hx : ∀ n s, I 0 s → W (n + 1) 0 s)
    (hs : ∀ n i s, I (i + 1) s → (∀ s', I i s' → W n i s') → W (n + 1) (i + 1) s) : ∀ (e : Nat) (s : σ), I e s → W (e + 1) e s := by
  intro e
  induction e with
  | zero => exact fun s h => hx 0 s h
  | succ e ih => exact fun s h => hs (e + 1) e s h (fun s' h' => ih s' h')
theorem lp1 {A1 : Type} (W : Nat → A1 → Prop) (I : A1 → Prop) (μ : A1 → Nat) (hs : ∀ (n : Nat) (a1 : A1), I a1 → (∀ (b1 : A1), I b1 → μ b1 < μ a1 → W n b1) → W (n + 1) a1) (a1 : A1) (h : I a1) : ∃ n, W n a1 :=
  loop_m (σ := A1) (fun n s => W n s) (fun s => I s) (fun s => μ s) (fun n s hI hk => hs n s hI (fun b1 h9 hm => hk b1 h9 hm)) a1 h
theorem lp2 {A1 A2 : Type} (W : Nat → A1 → A2 → Prop) (I : A1 → A2 → Prop) (μ : A1 → A2 → Nat) (hs : ∀ (n : Nat) (a1 : A1) (a2 : A2), I a1 a2 → (∀ (b1 : A1) (b2 : A2), I b1 b2 → μ b1 b2 < μ a1 a2 → W n b1 b2) → W (n + 1) a1 a2) (a1 : A1) (a2 : A2) (h : I a1 a2) : ∃ n, W n a1 a2 :=
  loop_m (σ := A1 × A2) (fun n s => W n s.1 s.2) (fun s => I s.1 s.2) (fun s => μ s.1 s.2) (fun n s hI hk => hs n s.1 s.2 hI (fun b1 b2 h9 hm => hk (b1, b2) h9 hm)) (a1, a2) h
theorem lp3 {A1 A2 A3 : Type} (W : Nat → A1 → A2 → A3 → Prop) (I : A1 → A2 → A3 → Prop) (μ : A1 → A2 → A3 → Nat) (hs : ∀ (n : Nat) (a1 : A1) (a2 : A2) (a3 : A3), I a1 a2 a3 → (∀ (b1 : A1) (b2 : A2) (b3 : A3), I b1 b2 b3 → μ b1 b2 b3 < μ a1 a2 a3 → W n b1 b2 b3) → W (n + 1) a1 a2 a3) (a1 : A1) (a2 : A2) (a3 : A3) (h : I a1 a2 a3) : ∃ n, W n a1 a2 a3 :=
  loop_m (σ := A1 × A2 × A3) (fun n s => W n s.1 s.2.1 s.2.2) (fun s => I s.1 s.2.1 s.2.2) (fun s => μ s.1 s.2.1 s.2.2) (fun n s hI hk => hs n s.1 s.2.1 s.2.2 hI (fun b1 b2 b3 h9 hm => hk (b1, b2, b3) h9 hm)) (a1, a2, a3) h
theorem lp4 {A1 A2 A3 A4 : Type} (W : Nat → A1 → A2 → A3 → A4 → Prop) (I : A1 → A2 → A3 → A4 → Prop) (μ : A1 → A2 → A3 → A4 → Nat) (hs : ∀ (n : Nat) (a1 : A1) (a2 : A2) (a3 : A3) (a4 : A4), I a1 a2 a3 a4 → (∀ (b1 : A1) (b2 : A2) (b3 : A3) (b4 : A4), I b1 b2 b3 b4 → μ b1 b2 b3 b4 < μ a1 a2 a3 a4 → W n b1 b2 b3 b4) → W (n + 1) a1 a2 a3 a4) (a1 : A1) (a2 : A2) (a3 : A3) (a4 : A4) (h : I a1 a2 a3 a4) : ∃ n, W n a1 a2 a3 a4 :=
  loop_m (σ := A1 × A2 × A3 × A4) (fun n s => W n s.1 s.2.1 s.2.2.1 s.2.2.2) (fun s => I s.1 s.2.1 s.2.2.1 s.2.2.2) (fun s => μ s.1 s.2.1 s.2.2.1 s.2.2.2) (fun n s hI hk => hs n s.1 s.2.1 s.2.2.1 s.2.2.2 hI (fun b1 b2 b3 b4 h9 hm => hk (b1, b2, b3, b4) h9 hm)) (a1, a2, a3, a4) h
theorem lp5 {A1 A2 A3 A4 A5 : Type} (W : Nat → A1 → A2 → A3 → A4 → A5 → Prop) (I : A1 → A2 → A3 → A4 → A5 → Prop) (μ : A1 → A2 → A3 → A4 → A5 → Nat) (hs : ∀ (n : Nat) (a1 : A1) (a2 : A2) (a3 : A3) (a4 : A4) (a5 : A5), I a1 a2 a3 a4 a5 → (∀ (b1 : A1) (b2 : A2) (b3 : A3) (b4 : A4) (b5 : A5), I b1 b2 b3 b4 b5 → μ b1 b2 b3 b4 b5 < μ a1 a2 a3 a4 a5 → W n b1 b2 b3 b4 b5) → W (n + 1) a1 a2 a3 a4 a5) (a1 : A1) (a2 : A2) (a3 : A3) (a4 : A4) (a5 : A5) (h : I a1 a2 a3 a4 a5) : ∃ n, W n a1 a2 a3 a4 a5 :=
  loop_m (σ := A1 × A2 × A3 × A4 × A5) (fun n s => W n s.1 s.2.1 s.2.2.1 s.2.2.2.1 s.2.2.2.2) (fun s => I s.1 s.2.1 s.2.2.1 s.2.2.2.1 s.2.2.2.2) (fun s => μ s.1 s.2.1 s.2.2.1 s.2.2.2.1 s.2.2.2.2) (fun n s hI hk => hs n s.1 s.2.1 s.2.2.1 s.2.2.2.1 s.2.2.2.2 hI (fun b1 b2 b3 b4 b5 h9 hm => hk (b1, b2, b3, b4, b5) h9 hm)) (a1, a2, a3, a4, a5) h
theorem lp6 {A1 A2 A3 A4 A5 A6 : Type} (W : Nat → A1 → A2 → A3 → A4 → A5 → A6 → Prop) (I : A1 → A2 → A3 → A4 → A5 → A6 → Prop) (μ : A1 → A2 → A3 → A4 → A5 → A6 → Nat) (hs : ∀ (n : Nat) (a1 : A1) (a2 : A2) (a3 : A3) (a4 : A4) (a5 : A5) (a6 : A6), I a1 a2 a3 a4 a5 a6 → (∀ (b1 : A1) (b2 : A2) (b3 : A3) (b4 : A4) (b5 : A5) (b6 : A6), I b1 b2 b3 b4 b5 b6 → μ b1 b2 b3 b4 b5 b6 < μ a1 a2 a3 a4 a5 a6 → W n b1 b2 b3 b4 b5 b6) → W (n + 1) a1 a2 a3 a4 a5 a6) (a1 : A1) (a2 : A2) (a3 : A3) (a4 : A4) (a5 : A5) (a6 : A6) (h : I a1 a2 a3 a4 a5 a6) : ∃ n, W n a1 a2 a3 a4 a5 a6 :=
  loop_m (σ := A1 × A2 × A3 × A4 × A5 × A6) (fun n s => W n s.1 s.2.1 s.2.2.1 s.2.2.2.1 s.2.2.2.2.1 s.2.2.2.2.2) (fun s => I s.1 s.2.1 s.2.2.1 s.2.2.2.1 s.2.2.2.2.1 s.2.2.2.2.2) (fun s => μ s.1 s.2.1 s.2.2.1 s.2.2.2.1 s.2.2.2.2.1 s.2.2.2.2.2) (fun n s hI hk => hs n s.1 s.2.1 s.2.2.1 s.2.2.2.1 s.2.2.2.2.1 s.2.2.2.2.2 hI (fun b1 b2 b3 b4 b5 b6 h9 hm => hk (b1, b2, b3, b4, b5, b6) h9 hm)) (a1, a2, a3, a4, a5, a6) h
theorem lp7 {A1 A2 A3 A4 A5 A6 A7 : Type} (W : Nat → A1 → A2 → A3 → A4 → A5 → A6 → A7 → Prop) (I : A1 → A2 → A3 → A4 → A5 → A6 → A7 → Prop) (μ : A1 → A2 → A3 → A4 → A5 → A6 → A7 → Nat) (hs : ∀ (n : Nat) (a1 : A1) (a2 : A2) (a3 : A3) (a4 : A4) (a5 : A5) (a6 : A6) (a7 : A7), I a1 a2 a3 a4 a5 a6 a7 → (∀ (b1 : A1) (b2 : A2) (b3 : A3) (b4 : A4) (b5 : A5) (b6 : A6) (b7 : A7), I b1 b2 b3 b4 b5 b6 b7 → μ b1 b2 b3 b4 b5 b6 b7 < μ a1 a2 a3 a4 a5 a6 a7 → W n b1 b2 b3 b4 b5 b6 b7) → W (n + 1) a1 a2 a3 a4 a5 a6 a7) (a1 : A1) (a2 : A2) (a3 : A3) (a4 : A4) (a5 : A5) (a6 : A6) (a7 : A7) (h : I a1 a2 a3 a4 a5 a6 a7) : ∃ n, W n a1 a2 a3 a4 a5 a6 a7 :=
  loop_m (σ := A1 × A2 × A3 × A4 × A5 × A6 × A7) (fun n s => W n s.1 s.2.1 s.2.2.1 s.2.2.2.1 s.2.2.2.2.1 s.2.2.2.2.2.1 s.2.2.2.2.2.2) (fun s => I s.1 s.2.1 s.2.2.1 s.2.2.2.1 s.2.2.2.2.1 s.2.2.2.2.2.1 s.2.2.2.2.2.2) (fun s => μ s.1 s.2.1 s.2.2.1 s.2.2.2.1 s.2.2.2.2.1 s.2.2.2.2.2.1 s.2.2.2.2.2.2) (fun n s hI hk => hs n s.1 s.2.1 s.2.2.1 s.2.2.2.1 s.2.2.2.2.1 s.2.2.2.2.2.1 s.2.2.2.2.2.2 hI (fun b1 b2 b3 b4 b5 b6 b7 h9 hm => hk (b1, b2, b3, b4, b5, b6, b7) h9 hm)) (a1, a2, a3, a4, a5, a6, a7) h
theorem lp8 {A1 A2 A3 A4 A5 A6 A7 A8 : Type} (W : Nat → A1 → A2 → A3 → A4 → A5 → A6 → A7 → A8 → Prop) (I : A1 → A2 → A3 → A4 → A5 → A6 → A7 → A8 → Prop) (μ : A1 → A2 → A3 → A4 → A5 → A6 → A7 → A8 → Nat) (hs : ∀ (n : Nat) (a1 : A1) (a2 : A2) (a3 : A3) (a4 : A4) (a5 : A5) (a6 : A6) (a7 : A7) (a8 : A8), I a1 a2 a3 a4 a5 a6 a7 a8 → (∀ (b1 : A1) (b2 : A2) (b3 : A3) (b4 : A4) (b5 : A5) (b6 : A6) (b7 : A7) (b8 : A8), I b1 b2 b3 b4 b5 b6 b7 b8 → μ b1 b2 b3 b4 b5 b6 b7 b8 < μ a1 a2 a3 a4 a5 a6 a7 a8 → W n b1 b2 b3 b4 b5 b6 b7 b8) → W (n + 1) a1 a2 a3 a4 a5 a6 a7 a8) (a1 : A1) (a2 : A2) (a3 : A3) (a4 : A4) (a5 : A5) (a6 : A6) (a7 : A7) (a8 : A8) (h : I a1 a2 a3 a4 a5 a6 a7 a8) : ∃ n, W n a1 a2 a3 a4 a5 a6 a7 a8 :=
  loop_m (σ := A1 × A2 × A3 × A4 × A5 × A6 × A7 × A8) (fun n s => W n s.1 s.2.1 s.2.2.1 s.2.2.2.1 s.2.2.2.2.1 s.2.2.2.2.2.1 s.2.2.2.2.2.2.1 s.2.2.2.2.2.2.2) (fun s => I s.1 s.2.1 s.2.2.1 s.2.2.2.1 s.2.2.2.2.1 s.2.2.2.2.2.1 s.2.2.2.2.2.2.1 s.2.2.2.2.2.2.2) (fun s => μ s.1 s.2.1 s.2.2.1 s.2.2.2.1 s.2.2.2.2.1 s.2.2.2.2.2.1 s.2.2.2.2.2.2.1 s.2.2.2.2.2.2.2) (fun n s hI hk => hs n s.1 s.2.1 s.2.2.1 s.2.2.2.1 s.2.2.2.2.1 s.2.2.2.2.2.1 s.2.2.2.2.2.2.1 s.2.2.2.2.2.2.2 hI (fun b1 b2 b3 b4 b5 b6 b7 b8 h9 hm => hk (b1, b2, b3, b4, b5, b6, b7, b8) h9 hm)) (a1, a2, a3, a4, a5, a6, a7, a8) h
theorem lp9 {A1 A2 A3 A4 A5 A6 A7 A8 A9 : Type} (W : Nat → A1 → A2 → A3 → A4 → A5 → A6 → A7 → A8 → A9 → Prop) (I : A1 → A2 → A3 → A4 → A5 → A6 → A7 → A8 → A9 → Prop) (μ : A1 → A2 → A3 → A4 → A5 → A6 → A7 → A8 → A9 → Nat) (hs : ∀ (n : Nat) (a1 : A1) (a2 : A2) (a3 : A3) (a4 : A4) (a5 : A5) (a6 : A6) (a7 : A7) (a8 : A8) (a9 : A9), I a1 a2 a3 a4 a5 a6 a7 a8 a9 → (∀ (b1 : A1) (b2 : A2) (b3 : A3) (b4 : A4) (b5 : A5) (b6 : A6) (b7 : A7) (b8 : A8) (b9 : A9), I b1 b2 b3 b4 b5 b6 b7 b8 b9 → μ b1 b2 b3 b4 b5 b6 b7 b8 b9 < μ a1 a2 a3 a4 a5 a6 a7 a8 a9 → W n b1 b2 b3 b4 b5 b6 b7 b8 b9) → W (n + 1) a1 a2 a3 a4 a5 a6 a7 a8 a9) (a1 : A1) (a2 : A2) (a3 : A3) (a4 : A4) (a5 : A5) (a6 : A6) (a7 : A7) (a8 : A8) (a9 : A9) (h : I a1 a2 a3 a4 a5 a6 a7 a8 a9) : ∃ n, W n a1 a2 a3 a4 a5 a6 a7 a8 a9 :=
  loop_m (σ := A1 × A2 × A3 × A4 × A5 × A6 × A7 × A8 × A9) (fun n s => W n s.1 s.2.1 s.2.2.1 s.2.2.2.1 s.2.2.2.2.1 s.2.2.2.2.2.1 s.2.2.2.2.2.2.1 s.2.2.2.2.2.2.2.1 s.2.2.2.2.2.2.2.2) (fun s => I s.1 s.2.1 s.2.2.1 s.2.2.2.1 s.2.2.2.2.1 s.2.2.2.2.2.1 s.2.2.2.2.2.2.1 s.2.2.2.2.2.2.2.1 s.2.2.2.2.2.2.2.2) (fun s => μ s.1 s.2.1 s.2.2.1 s.2.2.2.1 s.2.2.2.2.1 s.2.2.2.2.2.1 s.2.2.2.2.2.2.1 s.2.2.2.2.2.2.2.1 s.2.2.2.2.2.2.2.2) (fun n s hI hk => hs n s.1 s.2.1 s.2.2.1 s.2.2.2.1 s.2.2.2.2.1 s.2.2.2.2.2.1 s.2.2.2.2.2.2.1 s.2.2.2.2.2.2.2.1 s.2.2.2.2.2.2.2.2 hI (fun b1 b2 b3 b4 b5 b6 b7 b8 b9 h9 hm => hk (b1, b2, b3, b4, b5, b6, b7, b8, b9) h9 hm)) (a1, a2, a3, a4, a5, a6, a7, a8, a9) h
theorem lp10 {A1 A2 A3 A4 A5 A6 A7 A8 A9 A10 : Type} (W : Nat → A1 → A2 → A3 → A4 → A5 → A6 → A7 → A8 → A9 → A10 → Prop) (I : A1 → A2 → A3 → A4 → A5 → A6 → A7 → A8 → A9 → A10 → Prop) (μ : A1 → A2 → A3 → A4 → A5 → A6 → A7 → A8 → A9 → A10 → Nat) (hs : ∀ (n : Nat) (a1 : A1) (a2 : A2) (a3 : A3) (a4 : A4) (a5 : A5) (a6 : A6) (a7 : A7) (a8 : A8) (a9 : A9) (a10 : A10), I a1 a2 a3 a4 a5 a6 a7 a8 a9 a10 → (∀ (b1 : A1) (b2 : A2) (b3 : A3) (b4 : A4) (b5 : A5) (b6 : A6) (b7 : A7) (b8 : A8) (b9 : A9) (b10 : A10), I b1 b2 b3 b4 b5 b6 b7 b8 b9 b10 → μ b1 b2 b3 b4 b5 b6 b7 b8 b9 b10 < μ a1 a2 a3 a4 a5 a6 a7 a8 a9 a10 → W n b1 b2 b3 b4 b5 b6 b7 b8 b9 b10) → W (n + 1) a1 a2 a3 a4 a5 a6 a7 a8 a9 a10) (a1 : A1) (a2 : A2) (a3 : A3) (a4 : A4) (a5 : A5) (a6 : A6) (a7 : A7) (a8 : A8) (a9 : A9) (a10 : A10) (h : I a1 a2 a3 a4 a5 a6 a7 a8 a9 a10) : ∃ n, W n a1 a2 a3 a4 a5 a6 a7 a8 a9 a10 :=
  loop_m (σ := A1 × A2 × A3 × A4 × A5 × A6 × A7 × A8 × A9 × A10) (fun n s => W n s.1 s.2.1 s.2.2.1 s.2.2.2.1 s.2.2.2.2.1 s.2.2.2.2.2.1 s.2.2.2.2.2.2.1 s.2.2.2.2.2.2.2.1 s.2.2.2.2.2.2.2.2.1 s.2.2.2.2.2.2.2.2.2) (fun s => I s.1 s.2.1 s.2.2.1 s.2.2.2.1 s.2.2.2.2.1 s.2.2.2.2.2.1 s.2.2.2.2.2.2.1 s.2.2.2.2.2.2.2.1 s.2.2.2.2.2.2.2.2.1 s.2.2.2.2.2.2.2.2.2) (fun s => μ s.1 s.2.1 s.2.2.1 s.2.2.2.1 s.2.2.2.2.1 s.2.2.2.2.2.1 s.2.2.2.2.2.2.1 s.2.2.2.2.2.2.2.1 s.2.2.2.2.2.2.2.2.1 s.2.2.2.2.2.2.2.2.2) (fun n s hI hk => hs n s.1 s.2.1 s.2.2.1 s.2.2.2.1 s.2.2.2.2.1 s.2.2.2.2.2.1 s.2.2.2.2.2.2.1 s.2.2.2.2.2.2.2.1 s.2.2.2.2.2.2.2.2.1 s.2.2.2.2.2.2.2.2.2 hI (fun b1 b2 b3 b4 b5 b6 b7 b8 b9 b10 h9 hm => hk (b1, b2, b3, b4, b5, b6, b7, b8, b9, b10) h9 hm)) (a1, a2, a3, a4, a5, a6, a7, a8, a9, a10) h
theorem lp11 {A1 A2 A3 A4 A5 A6 A7 A8 A9 A10 A11 : Type} (W : Nat → A1 → A2 → A3 → A4 → A5 → A6 → A7 → A8 → A9 → A10 → A11 → Prop) (I : A1 → A2 → A3 → A4 → A5 → A6 → A7 → A8 → A9 → A10 → A11 → Prop) (μ : A1 → A2 → A3 → A4 → A5 → A6 → A7 → A8 → A9 → A10 → A11 → Nat) (hs : ∀ (n : Nat) (a1 : A1) (a2 : A2) (a3 : A3) (a4 : A4) (a5 : A5) (a6 : A6) (a7 : A7) (a8 : A8) (a9 : A9) (a10 : A10) (a11 : A11), I a1 a2 a3 a4 a5 a6 a7 a8 a9 a10 a11 → (∀ (b1 : A1) (b2 : A2) (b3 : A3) (b4 : A4) (b5 : A5) (b6 : A6) (b7 : A7) (b8 : A8) (b9 : A9) (b10 : A10) (b11 : A11), I b1 b2 b3 b4 b5 b6 b7 b8 b9 b10 b11 → μ b1 b2 b3 b4 b5 b6 b7 b8 b9 b10 b11 < μ a1 a2 a3 a4 a5 a6 a7 a8 a9 a10 a11 → W n b1 b2 b3 b4 b5 b6 b7 b8 b9 b10 b11) → W (n + 1) a1 a2 a3 a4 a5 a6 a7 a8 a9 a10 a11) (a1 : A1) (a2 : A2) (a3 : A3) (a4 : A4) (a5 : A5) (a6 : A6) (a7 : A7) (a8 : A8) (a9 : A9) (a10 : A10) (a11 : A11) (h : I a1 a2 a3 a4 a5 a6 a7 a8 a9 a10 a11) : ∃ n, W n a1 a2 a3 a4 a5 a6 a7 a8 a9 a10 a11 :=
  loop_m (σ := A1 × A2 × A3 × A4 × A5 × A6 × A7 × A8 × A9 × A10 × A11) (fun n s => W n s.1 s.2.1 s.2.2.1 s.2.2.2.1 s.2.2.2.2.1 s.2.2.2.2.2.1 s.2.2.2.2.2.2.1 s.2.2.2.2.2.2.2.1 s.2.2.2.2.2.2.2.2.1 s.2.2.2.2.2.2.2.2.2.1 s.2.2.2.2.2.2.2.2.2.2) (fun s => I s.1 s.2.1 s.2.2.1 s.2.2.2.1 s.2.2.2.2.1 s.2.2.2.2.2.1 s.2.2.2.2.2.2.1 s.2.2.2.2.2.2.2.1 s.2.2.2.2.2.2.2.2.1 s.2.2.2.2.2.2.2.2.2.1 s.2.2.2.2.2.2.2.2.2.2) (fun s => μ s.1 s.2.1 s.2.2.1 s.2.2.2.1 s.2.2.2.2.1 s.2.2.2.2.2.1 s.2.2.2.2.2.2.1 s.2.2.2.2.2.2.2.1 s.2.2.2.2.2.2.2.2.1 s.2.2.2.2.2.2.2.2.2.1 s.2.2.2.2.2.2.2.2.2.2) (fun n s hI hk => hs n s.1 s.2.1 s.2.2.1 s.2.2.2.1 s.2.2.2.2.1 s.2.2.2.2.2.1 s.2.2.2.2.2.2.1 s.2.2.2.2.2.2.2.1 s.2.2.2.2.2.2.2.2.1 s.2.2.2.2.2.2.2.2.2.1 s.2.2.2.2.2.2.2.2.2.2 hI (fun b1 b2 b3 b4 b5 b6 b7 b8 b9 b10 b11 h9 hm => hk (b1, b2, b3, b4, b5, b6, b7, b8, b9, b10, b11) h9 hm)) (a1, a2, a3, a4, a5, a6, a7, a8, a9, a10, a11) h
theorem lp12 {A1 A2 A3 A4 A5 A6 A7 A8 A9 A10 A11 A12 : Type} (W : Nat → A1 → A2 → A3 → A4 → A5 → A6 → A7 → A8 → A9 → A10 → A11 → A12 → Prop) (I : A1 → A2 → A3 → A4 → A5 → A6 → A7 → A8 → A9 → A10 → A11 → A12 → Prop) (μ : A1 → A2 → A3 → A4 → A5 → A6 → A7 → A8 → A9 → A10 → A11 → A12 → Nat) (hs : ∀ (n : Nat) (a1 : A1) (a2 : A2) (a3 : A3) (a4 : A4) (a5 : A5) (a6 : A6) (a7 : A7) (a8 : A8) (a9 : A9) (a10 : A10) (a11 : A11) (a12 : A12), I a1 a2 a3 a4 a5 a6 a7 a8 a9 a10 a11 a12 → (∀ (b1 : A1) (b2 : A2) (b3 : A3) (b4 : A4) (b5 : A5) (b6 : A6) (b7 : A7) (b8 : A8) (b9 : A9) (b10 : A10) (b11 : A11) (b12 : A12), I b1 b2 b3 b4 b5 b6 b7 b8 b9 b10 b11 b12 → μ b1 b2 b3 b4 b5 b6 b7 b8 b9 b10 b11 b12 < μ a1 a2 a3 a4 a5 a6 a7 a8 a9 a10 a11 a12 → W n b1 b2 b3 b4 b5 b6 b7 b8 b9 b10 b11 b12) → W (n + 1) a1 a2 a3 a4 a5 a6 a7 a8 a9 a10 a11 a12) (a1 : A1) (a2 : A2) (a3 : A3) (a4 : A4) (a5 : A5) (a6 : A6) (a7 : A7) (a8 : A8) (a9 : A9) (a10 : A10) (a11 : A11) (a12 : A12) (h : I a1 a2 a3 a4 a5 a6 a7 a8 a9 a10 a11 a12) : ∃ n, W n a1 a2 a3 a4 a5 a6 a7 a8 a9 a10 a11 a12 :=
  loop_m (σ := A1 × A2 × A3 × A4 × A5 × A6 × A7 × A8 × A9 × A10 × A11 × A12) (fun n s => W n s.1 s.2.1 s.2.2.1 s.2.2.2.1 s.2.2.2.2.1 s.2.2.2.2.2.1 s.2.2.2.2.2.2.1 s.2.2.2.2.2.2.2.1 s.2.2.2.2.2.2.2.2.1 s.2.2.2.2.2.2.2.2.2.1 s.2.2.2.2.2.2.2.2.2.2.1 s.2.2.2.2.2.2.2.2.2.2.2) (fun s => I s.1 s.2.1 s.2.2.1 s.2.2.2.1 s.2.2.2.2.1 s.2.2.2.2.2.1 s.2.2.2.2.2.2.1 s.2.2.2.2.2.2.2.1 s.2.2.2.2.2.2.2.2.1 s.2.2.2.2.2.2.2.2.2.1 s.2.2.2.2.2.2.2.2.2.2.1 s.2.2.2.2.2.2.2.2.2.2.2) (fun s => μ s.1 s.2.1 s.2.2.1 s.2.2.2.1 s.2.2.2.2.1 s.2.2.2.2.2.1 s.2.2.2.2.2.2.1 s.2.2.2.2.2.2.2.1 s.2.2.2.2.2.2.2.2.1 s.2.2.2.2.2.2.2.2.2.1 s.2.2.2.2.2.2.2.2.2.2.1 s.2.2.2.2.2.2.2.2.2.2.2) (fun n s hI hk => hs n s.1 s.2.1 s.2.2.1 s.2.2.2.1 s.2.2.2.2.1 s.2.2.2.2.2.1 s.2.2.2.2.2.2.1 s.2.2.2.2.2.2.2.1 s.2.2.2.2.2.2.2.2.1 s.2.2.2.2.2.2.2.2.2.1 s.2.2.2.2.2.2.2.2.2.2.1 s.2.2.2.2.2.2.2.2.2.2.2 hI (fun b1 b2 b3 b4 b5 b6 b7 b8 b9 b10 b11 b12 h9 hm => hk (b1, b2, b3, b4, b5, b6, b7, b8, b9, b10, b11, b12) h9 hm)) (a1, a2, a3, a4, a5, a6, a7, a8, a9, a10, a11, a12) h
theorem lp13 {A1 A2 A3 A4 A5 A6 A7 A8 A9 A10 A11 A12 A13 : Type} (W : Nat → A1 → A2 → A3 → A4 → A5 → A6 → A7 → A8 → A9 → A10 → A11 → A12 → A13 → Prop) (I : A1 → A2 → A3 → A4 → A5 → A6 → A7 → A8 → A9 → A10 → A11 → A12 → A13 → Prop) (μ : A1 → A2 → A3 → A4 → A5 → A6 → A7 → A8 → A9 → A10 → A11 → A12 → A13 → Nat) (hs : ∀ (n : Nat) (a1 : A1) (a2 : A2) (a3 : A3) (a4 : A4) (a5 : A5) (a6 : A6) (a7 : A7) (a8 : A8) (a9 : A9) (a10 : A10) (a11 : A11) (a12 : A12) (a13 : A13), I a1 a2 a3 a4 a5 a6 a7 a8 a9 a10 a11 a12 a13 → (∀ (b1 : A1) (b2 : A2) (b3 : A3) (b4 : A4) (b5 : A5) (b6 : A6) (b7 : A7) (b8 : A8) (b9 : A9) (b10 : A10) (b11 : A11) (b12 : A12) (b13 : A13), I b1 b2 b3 b4 b5 b6 b7 b8 b9 b10 b11 b12 b13 → μ b1 b2 b3 b4 b5 b6 b7 b8 b9 b10 b11 b12 b13 < μ a1 a2 a3 a4 a5 a6 a7 a8 a9 a10 a11 a12 a13 → W n b1 b2 b3 b4 b5 b6 b7 b8 b9 b10 b11 b12 b13) → W (n + 1) a1 a2 a3 a4 a5 a6 a7 a8 a9 a10 a11 a12 a13) (a1 : A1) (a2 : A2) (a3 : A3) (a4 : A4) (a5 : A5) (a6 : A6) (a7 : A7) (a8 : A8) (a9 : A9) (a10 : A10) (a11 : A11) (a12 : A12) (a13 : A13) (h : I a1 a2 a3 a4 a5 a6 a7 a8 a9 a10 a11 a12 a13) : ∃ n, W n a1 a2 a3 a4 a5 a6 a7 a8 a9 a10 a11 a12 a13 :=
  loop_m (σ := A1 × A2 × A3 × A4 × A5 × A6 × A7 × A8 × A9 × A10 × A11 × A12 × A13) (fun n s => W n s.1 s.2.1 s.2.2.1 s.2.2.2.1 s.2.2.2.2.1 s.2.2.2.2.2.1 s.2.2.2.2.2.2.1 s.2.2.2.2.2.2.2.1 s.2.2.2.2.2.2.2.2.1 s.2.2.2.2.2.2.2.2.2.1 s.2.2.2.2.2.2.2.2.2.2.1 s.2.2.2.2.2.2.2.2.2.2.2.1 s.2.2.2.2.2.2.2.2.2.2.2.2) (fun s => I s.1 s.2.1 s.2.2.1 s.2.2.2.1 s.2.2.2.2.1 s.2.2.2.2.2.1 s.2.2.2.2.2.2.1 s.2.2.2.2.2.2.2.1 s.2.2.2.2.2.2.2.2.1 s.2.2.2.2.2.2.2.2.2.1 s.2.2.2.2.2.2.2.2.2.2.1 s.2.2.2.2.2.2.2.2.2.2.2.1 s.2.2.2.2.2.2.2.2.2.2.2.2) (fun s => μ s.1 s.2.1 s.2.2.1 s.2.2.2.1 s.2.2.2.2.1 s.2.2.2.2.2.1 s.2.2.2.2.2.2.1 s.2.2.2.2.2.2.2.1 s.2.2.2.2.2.2.2.2.1 s.2.2.2.2.2.2.2.2.2.1 s.2.2.2.2.2.2.2.2.2.2.1 s.2.2.2.2.2.2.2.2.2.2.2.1 s.2.2.2.2.2.2.2.2.2.2.2.2) (fun n s hI hk => hs n s.1 s.2.1 s.2.2.1 s.2.2.2.1 s.2.2.2.2.1 s.2.2.2.2.2.1 s.2.2.2.2.2.2.1 s.2.2.2.2.2.2.2.1 s.2.2.2.2.2.2.2.2.1 s.2.2.2.2.2.2.2.2.2.1 s.2.2.2.2.2.2.2.2.2.2.1 s.2.2.2.2.2.2.2.2.2.2.2.1 s.2.2.2.2.2.2.2.2.2.2.2.2 hI (fun b1 b2 b3 b4 b5 b6 b7 b8 b9 b10 b11 b12 b13 h9 hm => hk (b1, b2, b3, b4, b5, b6, b7, b8, b9, b10, b11, b12, b13) h9 hm)) (a1, a2, a3, a4, a5, a6, a7, a8, a9, a10, a11, a12, a13) h
theorem lp14 {A1 A2 A3 A4 A5 A6 A7 A8 A9 A10 A11 A12 A13 A14 : Type} (W : Nat → A1 → A2 → A3 → A4 → A5 → A6 → A7 → A8 → A9 → A10 → A11 → A12 → A13 → A14 → Prop) (I : A1 → A2 → A3 → A4 → A5 → A6 → A7 → A8 → A9 → A10 → A11 → A12 → A13 → A14 → Prop) (μ : A1 → A2 → A3 → A4 → A5 → A6 → A7 → A8 → A9 → A10 → A11 → A12 → A13 → A14 → Nat) (hs : ∀ (n : Nat) (a1 : A1) (a2 : A2) (a3 : A3) (a4 : A4) (a5 : A5) (a6 : A6) (a7 : A7) (a8 : A8) (a9 : A9) (a10 : A10) (a11 : A11) (a12 : A12) (a13 : A13) (a14 : A14), I a1 a2 a3 a4 a5 a6 a7 a8 a9 a10 a11 a12 a13 a14 → (∀ (b1 : A1) (b2 : A2) (b3 : A3) (b4 : A4) (b5 : A5) (b6 : A6) (b7 : A7) (b8 : A8) (b9 : A9) (b10 : A10) (b11 : A11) (b12 : A12) (b13 : A13) (b14 : A14), I b1 b2 b3 b4 b5 b6 b7 b8 b9 b10 b11 b12 b13 b14 → μ b1 b2 b3 b4 b5 b6 b7 b8 b9 b10 b11 b12 b13 b14 < μ a1 a2 a3 a4 a5 a6 a7 a8 a9 a10 a11 a12 a13 a14 → W n b1 b2 b3 b4 b5 b6 b7 b8 b9 b10 b11 b12 b13 b14) → W (n + 1) a1 a2 a3 a4 a5 a6 a7 a8 a9 a10 a11 a12 a13 a14) (a1 : A1) (a2 : A2) (a3 : A3) (a4 : A4) (a5 : A5) (a6 : A6) (a7 : A7) (a8 : A8) (a9 : A9) (a10 : A10) (a11 : A11) (a12 : A12) (a13 : A13) (a14 : A14) (h : I a1 a2 a3 a4 a5 a6 a7 a8 a9 a10 a11 a12 a13 a14) : ∃ n, W n a1 a2 a3 a4 a5 a6 a7 a8 a9 a10 a11 a12 a13 a14 :=
  loop_m (σ := A1 × A2 × A3 × A4 × A5 × A6 × A7 × A8 × A9 × A10 × A11 × A12 × A13 × A14) (fun n s => W n s.1 s.2.1 s.2.2.1 s.2.2.2.1 s.2.2.2.2.1 s.2.2.2.2.2.1 s.2.2.2.2.2.2.1 s.2.2.2.2.2.2.2.1 s.2.2.2.2.2.2.2.2.1 s.2.2.2.2.2.2.2.2.2.1 s.2.2.2.2.2.2.2.2.2.2.1 s.2.2.2.2.2.2.2.2.2.2.2.1 s.2.2.2.2.2.2.2.2.2.2.2.2.1 s.2.2.2.2.2.2.2.2.2.2.2.2.2) (fun s => I s.1 s.2.1 s.2.2.1 s.2.2.2.1 s.2.2.2.2.1 s.2.2.2.2.2.1 s.2.2.2.2.2.2.1 s.2.2.2.2.2.2.2.1 s.2.2.2.2.2.2.2.2.1 s.2.2.2.2.2.2.2.2.2.1 s.2.2.2.2.2.2.2.2.2.2.1 s.2.2.2.2.2.2.2.2.2.2.2.1 s.2.2.2.2.2.2.2.2.2.2.2.2.1 s.2.2.2.2.2.2.2.2.2.2.2.2.2) (fun s => μ s.1 s.2.1 s.2.2.1 s.2.2.2.1 s.2.2.2.2.1 s.2.2.2.2.2.1 s.2.2.2.2.2.2.1 s.2.2.2.2.2.2.2.1 s.2.2.2.2.2.2.2.2.1 s.2.2.2.2.2.2.2.2.2.1 s.2.2.2.2.2.2.2.2.2.2.1 s.2.2.2.2.2.2.2.2.2.2.2.1 s.2.2.2.2.2.2.2.2.2.2.2.2.1 s.2.2.2.2.2.2.2.2.2.2.2.2.2) (fun n s hI hk => hs n s.1 s.2.1 s.2.2.1 s.2.2.2.1 s.2.2.2.2.1 s.2.2.2.2.2.1 s.2.2.2.2.2.2.1 s.2.2.2.2.2.2.2.1 s.2.2.2.2.2.2.2.2.1 s.2.2.2.2.2.2.2.2.2.1 s.2.2.2.2.2.2.2.2.2.2.1 s.2.2.2.2.2.2.2.2.2.2.2.1 s.2.2.2.2.2.2.2.2.2.2.2.2.1 s.2.2.2.2.2.2.2.2.2.2.2.2.2 hI (fun b1 b2 b3 b4 b5 b6 b7 b8 b9 b10 b11 b12 b13 b14 h9 hm => hk (b1, b2, b3, b4, b5, b6, b7, b8, b9, b10, b11, b12, b13, b14) h9 hm)) (a1, a2, a3, a4, a5, a6, a7, a8, a9, a10, a11, a12, a13, a14) h
theorem lp15 {A1 A2 A3 A4 A5 A6 A7 A8 A9 A10 A11 A12 A13 A14 A15 : Type} (W : Nat → A1 → A2 → A3 → A4 → A5 → A6 → A7 → A8 → A9 → A10 → A11 → A12 → A13 → A14 → A15 → Prop) (I : A1 → A2 → A3 → A4 → A5 → A6 → A7 → A8 → A9 → A10 → A11 → A12 → A13 → A14 → A15 → Prop) (μ : A1 → A2 → A3 → A4 → A5 → A6 → A7 → A8 → A9 → A10 → A11 → A12 → A13 → A14 → A15 → Nat) (hs : ∀ (n : Nat) (a1 : A1) (a2 : A2) (a3 : A3) (a4 : A4) (a5 : A5) (a6 : A6) (a7 : A7) (a8 : A8) (a9 : A9) (a10 : A10) (a11 : A11) (a12 : A12) (a13 : A13) (a14 : A14) (a15 : A15), I a1 a2 a3 a4 a5 a6 a7 a8 a9 a10 a11 a12 a13 a14 a15 → (∀ (b1 : A1) (b2 : A2) (b3 : A3) (b4 : A4) (b5 : A5) (b6 : A6) (b7 : A7) (b8 : A8) (b9 : A9) (b10 : A10) (b11 : A11) (b12 : A12) (b13 : A13) (b14 : A14) (b15 : A15), I b1 b2 b3 b4 b5 b6 b7 b8 b9 b10 b11 b12 b13 b14 b15 → μ b1 b2 b3 b4 b5 b6 b7 b8 b9 b10 b11 b12 b13 b14 b15 < μ a1 a2 a3 a4 a5 a6 a7 a8 a9 a10 a11 a12 a13 a14 a15 → W n b1 b2 b3 b4 b5 b6 b7 b8 b9 b10 b11 b12 b13 b14 b15) → W (n + 1) a1 a2 a3 a4 a5 a6 a7 a8 a9 a10 a11 a12 a13 a14 a15) (a1 : A1) (a2 : A2) (a3 : A3) (a4 : A4) (a5 : A5) (a6 : A6) (a7 : A7) (a8 : A8) (a9 : A9) (a10 : A10) (a11 : A11) (a12 : A12) (a13 : A13) (a14 : A14) (a15 : A15) (h : I a1 a2 a3 a4 a5 a6 a7 a8 a9 a10 a11 a12 a13 a14 a15) : ∃ n, W n a1 a2 a3 a4 a5 a6 a7 a8 a9 a10 a11 a12 a13 a14 a15 :=
  loop_m (σ := A1 × A2 × A3 × A4 × A5 × A6 × A7 × A8 × A9 × A10 × A11 × A12 × A13 × A14 × A15) (fun n s => W n s.1 s.2.1 s.2.2.1 s.2.2.2.1 s.2.2.2.2.1 s.2.2.2.2.2.1 s.2.2.2.2.2.2.1 s.2.2.2.2.2.2.2.1 s.2.2.2.2.2.2.2.2.1 s.2.2.2.2.2.2.2.2.2.1 s.2.2.2.2.2.2.2.2.2.2.1 s.2.2.2.2.2.2.2.2.2.2.2.1 s.2.2.2.2.2.2.2.2.2.2.2.2.1 s.2.2.2.2.2.2.2.2.2.2.2.2.2.1 s.2.2.2.2.2.2.2.2.2.2.2.2.2.2) (fun s => I s.1 s.2.1 s.2.2.1 s.2.2.2.1 s.2.2.2.2.1 s.2.2.2.2.2.1 s.2.2.2.2.2.2.1 s.2.2.2.2.2.2.2.1 s.2.2.2.2.2.2.2.2.1 s.2.2.2.2.2.2.2.2.2.1 s.2.2.2.2.2.2.2.2.2.2.1 s.2.2.2.2.2.2.2.2.2.2.2.1 s.2.2.2.2.2.2.2.2.2.2.2.2.1 s.2.2.2.2.2.2.2.2.2.2.2.2.2.1 s.2.2.2.2.2.2.2.2.2.2.2.2.2.2) (fun s => μ s.1 s.2.1 s.2.2.1 s.2.2.2.1 s.2.2.2.2.1 s.2.2.2.2.2.1 s.2.2.2.2.2.2.1 s.2.2.2.2.2.2.2.1 s.2.2.2.2.2.2.2.2.1 s.2.2.2.2.2.2.2.2.2.1 s.2.2.2.2.2.2.2.2.2.2.1 s.2.2.2.2.2.2.2.2.2.2.2.1 s.2.2.2.2.2.2.2.2.2.2.2.2.1 s.2.2.2.2.2.2.2.2.2.2.2.2.2.1 s.2.2.2.2.2.2.2.2.2.2.2.2.2.2) (fun n s hI hk => hs n s.1 s.2.1 s.2.2.1 s.2.2.2.1 s.2.2.2.2.1 s.2.2.2.2.2.1 s.2.2.2.2.2.2.1 s.2.2.2.2.2.2.2.1 s.2.2.2.2.2.2.2.2.1 s.2.2.2.2.2.2.2.2.2.1 s.2.2.2.2.2.2.2.2.2.2.1 s.2.2.2.2.2.2.2.2.2.2.2.1 s.2.2.2.2.2.2.2.2.2.2.2.2.1 s.2.2.2.2.2.2.2.2.2.2.2.2.2.1 s.2.2.2.2.2.2.2.2.2.2.2.2.2.2 hI (fun b1 b2 b3 b4 b5 b6 b7 b8 b9 b10 b11 b12 b13 b14 b15 h9 hm => hk (b1, b2, b3, b4, b5, b6, b7, b8, b9, b10, b11, b12, b13, b14, b15) h9 hm)) (a1, a2, a3, a4, a5, a6, a7, a8, a9, a10, a11, a12, a13, a14, a15) h
theorem lp16 {A1 A2 A3 A4 A5 A6 A7 A8 A9 A10 A11 A12 A13 A14 A15 A16 : Type} (W : Nat → A1 → A2 → A3 → A4 → A5 → A6 → A7 → A8 → A9 → A10 → A11 → A12 → A13 → A14 → A15 → A16 → Prop) (I : A1 → A2 → A3 → A4 → A5 → A6 → A7 → A8 → A9 → A10 → A11 → A12 → A13 → A14 → A15 → A16 → Prop) (μ : A1 → A2 → A3 → A4 → A5 → A6 → A7 → A8 → A9 → A10 → A11 → A12 → A13 → A14 → A15 → A16 → Nat) (hs : ∀ (n : Nat) (a1 : A1) (a2 : A2) (a3 : A3) (a4 : A4) (a5 : A5) (a6 : A6) (a7 : A7) (a8 : A8) (a9 : A9) (a10 : A10) (a11 : A11) (a12 : A12) (a13 : A13) (a14 : A14) (a15 : A15) (a16 : A16), I a1 a2 a3 a4 a5 a6 a7 a8 a9 a10 a11 a12 a13 a14 a15 a16 → (∀ (b1 : A1) (b2 : A2) (b3 : A3) (b4 : A4) (b5 : A5) (b6 : A6) (b7 : A7) (b8 : A8) (b9 : A9) (b10 : A10) (b11 : A11) (b12 : A12) (b13 : A13) (b14 : A14) (b15 : A15) (b16 : A16), I b1 b2 b3 b4 b5 b6 b7 b8 b9 b10 b11 b12 b13 b14 b15 b16 → μ b1 b2 b3 b4 b5 b6 b7 b8 b9 b10 b11 b12 b13 b14 b15 b16 < μ a1 a2 a3 a4 a5 a6 a7 a8 a9 a10 a11 a12 a13 a14 a15 a16 → W n b1 b2 b3 b4 b5 b6 b7 b8 b9 b10 b11 b12 b13 b14 b15 b16) → W (n + 1) a1 a2 a3 a4 a5 a6 a7 a8 a9 a10 a11 a12 a13 a14 a15 a16) (a1 : A1) (a2 : A2) (a3 : A3) (a4 : A4) (a5 : A5) (a6 : A6) (a7 : A7) (a8 : A8) (a9 : A9) (a10 : A10) (a11 : A11) (a12 : A12) (a13 : A13) (a14 : A14) (a15 : A15) (a16 : A16) (h : I a1 a2 a3 a4 a5 a6 a7 a8 a9 a10 a11 a12 a13 a14 a15 a16) : ∃ n, W n a1 a2 a3 a4 a5 a6 a7 a8 a9 a10 a11 a12 a13 a14 a15 a16 :=
  loop_m (σ := A1 × A2 × A3 × A4 × A5 × A6 × A7 × A8 × A9 × A10 × A11 × A12 × A13 × A14 × A15 × A16) (fun n s => W n s.1 s.2.1 s.2.2.1 s.2.2.2.1 s.2.2.2.2.1 s.2.2.2.2.2.1 s.2.2.2.2.2.2.1 s.2.2.2.2.2.2.2.1 s.2.2.2.2.2.2.2.2.1 s.2.2.2.2.2.2.2.2.2.1 s.2.2.2.2.2.2.2.2.2.2.1 s.2.2.2.2.2.2.2.2.2.2.2.1 s.2.2.2.2.2.2.2.2.2.2.2.2.1 s.2.2.2.2.2.2.2.2.2.2.2.2.2.1 s.2.2.2.2.2.2.2.2.2.2.2.2.2.2.1 s.2.2.2.2.2.2.2.2.2.2.2.2.2.2.2) (fun s => I s.1 s.2.1 s.2.2.1 s.2.2.2.1 s.2.2.2.2.1 s.2.2.2.2.2.1 s.2.2.2.2.2.2.1 s.2.2.2.2.2.2.2.1 s.2.2.2.2.2.2.2.2.1 s.2.2.2.2.2.2.2.2.2.1 s.2.2.2.2.2.2.2.2.2.2.1 s.2.2.2.2.2.2.2.2.2.2.2.1 s.2.2.2.2.2.2.2.2.2.2.2.2.1 s.2.2.2.2.2.2.2.2.2.2.2.2.2.1 s.2.2.2.2.2.2.2.2.2.2.2.2.2.2.1 s.2.2.2.2.2.2.2.2.2.2.2.2.2.2.2) (fun s => μ s.1 s.2.1 s.2.2.1 s.2.2.2.1 s.2.2.2.2.1 s.2.2.2.2.2.1 s.2.2.2.2.2.2.1 s.2.2.2.2.2.2.2.1 s.2.2.2.2.2.2.2.2.1 s.2.2.2.2.2.2.2.2.2.1 s.2.2.2.2.2.2.2.2.2.2.1 s.2.2.2.2.2.2.2.2.2.2.2.1 s.2.2.2.2.2.2.2.2.2.2.2.2.1 s.2.2.2.2.2.2.2.2.2.2.2.2.2.1 s.2.2.2.2.2.2.2.2.2.2.2.2.2.2.1 s.2.2.2.2.2.2.2.2.2.2.2.2.2.2.2) (fun n s hI hk => hs n s.1 s.2.1 s.2.2.1 s.2.2.2.1 s.2.2.2.2.1 s.2.2.2.2.2.1 s.2.2.2.2.2.2.1 s.2.2.2.2.2.2.2.1 s.2.2.2.2.2.2.2.2.1 s.2.2.2.2.2.2.2.2.2.1 s.2.2.2.2.2.2.2.2.2.2.1 s.2.2.2.2.2.2.2.2.2.2.2.1 s.2.2.2.2.2.2.2.2.2.2.2.2.1 s.2.2.2.2.2.2.2.2.2.2.2.2.2.1 s.2.2.2.2.2.2.2.2.2.2.2.2.2.2.1 s.2.2.2.2.2.2.2.2.2.2.2.2.2.2.2 hI (fun b1 b2 b3 b4 b5 b6 b7 b8 b9 b10 b11 b12 b13 b14 b15 b16 h9 hm => hk (b1, b2, b3, b4, b5, b6, b7, b8, b9, b10, b11, b12, b13, b14, b15, b16) h9 hm)) (a1, a2, a3, a4, a5, a6, a7, a8, a9, a10, a11, a12, a13, a14, a15, a16) h
theorem pk_least (P : Nat → Prop) (h : ∃ k, P k) : ∃ k, P k ∧ ∀ j, j < k → ¬ P j := by
  obtain ⟨k, hk⟩ := h
  induction k using Nat.strongRecOn with
  | ind k ih =>
    by_cases e : ∃ j, j < k ∧ P j
    · obtain ⟨j, hj, pj⟩ := e
      exact ih j hj pj
    · exact ⟨k, hk, fun j hj pj => e ⟨j, hj, pj⟩⟩
theorem rp1 {ρ A1 : Type} (W : Nat → (ρ → Prop) → A1 → Prop) (ok : A1 → Prop) (μ : A1 → Nat) (val : A1 → ρ)
    (hs : ∀ (d : Nat) (post : ρ → Prop) (a1 : A1), ok a1 → post (val a1) → (∀ (post' : ρ → Prop) (b1 : A1), ok b1 → μ b1 < μ a1 → post' (val b1) → W d post' b1) → W (d + 1) post a1) :
    ∀ (d : Nat) (post : ρ → Prop) (a1 : A1), ok a1 → μ a1 < d → post (val a1) → W d post a1 := by
  intro d
  induction d with
  | zero => intro post a1 _ h; omega
  | succ d ih =>
    intro post a1 ho hm hp
    exact hs d post a1 ho hp (fun post' b1 ho' hm' hp' => ih post' b1 ho' (by omega) hp')
theorem rp2 {ρ A1 A2 : Type} (W : Nat → (ρ → Prop) → A1 → A2 → Prop) (ok : A1 → A2 → Prop) (μ : A1 → A2 → Nat) (val : A1 → A2 → ρ)
    (hs : ∀ (d : Nat) (post : ρ → Prop) (a1 : A1) (a2 : A2), ok a1 a2 → post (val a1 a2) → (∀ (post' : ρ → Prop) (b1 : A1) (b2 : A2), ok b1 b2 → μ b1 b2 < μ a1 a2 → post' (val b1 b2) → W d post' b1 b2) → W (d + 1) post a1 a2) :
    ∀ (d : Nat) (post : ρ → Prop) (a1 : A1) (a2 : A2), ok a1 a2 → μ a1 a2 < d → post (val a1 a2) → W d post a1 a2 := by
  intro d
  induction d with
  | zero => intro post a1 a2 _ h; omega
  | succ d ih =>
    intro post a1 a2 ho hm hp
    exact hs d post a1 a2 ho hp (fun post' b1 b2 ho' hm' hp' => ih post' b1 b2 ho' (by omega) hp')
theorem rp3 {ρ A1 A2 A3 : Type} (W : Nat → (ρ → Prop) → A1 → A2 → A3 → Prop) (ok : A1 → A2 → A3 → Prop) (μ : A1 → A2 → A3 → Nat) (val : A1 → A2 → A3 → ρ)
    (hs : ∀ (d : Nat) (post : ρ → Prop) (a1 : A1) (a2 : A2) (a3 : A3), ok a1 a2 a3 → post (val a1 a2 a3) → (∀ (post' : ρ → Prop) (b1 : A1) (b2 : A2) (b3 : A3), ok b1 b2 b3 → μ b1 b2 b3 < μ a1 a2 a3 → post' (val b1 b2 b3) → W d post' b1 b2 b3) → W (d + 1) post a1 a2 a3) :
    ∀ (d : Nat) (post : ρ → Prop) (a1 : A1) (a2 : A2) (a3 : A3), ok a1 a2 a3 → μ a1 a2 a3 < d → post (val a1 a2 a3) → W d post a1 a2 a3 := by
  intro d
  induction d with
  | zero => intro post a1 a2 a3 _ h; omega
  | succ d ih =>
    intro post a1 a2 a3 ho hm hp
    exact hs d post a1 a2 a3 ho hp (fun post' b1 b2 b3 ho' hm' hp' => ih post' b1 b2 b3 ho' (by omega) hp')
theorem rp4 {ρ A1 A2 A3 A4 : Type} (W : Nat → (ρ → Prop) → A1 → A2 → A3 → A4 → Prop) (ok : A1 → A2 → A3 → A4 → Prop) (μ : A1 → A2 → A3 → A4 → Nat) (val : A1 → A2 → A3 → A4 → ρ)
    (hs : ∀ (d : Nat) (post : ρ → Prop) (a1 : A1) (a2 : A2) (a3 : A3) (a4 : A4), ok a1 a2 a3 a4 → post (val a1 a2 a3 a4) → (∀ (post' : ρ → Prop) (b1 : A1) (b2 : A2) (b3 : A3) (b4 : A4), ok b1 b2 b3 b4 → μ b1 b2 b3 b4 < μ a1 a2 a3 a4 → post' (val b1 b2 b3 b4) → W d post' b1 b2 b3 b4) → W (d + 1) post a1 a2 a3 a4) :
    ∀ (d : Nat) (post : ρ → Prop) (a1 : A1) (a2 : A2) (a3 : A3) (a4 : A4), ok a1 a2 a3 a4 → μ a1 a2 a3 a4 < d → post (val a1 a2 a3 a4) → W d post a1 a2 a3 a4 := by
  intro d
  induction d with
  | zero => intro post a1 a2 a3 a4 _ h; omega
  | succ d ih =>
    intro post a1 a2 a3 a4 ho hm hp
    exact hs d post a1 a2 a3 a4 ho hp (fun post' b1 b2 b3 b4 ho' hm' hp' => ih post' b1 b2 b3 b4 ho' (by omega) hp')
theorem rp5 {ρ A1 A2 A3 A4 A5 : Type} (W : Nat → (ρ → Prop) → A1 → A2 → A3 → A4 → A5 → Prop) (ok : A1 → A2 → A3 → A4 → A5 → Prop) (μ : A1 → A2 → A3 → A4 → A5 → Nat) (val : A1 → A2 → A3 → A4 → A5 → ρ)
    (hs : ∀ (d : Nat) (post : ρ → Prop) (a1 : A1) (a2 : A2) (a3 : A3) (a4 : A4) (a5 : A5), ok a1 a2 a3 a4 a5 → post (val a1 a2 a3 a4 a5) → (∀ (post' : ρ → Prop) (b1 : A1) (b2 : A2) (b3 : A3) (b4 : A4) (b5 : A5), ok b1 b2 b3 b4 b5 → μ b1 b2 b3 b4 b5 < μ a1 a2 a3 a4 a5 → post' (val b1 b2 b3 b4 b5) → W d post' b1 b2 b3 b4 b5) → W (d + 1) post a1 a2 a3 a4 a5) :
    ∀ (d : Nat) (post : ρ → Prop) (a1 : A1) (a2 : A2) (a3 : A3) (a4 : A4) (a5 : A5), ok a1 a2 a3 a4 a5 → μ a1 a2 a3 a4 a5 < d → post (val a1 a2 a3 a4 a5) → W d post a1 a2 a3 a4 a5 := by
  intro d
  induction d with
  | zero => intro post a1 a2 a3 a4 a5 _ h; omega
  | succ d ih =>
    intro post a1 a2 a3 a4 a5 ho hm hp
    exact hs d post a1 a2 a3 a4 a5 ho hp (fun post' b1 b2 b3 b4 b5 ho' hm' hp' => ih post' b1 b2 b3 b4 b5 ho' (by omega) hp')
theorem rp6 {ρ A1 A2 A3 A4 A5 A6 : Type} (W : Nat → (ρ → Prop) → A1 → A2 → A3 → A4 → A5 → A6 → Prop) (ok : A1 → A2 → A3 → A4 → A5 → A6 → Prop) (μ : A1 → A2 → A3 → A4 → A5 → A6 → Nat) (val : A1 → A2 → A3 → A4 → A5 → A6 → ρ)
    (hs : ∀ (d : Nat) (post : ρ → Prop) (a1 : A1) (a2 : A2) (a3 : A3) (a4 : A4) (a5 : A5) (a6 : A6), ok a1 a2 a3 a4 a5 a6 → post (val a1 a2 a3 a4 a5 a6) → (∀ (post' : ρ → Prop) (b1 : A1) (b2 : A2) (b3 : A3) (b4 : A4) (b5 : A5) (b6 : A6), ok b1 b2 b3 b4 b5 b6 → μ b1 b2 b3 b4 b5 b6 < μ a1 a2 a3 a4 a5 a6 → post' (val b1 b2 b3 b4 b5 b6) → W d post' b1 b2 b3 b4 b5 b6) → W (d + 1) post a1 a2 a3 a4 a5 a6) :
    ∀ (d : Nat) (post : ρ → Prop) (a1 : A1) (a2 : A2) (a3 : A3) (a4 : A4) (a5 : A5) (a6 : A6), ok a1 a2 a3 a4 a5 a6 → μ a1 a2 a3 a4 a5 a6 < d → post (val a1 a2 a3 a4 a5 a6) → W d post a1 a2 a3 a4 a5 a6 := by
  intro d
  induction d with
  | zero => intro post a1 a2 a3 a4 a5 a6 _ h; omega
  | succ d ih =>
    intro post a1 a2 a3 a4 a5 a6 ho hm hp
    exact hs d post a1 a2 a3 a4 a5 a6 ho hp (fun post' b1 b2 b3 b4 b5 b6 ho' hm' hp' => ih post' b1 b2 b3 b4 b5 b6 ho' (by omega) hp')
theorem rec_p {σ ρ : Type} (W : Nat → (ρ → Prop) → σ → Prop) (ok : σ → Prop) (μ : σ → Nat) (val : σ → ρ)
    (hs : ∀ d s post, ok s → post (val s) → (∀ s' post', ok s' → μ s' < μ s → post' (val s') → W d post' s') → W (d + 1) post s) :
    ∀ d s post, ok s → μ s < d → post (val s) → W d post s := by
  intro d
  induction d with
  | zero => intro s post _ h; omega
  | succ d ih =>
    intro s post ho hm hp
    exact hs d s post ho hp (fun s' post' ho' hm' hp' => ih s' post' ho' (by omega) hp')
theorem rec_q {σ ρ : Type} (W : Nat → (ρ → Prop) → σ → Prop) (ok : σ → Prop) (μ : σ → Nat) (Q : σ → ρ → Prop)
    (hs : ∀ d s post, ok s → (∀ r, Q s r → post r) → (∀ s' post', ok s' → μ s' < μ s → (∀ r, Q s' r → post' r) → W d post' s') → W (d + 1) post s) :
    ∀ d s post, ok s → μ s < d → (∀ r, Q s r → post r) → W d post s := by
  intro d
  induction d with
  | zero => intro s post _ h; omega
  | succ d ih =>
    intro s post ho hm hp
    exact hs d s post ho hp (fun s' post' ho' hm' hp' => ih s' post' ho' (by omega) hp')
def bx_sum (f : Nat → Int32) : Nat → Int32
  | 0 => 0
  | n + 1 => bx_sum f n + f n
theorem ek_u {A : Prop} {B : Nat → Prop} {k N : Nat} (hk : k < N) (h : B k) : (some k = none → A) ∧ (∀ y : Nat, some k = some y → (y < N ∧ B y)) :=
  ⟨fun z => absurd z (Option.some_ne_none k), fun _ e => (by cases e; exact ⟨hk, h⟩)⟩
theorem ek_nu {A : Prop} {B : Nat → Prop} (h : A) : ((none : Option Nat) = none → A) ∧ (∀ y : Nat, (none : Option Nat) = some y → B y) :=
  ⟨fun _ => h, fun _ e => (by cases e)⟩
theorem ek_if {c d A B : Prop} (e : c ↔ d) (f : d → A) (g : ¬ d → B) : (c → A) ∧ (¬ c → B) :=
  ⟨fun z => f (e.mp z), fun z => g (fun y => z (e.mpr y))⟩
theorem ek_v {α : Sort _} {P : α → Prop} {a b : α} (e : a = b) (h : P b) : P a := e ▸ h
theorem co_some {x : Option Nat} {A : Prop} {B : Nat → Prop} (i : Nat) (h : B i) (hx : x = some i := by rfl) : (x = none → A) ∧ (∀ y : Nat, x = some y → B y) := by
  subst hx
  exact ⟨fun e => (nomatch e), fun y e => Option.some.inj e ▸ h⟩
theorem co_none {x : Option Nat} {A : Prop} {B : Nat → Prop} (h : A) (hx : x = none := by rfl) : (x = none → A) ∧ (∀ y : Nat, x = some y → B y) := by
  subst hx
  exact ⟨fun _ => h, fun y e => (nomatch e)⟩
theorem co_any {x : Option Nat} {A : Prop} {B : Nat → Prop} (hn : x = none → A) (hs : ∀ i : Nat, x = some i → B i) : (x = none → A) ∧ (∀ y : Nat, x = some y → B y) := ⟨hn, hs⟩
theorem co_2 {P : Nat → Prop} (h0 : P 0) (h1 : P 1) {i : Nat} (hi : i < 2) : P i :=
  match i, hi with
  | 0, _ => h0
  | 1, _ => h1
theorem co_3 {P : Nat → Prop} (h0 : P 0) (h1 : P 1) (h2 : P 2) {i : Nat} (hi : i < 3) : P i :=
  match i, hi with
  | 0, _ => h0
  | 1, _ => h1
  | 2, _ => h2
theorem co_4 {P : Nat → Prop} (h0 : P 0) (h1 : P 1) (h2 : P 2) (h3 : P 3) {i : Nat} (hi : i < 4) : P i :=
  match i, hi with
  | 0, _ => h0
  | 1, _ => h1
  | 2, _ => h2
  | 3, _ => h3
theorem co_dec {N : Nat} {P : Nat → Prop} [DecidablePred P] (h : (List.range N).all (fun i => decide (P i)) = true) {i : Nat} (hi : i < N) : P i := by
  have := List.all_eq_true.mp h i (List.mem_range.mpr hi)
  exact of_decide_eq_true this
theorem co_tab {α : Type} {l : List α} {d : α} {P : α → Prop} (h : ∀ a, a ∈ l → P a) {i : Nat} (hi : i < l.length) : P (l.getD i d) := by
  rw [List.getD_eq_getElem?_getD, List.getElem?_eq_getElem hi]
  exact h _ (List.getElem_mem hi)
theorem pk_mu {x : Int32} {L : Nat} (h0 : ¬ x < 0) (h : ¬ nI L ≤ x) (hL : L < 2 ^ 31) : ∃ j : Nat, j < L ∧ x = nI j ∧ x + 1 = nI (j + 1) ∧ x.toNatClampNeg = j ∧ L - (x + 1).toNatClampNeg < L - x.toNatClampNeg := by
  obtain ⟨j, hj, rfl⟩ := nI_of h0
  have hl : j < L := Nat.not_le.mp fun q => h (nI_le q hj)
  refine ⟨j, hl, rfl, nI_1 j, nI_clamp hj, ?_⟩
  rw [nI_1, nI_clamp (by omega), nI_clamp hj]
  omega
theorem op_s {α : Type} {r : Option α} {A : Prop} {B : α → Prop} {y : α} (h : r = some y) (b : B y) : (r = none → A) ∧ ∀ z, r = some z → B z :=
  ⟨fun e => (by rw [h] at e; cases e), fun z e => (by rw [h] at e; cases e; exact b)⟩
def l_holds {α : Type} (a : Nat → Option Nat) (LP : List Nat) (p : Nat → α) (c : Nat) (b : Nat → α) : Prop :=
  ∀ j, j < c → ∃ y, a j = some y ∧ y ∈ LP ∧ p y = b j
theorem l_holds_0 {α : Type} {a : Nat → Option Nat} {LP : List Nat} {p b : Nat → α} : l_holds a LP p 0 b := fun j h => absurd h (Nat.not_lt_zero j)
theorem l_in_new (LP : List Nat) (q : Nat) : q ∈ LP ++ [q] := List.mem_append.mpr (Or.inr (List.mem_singleton.mpr rfl))
def l_sum (b : Nat → Int32) : Nat → Int32
  | 0 => 0
  | k + 1 => l_sum b k + b k
theorem sb_shr0 (x : Int32) : x >>> ((0 : Int32) &&& 31) = x := by
  rw [show ((0 : Int32) &&& 31) = 0 by decide]
  simp
theorem sb_shl0 (x : Int32) : x <<< ((0 : Int32) &&& 31) = x := by
  rw [show ((0 : Int32) &&& 31) = 0 by decide]
  simp
theorem sb_cl0 : (0 : Int32).toNatClampNeg = 0 := by decide
theorem sb_m1 {p : Nat} (h : 0 < p) : nI p + (-1) = nI (p - 1) := by
  obtain ⟨q, rfl⟩ : ∃ q, p = q + 1 := ⟨p - 1, by omega⟩
  exact pk_m1 q
def sb_b (c : Nat) : Int32 := (nI c).toInt8.toInt32
theorem sb_byte : ∀ c, c < 256 → sb_b c &&& 255 = nI c ∧ ((nI c).toUInt32 % 65536).toInt32 = nI c ∧ nI c ≤ 255 := by decide +kernel
def sb_Fit (a : Nat → Int32) : Prop := ∀ j, fits .byte (.int (a j)) = true
def sb_Lat (t : Nat → Nat) (n : Nat) (a : Nat → Int32) : Prop := ∀ j, j < n → t j < 256 ∧ a j = sb_b (t j)
theorem sb_fitB (c : Nat) : fits .byte (.int (sb_b c)) = true := pk_fb _
theorem sb_fit0 : sb_Fit (fun _ => 0) := fun _ => by
  show fits .byte (.int 0) = true
  decide
theorem sb_fitU {a : Nat → Int32} {k : Nat} {x : Int32} (h : sb_Fit a) (hx : fits .byte (.int x) = true) : sb_Fit (upd a k x) := by
  intro j
  by_cases e : j = k
  · subst e
    rw [pk_us]
    exact hx
  · rw [pk_un e]
    exact h j
def sb_cat (t : Nat → Nat) (n : Nat) (s : Nat → Nat) : Nat → Nat := fun j => if j < n then t j else s (j - n)
theorem sb_cat_lo {t s : Nat → Nat} {n j : Nat} (h : j < n) : sb_cat t n s j = t j := if_pos h
theorem sb_cat_hi {t s : Nat → Nat} {n j : Nat} : sb_cat t n s (n + j) = s j := by
  show (if n + j < n then t (n + j) else s (n + j - n)) = s j
  rw [if_neg (by omega), Nat.add_sub_cancel_left]
theorem sb_latPut {t s : Nat → Nat} {n w : Nat} {a a' : Nat → Int32} (h : sb_Lat t n a) (hk : ∀ j, j < n → a' j = a j) (hs : ∀ i, i < w → s i < 256 ∧ a' (n + i) = sb_b (s i)) : sb_Lat (sb_cat t n s) (n + w) a' := by
  intro j hj
  by_cases e : j < n
  · rw [sb_cat_lo e, hk j e]
    exact h j e
  · obtain ⟨i, rfl⟩ : ∃ i, j = n + i := ⟨j - n, by omega⟩
    rw [sb_cat_hi]
    exact hs i (by omega)
theorem sb_latKeep {t : Nat → Nat} {n : Nat} {a a' : Nat → Int32} (h : sb_Lat t n a) (hk : ∀ j, j < n → a' j = a j) : sb_Lat t n a' := fun j hj => by
  rw [hk j hj]
  exact h j hj
def sb_cap (q m : Nat) : Nat := if q ≤ m then m else if 2 * m + 2 < q then q else 2 * m + 2
def sb_Room (q m mc ms : Nat) : Prop := q ≤ m ∨ (1 ≤ mc ∧ sb_cap q m ≤ ms ∧ sb_cap q m ≤ 65536)
theorem sb_cap_ge (q m : Nat) : q ≤ sb_cap q m := by
  unfold sb_cap
  split
  · omega
  · split <;> omega
theorem sb_cap_gem (q m : Nat) : m ≤ sb_cap q m := by
  unfold sb_cap
  split
  · omega
  · split <;> omega
theorem sb_cap_le {q m mc ms : Nat} (hm : m ≤ 65536) (hr : sb_Room q m mc ms) : sb_cap q m ≤ 65536 := by
  rcases hr with h | h
  · rw [sb_cap, if_pos h]
    exact hm
  · exact h.2.2
theorem sb_at {P : Int32 → Prop} {x y : Int32} (e : x = y) (h : P y) : P x := e ▸ h
def sb_dg (w : Nat) : Nat := if w < 10 then 1 else if w < 100 then 2 else if w < 1000 then 3 else if w < 10000 then 4 else if w < 100000 then 5 else if w < 1000000 then 6 else if w < 10000000 then 7 else if w < 100000000 then 8 else if w < 1000000000 then 9 else 10
def sb_dec (v : Nat) : Nat → Nat := fun i => 48 + v / 10 ^ (sb_dg v - 1 - i) % 10
theorem sb_dg_in (w : Nat) : 1 ≤ sb_dg w ∧ sb_dg w ≤ 10 := by
  unfold sb_dg
  constructor <;> (repeat' split) <;> omega
theorem sb_dg100 {w : Nat} (h : 100 ≤ w) (hw : w < 2 ^ 31) : sb_dg w = sb_dg (w / 100) + 2 := by
  rw [sb_dg, sb_dg, if_neg (show ¬ w < 10 by omega), if_neg (show ¬ w < 100 by omega)]
  by_cases h3 : w < 1000
  · rw [if_pos h3, if_pos (show w / 100 < 10 by omega)]
  rw [if_neg h3, if_neg (show ¬ w / 100 < 10 by omega)]
  by_cases h4 : w < 10000
  · rw [if_pos h4, if_pos (show w / 100 < 100 by omega)]
  rw [if_neg h4, if_neg (show ¬ w / 100 < 100 by omega)]
  by_cases h5 : w < 100000
  · rw [if_pos h5, if_pos (show w / 100 < 1000 by omega)]
  rw [if_neg h5, if_neg (show ¬ w / 100 < 1000 by omega)]
  by_cases h6 : w < 1000000
  · rw [if_pos h6, if_pos (show w / 100 < 10000 by omega)]
  rw [if_neg h6, if_neg (show ¬ w / 100 < 10000 by omega)]
  by_cases h7 : w < 10000000
  · rw [if_pos h7, if_pos (show w / 100 < 100000 by omega)]
  rw [if_neg h7, if_neg (show ¬ w / 100 < 100000 by omega)]
  by_cases h8 : w < 100000000
  · rw [if_pos h8, if_pos (show w / 100 < 1000000 by omega)]
  rw [if_neg h8, if_neg (show ¬ w / 100 < 1000000 by omega)]
  by_cases h9 : w < 1000000000
  · rw [if_pos h9, if_pos (show w / 100 < 10000000 by omega)]
  rw [if_neg h9, if_neg (show ¬ w / 100 < 10000000 by omega)]
  rw [if_pos (show w / 100 < 100000000 by omega)]
theorem sb_negT {w : Nat} (h : w < 2 ^ 31) : (-nI w).toInt = -(w : Int) := by
  rw [Int32.toInt_neg, nI_toInt h]
  exact Int.bmod_eq_of_le (by omega) (by omega)
theorem sb_nle {a b : Nat} (ha : a < 2 ^ 31) (hb : b < 2 ^ 31) : -nI a ≤ -nI b ↔ b ≤ a := by
  rw [Int32.le_iff_toInt_le, sb_negT ha, sb_negT hb]
  omega
theorem sb_nlt {a b : Nat} (ha : a < 2 ^ 31) (hb : b < 2 ^ 31) : -nI a < -nI b ↔ b < a := by
  rw [Int32.lt_iff_toInt_lt, sb_negT ha, sb_negT hb]
  omega
theorem sb_cmp {A B : Prop} {x : Int32} (v c : Nat) (f : c ≤ v → A) (g : v < c → B) (hv : v < 2 ^ 31) (hx : x = -nI c := by rfl) (hc : c < 2 ^ 31 := by omega) : (-nI v ≤ x → A) ∧ (¬ -nI v ≤ x → B) := by
  subst hx
  rw [sb_nle hv hc]
  exact ⟨f, fun z => g (by omega)⟩
theorem sb_ndiv {w : Nat} (hw : w < 2 ^ 31) : (-nI w) / 100 = -nI (w / 100) := by
  apply Int32.toInt_inj.mp
  have h100 : (100 : Int32).toInt = 100 := by decide
  rw [Int32.toInt_div, sb_negT hw, h100, sb_negT (by omega), Int.neg_tdiv, Int.tdiv_eq_ediv_of_nonneg (by omega), Int.bmod_eq_of_le (by omega) (by omega)]
  omega
theorem sb_nrem {w : Nat} (hw : w < 2 ^ 31) : (-nI (w / 100)) * 100 - (-nI w) = nI (w % 100) := by
  have h := pk_rem (a := w) (d := 100) hw (by decide) (by decide)
  rw [pk_div hw (by decide) (by decide)] at h
  rw [← h]
  show (-nI (w / 100)) * nI 100 - (-nI w) = nI w - nI (w / 100) * nI 100
  rw [Int32.neg_mul, Int32.sub_neg, Int32.add_comm, ← Int32.sub_eq_add_neg]
end
section
/-! rows on bits, shifts and unsigned numbers, to paste: each family out of a closed proof of our own, whole with what it rests on; each by itself clean at Lean in its own claim (generation 39, form 5). Take a family whole -/
/-! ===== Int32 by its bits: bt x i ===== -/
def bt (x : Int32) (i : Nat) : Bool := x.toBitVec.getLsbD i
theorem b_ext {x y : Int32} (h : ∀ i, i < 32 → bt x i = bt y i) : x = y := Int32.toBitVec_inj.mp (BitVec.eq_of_getLsbD_eq (fun i hi => h i hi))
theorem b_or (x y : Int32) (i : Nat) : bt (x ||| y) i = (bt x i || bt y i) := by unfold bt; rw [Int32.toBitVec_or, BitVec.getLsbD_or]
theorem b_and (x y : Int32) (i : Nat) : bt (x &&& y) i = (bt x i && bt y i) := by unfold bt; rw [Int32.toBitVec_and, BitVec.getLsbD_and]
theorem b_xor (x y : Int32) (i : Nat) : bt (x ^^^ y) i = (bt x i ^^ bt y i) := by unfold bt; rw [Int32.toBitVec_xor, BitVec.getLsbD_xor]
theorem b_big {x : Int32} {i : Nat} (h : 32 ≤ i) : bt x i = false := BitVec.getLsbD_of_ge _ _ h
theorem b_255 (i : Nat) : bt 255 i = decide (i < 8) := by
  rcases Nat.lt_or_ge i 32 with h | h
  · exact (by decide +kernel : ∀ i, i < 32 → bt 255 i = decide (i < 8)) i h
  · rw [b_big h, decide_eq_false (by omega)]
theorem b_65535 (i : Nat) : bt 65535 i = decide (i < 16) := by
  rcases Nat.lt_or_ge i 32 with h | h
  · exact (by decide +kernel : ∀ i, i < 32 → bt 65535 i = decide (i < 16)) i h
  · rw [b_big h, decide_eq_false (by omega)]
theorem b_m1 : ∀ i, i < 32 → bt (-1) i = true := by decide +kernel
theorem b_0 (i : Nat) : bt 0 i = false := BitVec.getLsbD_zero
theorem s_l : ∀ n, n < 32 → ((nI n &&& 31).toBitVec.smod 32).toNat = n := by decide +kernel
theorem s_u : ∀ n, n < 32 → (((nI n).toUInt32 &&& Int32.toUInt32 31).toBitVec % 32).toNat = n := by decide +kernel
theorem b_shl (n : Nat) (hn : n < 32) (x : Int32) {i : Nat} (hi : i < 32) : bt (x <<< (nI n &&& 31)) i = (decide (n ≤ i) && bt x (i - n)) := by
  unfold bt
  rw [Int32.toBitVec_shiftLeft]
  show (x.toBitVec <<< ((nI n &&& 31).toBitVec.smod 32).toNat).getLsbD i = _
  rw [s_l n hn, BitVec.getLsbD_shiftLeft]
  rcases Nat.lt_or_ge i n with h | h
  · simp [h, Nat.not_le.mpr h]
  · simp [hi, h, Nat.not_lt.mpr h]
theorem b_ushr (n : Nat) (hn : n < 32) (x : Int32) (i : Nat) : bt ((x.toUInt32 >>> ((nI n).toUInt32 &&& Int32.toUInt32 31)).toInt32) i = bt x (n + i) := by
  show (x.toUInt32 >>> ((nI n).toUInt32 &&& Int32.toUInt32 31)).toBitVec.getLsbD i = x.toUInt32.toBitVec.getLsbD (n + i)
  rw [UInt32.toBitVec_shiftRight]
  show (x.toUInt32.toBitVec >>> (((nI n).toUInt32 &&& Int32.toUInt32 31).toBitVec % 32).toNat).getLsbD i = _
  rw [s_u n hn, BitVec.getLsbD_ushiftRight]
theorem b_sshr (n : Nat) (hn : n < 32) (x : Int32) {i : Nat} (hi : i < 32) : bt (x >>> (nI n &&& 31)) i = if n + i < 32 then bt x (n + i) else bt x 31 := by
  unfold bt
  rw [Int32.toBitVec_shiftRight]
  show (x.toBitVec.sshiftRight ((nI n &&& 31).toBitVec.smod 32).toNat).getLsbD i = _
  rw [s_l n hn, BitVec.getLsbD_sshiftRight, BitVec.msb_eq_getLsbD_last]
  simp [hi]
theorem b_shl8 (x : Int32) {i : Nat} (hi : i < 32) : bt (x <<< ((8 : Int32) &&& 31)) i = (decide (8 ≤ i) && bt x (i - 8)) := b_shl 8 (by omega) x hi
theorem b_shl16 (x : Int32) {i : Nat} (hi : i < 32) : bt (x <<< ((16 : Int32) &&& 31)) i = (decide (16 ≤ i) && bt x (i - 16)) := b_shl 16 (by omega) x hi
theorem b_shl24 (x : Int32) {i : Nat} (hi : i < 32) : bt (x <<< ((24 : Int32) &&& 31)) i = (decide (24 ≤ i) && bt x (i - 24)) := b_shl 24 (by omega) x hi
theorem b_sshr8 (x : Int32) {i : Nat} (hi : i < 32) : bt (x >>> ((8 : Int32) &&& 31)) i = if 8 + i < 32 then bt x (8 + i) else bt x 31 := b_sshr 8 (by omega) x hi
/-! ===== nI under and, xor, >>>, one bit, 65535 ===== -/
theorem nx_and (a b : Nat) : nI a &&& nI b = nI (a &&& b) := by
  apply Int32.toBitVec_inj.1
  show BitVec.ofNat 32 a &&& BitVec.ofNat 32 b = BitVec.ofNat 32 (a &&& b)
  apply BitVec.eq_of_getLsbD_eq
  intro i hi
  simp [hi]
theorem nx_xor (a b : Nat) : nI a ^^^ nI b = nI (a ^^^ b) := by
  apply Int32.toBitVec_inj.1
  show BitVec.ofNat 32 a ^^^ BitVec.ofNat 32 b = BitVec.ofNat 32 (a ^^^ b)
  apply BitVec.eq_of_getLsbD_eq
  intro i hi
  simp [hi]
theorem nx_cnt : ∀ j : Fin 32, (UInt32.ofNat j.val &&& Int32.toUInt32 31).toNat % 32 = j.val := by decide +kernel
theorem nx_ush {k j : Nat} (hk : k < 65536) (hj : j < 32) : ((nI k).toUInt32 >>> ((nI j).toUInt32 &&& Int32.toUInt32 31)).toInt32 = nI (k >>> j) := by
  have hs : k >>> j ≤ k := by
    rw [Nat.shiftRight_eq_div_pow]
    exact Nat.div_le_self _ _
  have e2 : UInt32.ofNat k >>> (UInt32.ofNat j &&& Int32.toUInt32 31) = UInt32.ofNat (k >>> j) := by
    apply UInt32.toNat_inj.1
    have h1 : (UInt32.ofNat k).toNat = k := Nat.mod_eq_of_lt (by omega)
    have h2 : (UInt32.ofNat (k >>> j)).toNat = k >>> j := Nat.mod_eq_of_lt (by omega)
    rw [UInt32.toNat_shiftRight, nx_cnt ⟨j, hj⟩, h1, h2]
  show (UInt32.ofNat k >>> (UInt32.ofNat j &&& Int32.toUInt32 31)).toInt32 = _
  rw [e2]
  rfl
theorem nx_bit {k j : Nat} (hk : k < 65536) (hj : j < 16) : (((nI k).toUInt32 >>> ((nI j).toUInt32 &&& Int32.toUInt32 31)).toInt32 &&& 1) = 0 ↔ k.testBit j = false := by
  rw [nx_ush hk (by omega)]
  show nI (k >>> j) &&& nI 1 = 0 ↔ _
  rw [nx_and, Nat.and_one_is_mod, ← nI_0, nI_eq (by omega) (by omega), Nat.testBit_eq_decide_div_mod_eq, Nat.shiftRight_eq_div_pow, decide_eq_false_iff_not]
  generalize k / 2 ^ j = z
  omega
theorem nx_mod (k : Nat) : nI k &&& 65535 = nI (k % 65536) := by
  show nI k &&& nI 65535 = _
  rw [nx_and, show (65535 : Nat) = 2 ^ 16 - 1 from rfl, Nat.and_two_pow_sub_one_eq_mod]
theorem nx_m16 {k : Nat} (h : k < 65536) : nI k &&& 65535 = nI k := by rw [nx_mod, Nat.mod_eq_of_lt h]
theorem nx_mask (x : Int32) : ∃ k, k < 65536 ∧ x &&& 65535 = nI k := by
  have e : x = nI x.toBitVec.toNat := by
    apply Int32.toBitVec_inj.1
    show x.toBitVec = BitVec.ofNat 32 x.toBitVec.toNat
    simp
  refine ⟨x.toBitVec.toNat % 65536, Nat.mod_lt _ (by omega), ?_⟩
  rw [← nx_mod, ← e]
/-! ===== Int32 as a set of bits: test, set ===== -/
def nf_M (m : Int32) : Nat := 4294967296 - m.toBitVec.toNat
theorem nf_sh : ∀ l, l < 32 → ((1 : Int32) <<< (nI l &&& 31)).toBitVec = BitVec.twoPow 32 l := by decide +kernel
theorem nf_sl : ∀ l, l < 32 → (((nI l).toUInt32 &&& Int32.toUInt32 31).toBitVec % 32).toNat = l := by decide +kernel
theorem nf_tp : ∀ l, l < 32 → BitVec.twoPow 32 l ≠ 0#32 := by decide +kernel
theorem nf_bit (m : Int32) (l : Nat) (hl : l < 32) : ((m.toUInt32 >>> ((nI l).toUInt32 &&& Int32.toUInt32 31)).toInt32 &&& 1) = 0 ↔ (m &&& ((1 : Int32) <<< (nI l &&& 31))) = 0 := by
  have e : ((m.toUInt32 >>> ((nI l).toUInt32 &&& Int32.toUInt32 31)).toInt32).toBitVec = m.toBitVec >>> l := by
    show m.toBitVec >>> (((nI l).toUInt32 &&& Int32.toUInt32 31).toBitVec % 32) = m.toBitVec >>> l
    rw [BitVec.ushiftRight_eq', nf_sl l hl]
  rw [← Int32.toBitVec_inj, ← Int32.toBitVec_inj, Int32.toBitVec_and, Int32.toBitVec_and, nf_sh l hl, e, BitVec.and_twoPow]
  show (m.toBitVec >>> l &&& 1#32) = 0#32 ↔ _ = 0#32
  rw [BitVec.and_one_eq_setWidth_ofBool_getLsbD, BitVec.getLsbD_ushiftRight, Nat.add_zero]
  cases hb : m.toBitVec.getLsbD l
  · exact ⟨fun _ => by simp, fun _ => by decide⟩
  · exact ⟨fun z => absurd z (by decide), fun z => absurd ((if_pos rfl).symm.trans z) (nf_tp l hl)⟩
theorem nf_gr (m k : Int32) (h : m &&& k = 0) (hk : k ≠ 0) : nf_M (m ||| k) < nf_M m := by
  have hm := m.toBitVec.isLt
  have hm' := (m ||| k).toBitVec.isLt
  have h1 : m.toBitVec.toNat ≤ (m ||| k).toBitVec.toNat := by
    rw [Int32.toBitVec_or, BitVec.toNat_or]
    exact Nat.left_le_or
  have h2 : m.toBitVec.toNat ≠ (m ||| k).toBitVec.toNat := by
    intro e
    have e2 : m = m ||| k := Int32.toBitVec_inj.mp (BitVec.eq_of_toNat_eq e)
    apply hk
    apply Int32.toBitVec_inj.mp
    show k.toBitVec = 0#32
    apply BitVec.eq_of_getLsbD_eq
    intro i hi
    have a : m.toBitVec.getLsbD i = (m.toBitVec.getLsbD i || k.toBitVec.getLsbD i) := by rw [← BitVec.getLsbD_or, ← Int32.toBitVec_or, ← e2]
    have b : (m.toBitVec.getLsbD i && k.toBitVec.getLsbD i) = false := by
      rw [← BitVec.getLsbD_and, ← Int32.toBitVec_and, h]
      exact BitVec.getLsbD_zero
    rw [BitVec.getLsbD_zero]
    revert a b
    cases m.toBitVec.getLsbD i <;> cases k.toBitVec.getLsbD i <;> simp
  unfold nf_M
  omega
/-! ===== a byte read unsigned ===== -/
theorem bp_b (x : Int32) : x.toInt8.toInt32 &&& 255 = x &&& 255 := by
  apply Int32.toBitVec_inj.mp
  rw [Int32.toBitVec_and, Int32.toBitVec_and, Int8.toBitVec_toInt32, Int32.toBitVec_toInt8]
  apply BitVec.eq_of_getLsbD_eq
  intro i hi
  rw [BitVec.getLsbD_and, BitVec.getLsbD_and]
  have hm : ∀ i < 32, 8 ≤ i → (255 : Int32).toBitVec.getLsbD i = false := by decide
  rcases Nat.lt_or_ge i 8 with z | z
  · rw [BitVec.getLsbD_signExtend, BitVec.getLsbD_signExtend, if_pos z, if_pos hi]
    simp only [z, hi, decide_true, Bool.true_and]
  · rw [hm i hi z]; simp
/-! ===== the char cast and 65535 ===== -/
theorem em_w (v : Int32) : ∃ w : Nat, w < 65536 ∧ (v.toUInt32 % 65536).toInt32 = nI w ∧ v &&& 65535 = nI w := by
  have hr := lw_u16_r v
  have h0 : (0 : Int32).toInt = 0 := by decide
  obtain ⟨w, h1, h2⟩ := nI_of (x := lw_u16 v) (by rw [Int32.lt_iff_toInt_lt]; omega)
  have h3 : (v.toUInt32 % 65536).toInt32 = nI w := h2
  rw [h2, nI_toInt h1] at hr
  exact ⟨w, by omega, h3, by rw [← lg_i2c_mask, ← lg_i2c_nf, h3]⟩
/-! ===== Int64 as a set of bits: test, set, clear ===== -/
theorem ts_nf {x : Bool} (h : ¬ x = false) : x = true := by cases x <;> first | rfl | exact absurd rfl h
theorem ts_nt {x : Bool} (h : ¬ x = true) : x = false := by cases x <;> first | rfl | exact absurd rfl h
theorem ts_bit {w : Int64} {s : UInt64} {j : Nat} (hj : j < 64) (hs : s.toNat = j) : ((w.toUInt64 >>> s).toInt64 &&& 1) = 0 ↔ w.toBitVec.getLsbD j = false := by
  have e : (w.toUInt64 >>> s).toInt64.toBitVec = w.toBitVec >>> j := by
    apply BitVec.eq_of_toNat_eq
    show (w.toUInt64 >>> s).toNat = _
    rw [UInt64.toNat_shiftRight, hs, Nat.mod_eq_of_lt hj, BitVec.toNat_ushiftRight]
    rfl
  rw [← Int64.toBitVec_inj, Int64.toBitVec_and, e]
  show w.toBitVec >>> j &&& 1#64 = 0#64 ↔ _
  constructor
  · intro h
    have t := congrArg (fun x => x.getLsbD 0) h
    simpa using t
  · intro h
    apply BitVec.eq_of_getLsbD_eq
    intro i hi
    cases i with
    | zero => simp [h]
    | succ i => simp
theorem ts_or {w m : Int64} {j : Nat} (hj : j < 64) (hm : m.toBitVec = BitVec.twoPow 64 j) : (w ||| m) = w ↔ w.toBitVec.getLsbD j = true := by
  rw [← Int64.toBitVec_inj, Int64.toBitVec_or, hm]
  constructor
  · intro h
    have t := congrArg (fun x => x.getLsbD j) h
    simp only [BitVec.getLsbD_or, BitVec.getLsbD_twoPow] at t
    simpa [hj] using t.symm
  · intro h
    apply BitVec.eq_of_getLsbD_eq
    intro i hi
    rw [BitVec.getLsbD_or, BitVec.getLsbD_twoPow]
    by_cases e : j = i
    · subst e; rw [h, Bool.true_or]
    · simp [e]
theorem ts_and {w m : Int64} {j : Nat} (hj : j < 64) (hm : m.toBitVec = BitVec.twoPow 64 j) : (w &&& (m ^^^ (-1))) = w ↔ w.toBitVec.getLsbD j = false := by
  have ha : (-1 : Int64).toBitVec = BitVec.allOnes 64 := by decide
  rw [← Int64.toBitVec_inj, Int64.toBitVec_and, Int64.toBitVec_xor, hm, ha]
  constructor
  · intro h
    have t := congrArg (fun x => x.getLsbD j) h
    simp only [BitVec.getLsbD_and, BitVec.getLsbD_xor, BitVec.getLsbD_twoPow, BitVec.getLsbD_allOnes] at t
    simpa [hj] using t.symm
  · intro h
    apply BitVec.eq_of_getLsbD_eq
    intro i hi
    rw [BitVec.getLsbD_and, BitVec.getLsbD_xor, BitVec.getLsbD_twoPow, BitVec.getLsbD_allOnes]
    by_cases e : j = i
    · subst e; rw [h, Bool.false_and]
    · simp [e, hi]
/-! ===== lN n to 2^64: shifts, and, or, masks, one bit ===== -/
theorem wb_tb (n : Nat) : (lN n).toBitVec = BitVec.ofNat 64 n := rfl
theorem wb_inj {a b : Int64} (h : a.toBitVec = b.toBitVec) : a = b := Int64.toBitVec_inj.mp h
theorem wb_tn {n : Nat} (h : n < 2 ^ 64) : (lN n).toBitVec.toNat = n := by rw [wb_tb, BitVec.toNat_ofNat, Nat.mod_eq_of_lt h]
theorem wb_of (x : Int64) : ∃ n, n < 2 ^ 64 ∧ x = lN n := ⟨x.toBitVec.toNat, x.toBitVec.isLt, wb_inj (by rw [wb_tb]; simp)⟩
theorem wb_of32 (x : Int32) : ∃ n, n < 2 ^ 32 ∧ x = nI n := ⟨x.toBitVec.toNat, x.toBitVec.isLt, Int32.toBitVec_inj.mp (by show _ = BitVec.ofNat 32 _; simp)⟩
theorem wb_c : ∀ k, k < 64 → ((nI k).toInt64 &&& 63) = lN k := by decide +kernel
theorem wb_cu : ∀ k, k < 64 → ((nI k).toInt64.toUInt64 &&& Int64.toUInt64 63) = UInt64.ofNat k := by decide +kernel
theorem wb_sm : ∀ k, k < 64 → (BitVec.ofNat 64 k).smod 64 = BitVec.ofNat 64 k := by decide +kernel
theorem wb_pw {a b : Nat} (h : a ≤ b) : 2 ^ b = 2 ^ a * 2 ^ (b - a) := by rw [← Nat.pow_add]; congr 1; omega
theorem wb_lt2 {a b : Nat} (h : a < b) : 2 ^ a < 2 ^ b := Nat.pow_lt_pow_right (by decide) h
theorem wb_mod (n : Nat) : lN n = lN (n % 2 ^ 64) := wb_inj (by rw [wb_tb, wb_tb]; apply BitVec.eq_of_toNat_eq; rw [BitVec.toNat_ofNat, BitVec.toNat_ofNat, Nat.mod_mod])
theorem wb_shr {n k : Nat} (hn : n < 2 ^ 64) (hk : k < 64) : ((lN n).toUInt64 >>> ((nI k).toInt64.toUInt64 &&& Int64.toUInt64 63)).toInt64 = lN (n / 2 ^ k) := by
  rw [wb_cu k hk]
  apply wb_inj
  apply BitVec.eq_of_toNat_eq
  show ((lN n).toUInt64 >>> UInt64.ofNat k).toNat = (BitVec.ofNat 64 _).toNat
  have h1 : (UInt64.ofNat k).toNat = k := by
    show (BitVec.ofNat 64 k).toNat = k
    rw [BitVec.toNat_ofNat, Nat.mod_eq_of_lt (by omega)]
  have h2 : (lN n).toUInt64.toNat = n := wb_tn hn
  rw [UInt64.toNat_shiftRight, h1, h2, Nat.mod_eq_of_lt hk, Nat.shiftRight_eq_div_pow, BitVec.toNat_ofNat, Nat.mod_eq_of_lt (Nat.lt_of_le_of_lt (Nat.div_le_self _ _) hn)]
theorem wb_shl (n : Nat) {k : Nat} (hk : k < 64) : lN n <<< ((nI k).toInt64 &&& 63) = lN (n * 2 ^ k) := by
  rw [wb_c k hk]
  apply wb_inj
  rw [Int64.toBitVec_shiftLeft, wb_tb, wb_tb, wb_tb, wb_sm k hk]
  apply BitVec.eq_of_toNat_eq
  rw [BitVec.shiftLeft_eq', BitVec.toNat_shiftLeft, BitVec.toNat_ofNat, BitVec.toNat_ofNat, BitVec.toNat_ofNat, Nat.mod_eq_of_lt (show k < 2 ^ 64 by omega), Nat.shiftLeft_eq, Nat.mul_mod, Nat.mod_mod, ← Nat.mul_mod]
theorem wb_and {a b : Nat} (ha : a < 2 ^ 64) (hb : b < 2 ^ 64) : lN a &&& lN b = lN (a &&& b) := by
  apply wb_inj
  rw [Int64.toBitVec_and, wb_tb, wb_tb, wb_tb]
  apply BitVec.eq_of_toNat_eq
  rw [BitVec.toNat_and, BitVec.toNat_ofNat, BitVec.toNat_ofNat, BitVec.toNat_ofNat, Nat.mod_eq_of_lt ha, Nat.mod_eq_of_lt hb, Nat.mod_eq_of_lt (Nat.and_lt_two_pow _ hb)]
theorem wb_or {a b : Nat} (ha : a < 2 ^ 64) (hb : b < 2 ^ 64) : lN a ||| lN b = lN (a ||| b) := by
  apply wb_inj
  rw [Int64.toBitVec_or, wb_tb, wb_tb, wb_tb]
  apply BitVec.eq_of_toNat_eq
  rw [BitVec.toNat_or, BitVec.toNat_ofNat, BitVec.toNat_ofNat, BitVec.toNat_ofNat, Nat.mod_eq_of_lt ha, Nat.mod_eq_of_lt hb, Nat.mod_eq_of_lt (Nat.or_lt_two_pow ha hb)]
theorem wb_mask {n k : Nat} (hn : n < 2 ^ 64) (hk : k < 64) : lN n &&& lN (2 ^ k - 1) = lN (n % 2 ^ k) := by
  rw [wb_and hn (by have := wb_lt2 hk; omega), Nat.and_two_pow_sub_one_eq_mod]
theorem wb_a1 {n : Nat} (hn : n < 2 ^ 64) : lN n &&& 1 = lN (n % 2) := wb_mask (k := 1) hn (by decide)
theorem wb_bit {n k : Nat} (hn : n < 2 ^ 64) (hk : k < 64) : ((lN n).toUInt64 >>> ((nI k).toInt64.toUInt64 &&& Int64.toUInt64 63)).toInt64 &&& 1 = lN (n / 2 ^ k % 2) := by
  rw [wb_shr hn hk, wb_a1 (Nat.lt_of_le_of_lt (Nat.div_le_self _ _) hn)]
theorem wb_xor {q k : Nat} (hk : k < 63) (h : 2 ^ k ≤ q) (h2 : q < 2 ^ (k + 1)) : lN q ^^^ lN (2 ^ k) = lN (q - 2 ^ k) := by
  obtain ⟨r, rfl⟩ : ∃ r, q = 2 ^ k + r := ⟨q - 2 ^ k, by omega⟩
  have hr : r < 2 ^ k := by rw [Nat.pow_succ] at h2; omega
  have hx : (2 ^ k + r) ^^^ 2 ^ k = r := by
    apply Nat.eq_of_testBit_eq
    intro i
    rw [Nat.testBit_xor, Nat.testBit_two_pow]
    rcases Nat.lt_trichotomy i k with h | h | h
    · rw [Nat.testBit_two_pow_add_gt h]
      simp [show ¬ k = i by omega]
    · subst h
      rw [Nat.testBit_two_pow_add_eq]
      simp
    · have a1 : 2 ^ (k + 1) ≤ 2 ^ i := Nat.pow_le_pow_right (by decide) h
      rw [Nat.testBit_lt_two_pow (show 2 ^ k + r < 2 ^ i by omega), Nat.testBit_lt_two_pow (show r < 2 ^ i by omega)]
      simp [show ¬ k = i by omega]
  have b1 := wb_lt2 (show k + 1 < 64 by omega)
  have b2 := wb_lt2 (show k < 64 by omega)
  apply wb_inj
  rw [Int64.toBitVec_xor, wb_tb, wb_tb, wb_tb]
  apply BitVec.eq_of_toNat_eq
  rw [BitVec.toNat_xor, BitVec.toNat_ofNat, BitVec.toNat_ofNat, BitVec.toNat_ofNat, Nat.mod_eq_of_lt (by omega : 2 ^ k + r < 2 ^ 64), Nat.mod_eq_of_lt b2, hx, Nat.add_sub_cancel_left, Nat.mod_eq_of_lt (by omega)]
/-! ===== lN: masks, 'or' of parts that don't overlap is a sum ===== -/
theorem u_tn {n : Nat} (h : n < 2 ^ 64) : (UInt64.ofNat n).toNat = n := Nat.mod_eq_of_lt h
theorem g_and {a b c : Nat} (ha : a < 2 ^ 64) (hb : b < 2 ^ 64) (hc : a &&& b = c) : lN a &&& lN b = lN c := by
  subst hc
  have h : UInt64.ofNat a &&& UInt64.ofNat b = UInt64.ofNat (a &&& b) := UInt64.toNat_inj.mp (by rw [UInt64.toNat_and, u_tn ha, u_tn hb, u_tn (Nat.and_lt_two_pow a hb)])
  have h2 := congrArg UInt64.toInt64 h
  exact h2
theorem g_and1 {a : Nat} (ha : a < 2 ^ 64) : lN a &&& 1 = lN (a % 2) := g_and (b := 1) ha (by decide) (Nat.and_two_pow_sub_one_eq_mod a 1)
theorem g_mask {a s p : Nat} (hp : 2 ^ s = p) (hs : s < 64) (ha : a < 2 ^ 64) : lN a &&& lN (p - 1) = lN (a % p) := by
  subst hp
  have := Nat.pow_lt_pow_right (show 1 < 2 by decide) hs
  exact g_and ha (by omega) (Nat.and_two_pow_sub_one_eq_mod a s)
theorem g_or {k p a b : Nat} (hp : 2 ^ k = p) (ha : a < p) (h : b * p + a < 2 ^ 64) : lN (b * p) ||| lN a = lN (b * p + a) := by
  subst hp
  have h1 : b * 2 ^ k ||| a = b * 2 ^ k + a := by rw [← Nat.shiftLeft_eq, Nat.shiftLeft_add_eq_or_of_lt ha]
  have h3 : UInt64.ofNat (b * 2 ^ k) ||| UInt64.ofNat a = UInt64.ofNat (b * 2 ^ k + a) := UInt64.toNat_inj.mp (by rw [UInt64.toNat_or, u_tn (by omega), u_tn (by omega), u_tn h, h1])
  have h2 := congrArg UInt64.toInt64 h3
  exact h2
theorem g_or' {k p a b : Nat} (hp : 2 ^ k = p) (ha : a < p) (h : a + b * p < 2 ^ 64) : lN a ||| lN (b * p) = lN (a + b * p) := by
  rw [Int64.or_comm, g_or hp ha (by omega), Nat.add_comm]
theorem g_ushr {a k p : Nat} {y : UInt64} (hy : y = UInt64.ofNat k) (hk : k < 64) (hp : 2 ^ k = p) (ha : a < 2 ^ 64) : ((lN a).toUInt64 >>> y).toInt64 = lN (a / p) := by
  subst hy hp
  have h : UInt64.ofNat a >>> UInt64.ofNat k = UInt64.ofNat (a / 2 ^ k) := UInt64.toNat_inj.mp (by rw [UInt64.toNat_shiftRight, u_tn ha, u_tn (by omega), u_tn (Nat.lt_of_le_of_lt (Nat.div_le_self _ _) ha), Nat.mod_eq_of_lt hk, Nat.shiftRight_eq_div_pow])
  have h2 := congrArg UInt64.toInt64 h
  exact h2
theorem g_shl {a k p : Nat} {y : Int64} (hy : y.toBitVec.smod 64 = BitVec.ofNat 64 k) (hk : k < 64) (hp : 2 ^ k = p) (ha : a < 2 ^ 64) : lN a <<< y = lN (a * p) := by
  subst hp
  apply Int64.toBitVec_inj.mp
  rw [Int64.toBitVec_shiftLeft, hy]
  apply BitVec.eq_of_toNat_eq
  have hb : (lN a).toBitVec.toNat = a := Nat.mod_eq_of_lt ha
  have hk' : (BitVec.ofNat 64 k).toNat = k := Nat.mod_eq_of_lt (by omega)
  have h : ((lN a).toBitVec <<< BitVec.ofNat 64 k).toNat = (a * 2 ^ k) % 2 ^ 64 := by simp only [BitVec.shiftLeft_eq', BitVec.toNat_shiftLeft, hb, hk', Nat.shiftLeft_eq]
  exact h
/-! ===== lN to 2^62 under >> and >>> ===== -/
theorem pf_lI {a : Nat} (h : a < 2 ^ 63) : (lN a).toInt = (a : Int) := lg_ofNat_toInt h
theorem pf_shr {a d : Nat} {D : Int64} (hD : (D.toBitVec.smod 64).toNat = d) (h : a < 2 ^ 62) : lN a >>> D = lN (a / 2 ^ d) := by
  have hd : a / 2 ^ d ≤ a := Nat.div_le_self _ _
  apply Int64.toInt_inj.mp
  have e : (lN a >>> D).toInt = (lN a).toInt >>> d := by
    rw [← hD]
    exact BitVec.toInt_sshiftRight ..
  rw [e, Int.shiftRight_eq_div_pow, pf_lI (by omega), pf_lI (by omega)]
  rfl
theorem pf_ushr {a d : Nat} {D : UInt64} (hD : D.toNat % 64 = d) (h : a < 2 ^ 62) : ((lN a).toUInt64 >>> D).toInt64 = lN (a / 2 ^ d) := by
  have hd : a / 2 ^ d ≤ a := Nat.div_le_self _ _
  have e : (lN a).toUInt64 >>> D = UInt64.ofNat (a / 2 ^ d) := UInt64.toNat_inj.mp (by
    rw [UInt64.toNat_shiftRight, hD, Nat.shiftRight_eq_div_pow, UInt64.toNat_ofNat']
    show (UInt64.ofNat a).toNat / 2 ^ d = _
    rw [UInt64.toNat_ofNat', Nat.mod_eq_of_lt (by omega), Nat.mod_eq_of_lt (by omega)])
  rw [e]
  rfl
theorem pf_andw (x : Int64) : ∃ m, m < 2 ^ 32 ∧ x &&& 4294967295 = lN m := ⟨x.toBitVec.toNat % 2 ^ 32, Nat.mod_lt _ (by decide), Int64.toBitVec_inj.mp (BitVec.eq_of_toNat_eq (by
  show (x.toBitVec &&& 4294967295#64).toNat = (BitVec.ofNat 64 (x.toBitVec.toNat % 2 ^ 32)).toNat
  rw [BitVec.toNat_and, show (4294967295#64).toNat = 2 ^ 32 - 1 from by decide, Nat.and_two_pow_sub_one_eq_mod, BitVec.toNat_ofNat]
  omega))⟩
/-! ===== Int64 as an unsigned number: uN x ===== -/
def uN (x : Int64) : Nat := x.toUInt64.toNat
theorem uN_lt (x : Int64) : uN x < 18446744073709551616 := x.toUInt64.toNat_lt
theorem uN_inj {x y : Int64} (h : uN x = uN y) : x = y := congrArg UInt64.toInt64 (UInt64.toNat_inj.mp h)
theorem uN_add (x y : Int64) : uN (x + y) = (uN x + uN y) % 18446744073709551616 := by
  show (x.toUInt64 + y.toUInt64).toNat = _
  exact UInt64.toNat_add _ _
theorem uN_mul (x y : Int64) : uN (x * y) = (uN x * uN y) % 18446744073709551616 := by
  show (x.toUInt64 * y.toUInt64).toNat = _
  exact UInt64.toNat_mul _ _
theorem uN_shl (x : Int64) : uN (x <<< ((1 : Int32).toInt64 &&& 63)) = (2 * uN x) % 18446744073709551616 := by
  have h : (((1 : Int32).toInt64 &&& 63).toBitVec.smod 64).toNat = 1 := by decide
  show (x.toBitVec <<< (((1 : Int32).toInt64 &&& 63).toBitVec.smod 64).toNat).toNat = _
  rw [h, BitVec.toNat_shiftLeft, Nat.shiftLeft_eq, Nat.mul_comm]
  rfl
theorem uN_shr (x : Int64) (s : UInt64) : uN (x.toUInt64 >>> s).toInt64 = uN x / 2 ^ (s.toNat % 64) := by
  show (x.toUInt64 >>> s).toNat = _
  rw [UInt64.toNat_shiftRight, Nat.shiftRight_eq_div_pow]
  rfl
theorem uN_s32 (x : Int64) : uN (x.toUInt64 >>> ((32 : Int32).toInt64.toUInt64 &&& Int64.toUInt64 63)).toInt64 = uN x / 4294967296 := by
  have h : ((32 : Int32).toInt64.toUInt64 &&& Int64.toUInt64 63).toNat % 64 = 32 := by decide
  rw [uN_shr, h]
theorem uN_s63 (x : Int64) : uN (x.toUInt64 >>> ((63 : Int32).toInt64.toUInt64 &&& Int64.toUInt64 63)).toInt64 = uN x / 9223372036854775808 := by
  have h : ((63 : Int32).toInt64.toUInt64 &&& Int64.toUInt64 63).toNat % 64 = 63 := by decide
  rw [uN_shr, h]
theorem uN_lo (x : Int64) : uN (x &&& 4294967295) = uN x % 4294967296 := by
  show (x.toUInt64 &&& Int64.toUInt64 4294967295).toNat = _
  rw [UInt64.toNat_and]
  exact Nat.and_two_pow_sub_one_eq_mod _ 32
theorem uN_bit (x : Int64) : (x &&& 1) = 0 ↔ uN x % 2 = 0 := by
  have h : uN (x &&& 1) = uN x % 2 := by
    show (x.toUInt64 &&& Int64.toUInt64 1).toNat = _
    rw [UInt64.toNat_and]
    exact Nat.and_two_pow_sub_one_eq_mod _ 1
  rw [← h]
  exact ⟨fun z => by rw [z]; rfl, fun z => uN_inj (z.trans rfl)⟩
theorem uN_or {x y : Int64} (hy : uN y < 2) : uN ((x <<< ((1 : Int32).toInt64 &&& 63)) ||| y) = (2 * uN x) % 18446744073709551616 + uN y := by
  have h1 : uN ((x <<< ((1 : Int32).toInt64 &&& 63)) ||| y) = uN (x <<< ((1 : Int32).toInt64 &&& 63)) ||| uN y := UInt64.toNat_or _ _
  have h2 : (2 * uN x) % 18446744073709551616 = 2 ^ 1 * (uN x % 9223372036854775808) := by omega
  rw [h1, uN_shl, h2]
  exact (Nat.two_pow_add_eq_or_of_lt (i := 1) hy _).symm
theorem nat_xor {a : Nat} (h : a < 18446744073709551616) : a ^^^ 2 ^ 63 = (a + 9223372036854775808) % 18446744073709551616 := by
  have h1 : (a ^^^ 2 ^ 63) % 2 ^ 63 = a % 2 ^ 63 := by rw [Nat.xor_mod_two_pow, Nat.mod_self, Nat.xor_zero]
  have h2 : (a ^^^ 2 ^ 63) / 2 ^ 63 = (a / 2 ^ 63) ^^^ 1 := by rw [Nat.xor_div_two_pow, Nat.div_self (Nat.two_pow_pos 63)]
  have h3 : a / 2 ^ 63 = 0 ∨ a / 2 ^ 63 = 1 := by omega
  generalize a ^^^ 2 ^ 63 = t at h1 h2
  rcases h3 with h3 | h3
  · rw [h3] at h2
    have h2 : t / 2 ^ 63 = 1 := h2
    omega
  · rw [h3] at h2
    have h2 : t / 2 ^ 63 = 0 := h2
    omega
theorem uN_xor (x : Int64) : uN (x ^^^ (-9223372036854775808)) = (uN x + 9223372036854775808) % 18446744073709551616 := by
  rw [← nat_xor (uN_lt x)]
  exact UInt64.toNat_xor _ _
theorem uN_int (x : Int64) : x.toInt = if 2 * uN x < 18446744073709551616 then (uN x : Int) else (uN x : Int) - 18446744073709551616 := BitVec.toInt_eq_toNat_cond _
theorem uN_le (x y : Int64) : (x ^^^ (-9223372036854775808)) ≤ (y ^^^ (-9223372036854775808)) ↔ uN x ≤ uN y := by
  have hx := uN_lt x
  have hy := uN_lt y
  rw [Int64.le_iff_toInt_le, uN_int, uN_int, uN_xor, uN_xor]
  omega
theorem uN_sk (x : Int64) {k : Nat} (hk : k < 64) : uN (x.toUInt64 >>> ((nI k).toInt64.toUInt64 &&& Int64.toUInt64 63)).toInt64 = uN x / 2 ^ k := by
  have h : ((nI k).toInt64.toUInt64 &&& Int64.toUInt64 63).toNat % 64 = k := by
    rw [nI_l (by omega), UInt64.toNat_and]
    have e : (lN k).toUInt64.toNat = k % 2 ^ 64 := rfl
    have e2 : (Int64.toUInt64 63).toNat = 2 ^ 6 - 1 := by decide
    rw [e, e2, Nat.and_two_pow_sub_one_eq_mod]
    omega
  rw [uN_shr, h]
/-! ===== unsigned comparison by xor with the least ===== -/
theorem lN_bv (n : Nat) : (lN n).toBitVec = BitVec.ofNat 64 n := rfl
theorem lN_nat {n : Nat} (h : n < 2 ^ 64) : (lN n).toBitVec.toNat = n := by rw [lN_bv, BitVec.toNat_ofNat]; exact Nat.mod_eq_of_lt h
theorem lN_xor (a b : Nat) : lN a ^^^ lN b = lN (a ^^^ b) := by
  apply Int64.toBitVec_inj.mp; rw [Int64.toBitVec_xor, lN_bv, lN_bv, lN_bv]; apply BitVec.eq_of_getLsbD_eq; intro i hi; simp [BitVec.getLsbD_ofNat, Nat.testBit_xor, hi]
theorem lN_ti {m : Nat} (h : m < 2 ^ 64) : (lN m).toInt = if m < 2 ^ 63 then (m : Int) else (m : Int) - 2 ^ 64 := by
  have c := BitVec.toInt_eq_toNat_cond (lN m).toBitVec
  rw [lN_nat h] at c
  show (lN m).toBitVec.toInt = _
  rw [c]
  split <;> split <;> omega
theorem xor63 {x : Nat} (h : x < 2 ^ 63) : x ^^^ 2 ^ 63 = 2 ^ 63 + x := by
  apply Nat.eq_of_testBit_eq
  intro i
  rw [Nat.testBit_xor, Nat.testBit_two_pow]
  rcases Nat.lt_trichotomy i 63 with z | z | z
  · rw [Nat.testBit_two_pow_add_gt z, decide_eq_false (by omega)]; simp
  · subst z; rw [Nat.testBit_two_pow_add_eq]; simp
  · have hp : 2 ^ 64 ≤ 2 ^ i := Nat.pow_le_pow_right (by decide) z
    rw [Nat.testBit_lt_two_pow (show x < 2 ^ i by omega), Nat.testBit_lt_two_pow (show 2 ^ 63 + x < 2 ^ i by omega), decide_eq_false (by omega)]; rfl
theorem xorS {a : Nat} (h : a < 2 ^ 64) : (lN a ^^^ (-9223372036854775808)).toInt = (a : Int) - 2 ^ 63 := by
  rw [show (-9223372036854775808 : Int64) = lN (2 ^ 63) from by decide +kernel, lN_xor]
  rcases Nat.lt_or_ge a (2 ^ 63) with z | z
  · rw [xor63 z, lN_ti (by omega), if_neg (by omega)]; omega
  · obtain ⟨x, rfl⟩ : ∃ x, a = 2 ^ 63 + x := ⟨a - 2 ^ 63, by omega⟩
    rw [← xor63 (by omega), Nat.xor_assoc, Nat.xor_self, Nat.xor_zero, lN_ti (by omega), if_pos (by omega), xor63 (by omega)]; omega
theorem ultL {a b : Nat} (ha : a < 2 ^ 64) (hb : b < 2 ^ 64) : ((lN b ^^^ (-9223372036854775808)) ≤ (lN a ^^^ (-9223372036854775808))) ↔ b ≤ a := by
  rw [Int64.le_iff_toInt_le, xorS ha, xorS hb]; omega
/-! ===== Int64 masks of n low bits ===== -/
theorem cr_bits (W U M : BitVec 64) : ((W &&& U) &&& (U &&& (M ^^^ BitVec.allOnes 64))) = 0#64 ↔ (W &&& U) &&& M = W &&& U := by
  constructor
  · intro h
    apply BitVec.eq_of_getLsbD_eq
    intro i hi
    have e := congrArg (fun x => BitVec.getLsbD x i) h
    simp only [BitVec.getLsbD_and, BitVec.getLsbD_xor, BitVec.getLsbD_allOnes, BitVec.getLsbD_zero, hi, decide_true] at e ⊢
    revert e
    cases W.getLsbD i <;> cases U.getLsbD i <;> cases M.getLsbD i <;> decide
  · intro h
    apply BitVec.eq_of_getLsbD_eq
    intro i hi
    have e := congrArg (fun x => BitVec.getLsbD x i) h
    simp only [BitVec.getLsbD_and, BitVec.getLsbD_xor, BitVec.getLsbD_allOnes, BitVec.getLsbD_zero, hi, decide_true] at e ⊢
    revert e
    cases W.getLsbD i <;> cases U.getLsbD i <;> cases M.getLsbD i <;> decide
theorem cr_mask (w U m : Int64) (n : Nat) (hm : m.toBitVec.toNat = 2 ^ n - 1) : ((w &&& U) &&& (U &&& (m ^^^ (-1)))) = 0 ↔ (w &&& U).toBitVec.toNat < 2 ^ n := by
  have e0 : (-1 : Int64).toBitVec = BitVec.allOnes 64 := by decide
  have z0 : (0 : Int64).toBitVec = 0#64 := by decide
  rw [← Int64.toBitVec_inj, z0, Int64.toBitVec_and, Int64.toBitVec_and, Int64.toBitVec_and, Int64.toBitVec_xor, e0, cr_bits]
  generalize w.toBitVec &&& U.toBitVec = T
  rw [← BitVec.toNat_inj, BitVec.toNat_and, hm, Nat.and_two_pow_sub_one_eq_mod]
  constructor
  · intro h
    have t := Nat.mod_lt T.toNat (Nat.two_pow_pos n)
    rw [h] at t
    exact t
  · exact Nat.mod_eq_of_lt
theorem cr_shr (t : Int64) (x : UInt64) (n : Nat) (hx : x.toNat % 64 = n) : (t.toUInt64 >>> x).toInt64 = 0 ↔ t.toBitVec.toNat < 2 ^ n := by
  rw [← Int64.toBitVec_inj, ← BitVec.toNat_inj]
  show (t.toUInt64 >>> x).toNat = 0 ↔ t.toUInt64.toNat < 2 ^ n
  rw [UInt64.toNat_shiftRight, hx, Nat.shiftRight_eq_div_pow]
  constructor
  · intro h
    have d : t.toUInt64.toNat / 2 ^ n < 1 := by
      rw [h]
      decide
    have e := (Nat.div_lt_iff_lt_mul (Nat.two_pow_pos n)).mp d
    rw [Nat.one_mul] at e
    exact e
  · exact Nat.div_eq_of_lt
theorem cr_amt (s : Int64) : ∃ n, n < 64 ∧ s &&& 63 = lN n ∧ (s.toUInt64 &&& Int64.toUInt64 63).toNat % 64 = n := by
  have e : (s.toUInt64 &&& Int64.toUInt64 63).toNat = s.toUInt64.toNat % 2 ^ 6 := by
    rw [UInt64.toNat_and, show (Int64.toUInt64 63).toNat = 2 ^ 6 - 1 from by decide, Nat.and_two_pow_sub_one_eq_mod]
  refine ⟨s.toUInt64.toNat % 2 ^ 6, by omega, ?_, by omega⟩
  rw [← Int64.toBitVec_inj, ← BitVec.toNat_inj]
  show (s.toUInt64 &&& Int64.toUInt64 63).toNat = (BitVec.ofNat 64 (s.toUInt64.toNat % 2 ^ 6)).toNat
  rw [e, BitVec.toNat_ofNat]
  omega
end
section
/-! pure: booleans as ints, counts, minima, distances by bits -/
def bb_i (b : Bool) : Int32 := match b with
  | true => 1
  | false => 0
theorem bb_i0 {b : Bool} : bb_i b = 0 ↔ b = false := by cases b <;> decide
theorem bb_i1 {b : Bool} : bb_i b = 1 ↔ b = true := by cases b <;> decide
theorem bb_ii {a b : Bool} : bb_i a = bb_i b ↔ a = b := by cases a <;> cases b <;> decide
theorem bb_in (b : Bool) : narrow .boolean (.int (bb_i b)) = .int (bb_i b) := by cases b <;> rfl
theorem bb_iv (b : Bool) : vp_nar .boolean (bb_i b) = bb_i b := by cases b <;> rfl
theorem bb_v1 : vp_nar .boolean 1 = bb_i true := rfl
theorem bb_v0 : vp_nar .boolean 0 = bb_i false := rfl
def bb_ex (p : Nat → Bool) : Nat → Bool
  | 0 => false
  | m + 1 => bb_ex p m || p m
theorem bb_ex_iff (p : Nat → Bool) (m : Nat) : bb_ex p m = true ↔ ∃ w, w < m ∧ p w = true := by
  induction m with
  | zero =>
    constructor
    · intro h; exact absurd h (by simp [bb_ex])
    · rintro ⟨w, hw, _⟩; exact absurd hw (Nat.not_lt_zero w)
  | succ m ih =>
    rw [bb_ex, Bool.or_eq_true, ih]
    constructor
    · rintro (⟨w, hw, h⟩ | h)
      · exact ⟨w, Nat.lt_succ_of_lt hw, h⟩
      · exact ⟨m, Nat.lt_succ_self m, h⟩
    · rintro ⟨w, hw, h⟩
      rcases Nat.lt_or_ge w m with h1 | h1
      · exact Or.inl ⟨w, h1, h⟩
      · have e : w = m := Nat.le_antisymm (Nat.le_of_lt_succ hw) h1
        subst e
        exact Or.inr h
theorem bb_ex_f {p : Nat → Bool} {m : Nat} : bb_ex p m = false ↔ ∀ w, w < m → p w = false := by
  constructor
  · intro h w hw
    cases e : p w with
    | false => rfl
    | true =>
      have h2 := (bb_ex_iff p m).mpr ⟨w, hw, e⟩
      rw [h] at h2
      cases h2
  · intro h
    cases e : bb_ex p m with
    | false => rfl
    | true =>
      obtain ⟨w, hw, e2⟩ := (bb_ex_iff p m).mp e
      rw [h w hw] at e2
      cases e2
theorem bb_ex_congr {p q : Nat → Bool} {m : Nat} (h : ∀ w, w < m → p w = q w) : bb_ex p m = bb_ex q m := by
  induction m with
  | zero => rfl
  | succ m ih => rw [bb_ex, bb_ex, ih (fun w hw => h w (Nat.lt_succ_of_lt hw)), h m (Nat.lt_succ_self m)]
/-- two booleans that are true together are equal -/
theorem bb_beq {a b : Bool} (h : a = true ↔ b = true) : a = b := by
  cases a <;> cases b <;> simp_all
def bb_cn (p : Nat → Bool) : Nat → Nat
  | 0 => 0
  | m + 1 => bb_cn p m + (p m).toNat
theorem bb_tn (b : Bool) : b.toNat ≤ 1 := by cases b <;> decide
theorem bb_cn_le (p : Nat → Bool) (m : Nat) : bb_cn p m ≤ m := by
  induction m with
  | zero => exact Nat.le_refl _
  | succ m ih => rw [bb_cn]; have := bb_tn (p m); omega
theorem bb_cn_congr {p q : Nat → Bool} {m : Nat} (h : ∀ w, w < m → p w = q w) : bb_cn p m = bb_cn q m := by
  induction m with
  | zero => rfl
  | succ m ih => rw [bb_cn, bb_cn, ih (fun w hw => h w (Nat.lt_succ_of_lt hw)), h m (Nat.lt_succ_self m)]
theorem bb_cn_add (p : Nat → Bool) (a b : Nat) : bb_cn p (a + b) = bb_cn p a + bb_cn (fun i => p (a + i)) b := by
  induction b with
  | zero => rfl
  | succ b ih =>
    rw [← Nat.add_assoc, bb_cn, bb_cn, ih, Nat.add_assoc]
theorem bb_cn_no {p : Nat → Bool} {m : Nat} (h : ∀ w, w < m → p w = false) : bb_cn p m = 0 := by
  induction m with
  | zero => rfl
  | succ m ih => rw [bb_cn, ih (fun w hw => h w (Nat.lt_succ_of_lt hw)), h m (Nat.lt_succ_self m)]; rfl
theorem bb_cn_zero {p : Nat → Bool} {m : Nat} : bb_cn p m = 0 ↔ ∀ w, w < m → p w = false := by
  constructor
  · induction m with
    | zero => intro _ w hw; exact absurd hw (Nat.not_lt_zero w)
    | succ m ih =>
      intro h w hw
      rw [bb_cn] at h
      rcases Nat.lt_or_ge w m with h1 | h1
      · exact ih (Nat.eq_zero_of_add_eq_zero_right h) w h1
      · have e : w = m := Nat.le_antisymm (Nat.le_of_lt_succ hw) h1
        subst e
        have h2 := Nat.eq_zero_of_add_eq_zero_left h
        cases e2 : p w with
        | false => rfl
        | true => rw [e2] at h2; cases h2
  · exact bb_cn_no
theorem bb_cn_ext {p : Nat → Bool} {m k : Nat} (h : m ≤ k) (h2 : ∀ w, m ≤ w → p w = false) : bb_cn p k = bb_cn p m := by
  obtain ⟨c, rfl⟩ : ∃ c, k = m + c := ⟨k - m, by omega⟩
  rw [bb_cn_add, bb_cn_no (p := fun i => p (m + i)) (fun w _ => h2 (m + w) (Nat.le_add_right m w))]
  rfl
theorem bb_cn_lt (t : Nat) : ∀ m, t ≤ m → bb_cn (fun i => decide (i < t)) m = t := by
  intro m hm
  rw [bb_cn_ext hm (fun w hw => decide_eq_false (by omega))]
  clear hm
  have key : ∀ k, k ≤ t → bb_cn (fun i => decide (i < t)) k = k := by
    intro k
    induction k with
    | zero => intro _; rfl
    | succ k ih =>
      intro hk
      rw [bb_cn, ih (by omega), decide_eq_true (by omega)]
      rfl
  exact key t (Nat.le_refl t)
/-! bits of worlds -/
theorem bb_hi {x n j : Nat} (hx : x < 2 ^ n) (h : n ≤ j) : x.testBit j = false :=
  Nat.testBit_lt_two_pow (Nat.lt_of_lt_of_le hx (Nat.pow_le_pow_right (by decide) h))
theorem bb_tx (x v i : Nat) : (x ^^^ 2 ^ v).testBit i = (x.testBit i ^^ decide (v = i)) := by
  rw [Nat.testBit_xor, Nat.testBit_two_pow]
theorem bb_tx_ne {x v i : Nat} (h : v ≠ i) : (x ^^^ 2 ^ v).testBit i = x.testBit i := by
  rw [bb_tx, decide_eq_false h, Bool.xor_false]
theorem bb_tx_eq (x v : Nat) : (x ^^^ 2 ^ v).testBit v = !x.testBit v := by
  rw [bb_tx, decide_eq_true rfl, Bool.xor_true]
theorem bb_xx (x y : Nat) : (x ^^^ y) ^^^ y = x := by rw [Nat.xor_assoc, Nat.xor_self, Nat.xor_zero]
theorem bb_xs (x y z : Nat) : (x ^^^ y) ^^^ z = (x ^^^ z) ^^^ y := by rw [Nat.xor_assoc, Nat.xor_comm y z, ← Nat.xor_assoc]
theorem bb_fx {x v n : Nat} (hx : x < 2 ^ n) (hv : v < n) : x ^^^ 2 ^ v < 2 ^ n :=
  Nat.xor_lt_two_pow hx (Nat.pow_lt_pow_right (by decide) hv)
theorem bb_64 {n : Nat} (h : n ≤ 6) : 2 ^ n ≤ 64 := Nat.pow_le_pow_right (by decide) h
theorem bb_ext {x y n : Nat} (hx : x < 2 ^ n) (hy : y < 2 ^ n) (h : ∀ j, j < n → x.testBit j = y.testBit j) : x = y := by
  apply Nat.eq_of_testBit_eq
  intro i
  rcases Nat.lt_or_ge i n with hi | hi
  · exact h i hi
  · rw [bb_hi hx hi, bb_hi hy hi]
def bb_pc (n x : Nat) : Nat := bb_cn (fun v => x.testBit v) n
theorem bb_pc_out {n v : Nat} (h : n ≤ v) (x : Nat) : bb_pc n (x ^^^ 2 ^ v) = bb_pc n x :=
  bb_cn_congr (fun w hw => bb_tx_ne (by omega))
theorem bb_pc_flip {n v : Nat} (h : v < n) (x : Nat) : bb_pc n (x ^^^ 2 ^ v) + (x.testBit v).toNat = bb_pc n x + (!x.testBit v).toNat := by
  induction n with
  | zero => exact absurd h (Nat.not_lt_zero v)
  | succ n ih =>
    show bb_pc n (x ^^^ 2 ^ v) + ((x ^^^ 2 ^ v).testBit n).toNat + (x.testBit v).toNat = bb_pc n x + (x.testBit n).toNat + (!x.testBit v).toNat
    rcases Nat.lt_or_ge v n with h1 | h1
    · rw [bb_tx_ne (by omega)]
      have := ih h1
      omega
    · have e : v = n := by omega
      subst e
      rw [bb_pc_out (Nat.le_refl _), bb_tx_eq]
      omega
theorem bb_pc_t {n v x : Nat} (h : v < n) (hb : x.testBit v = true) : bb_pc n (x ^^^ 2 ^ v) + 1 = bb_pc n x := by
  have f := bb_pc_flip h x
  rw [hb] at f
  simpa using f
theorem bb_pc_up {n v : Nat} (h : v < n) (x : Nat) : bb_pc n (x ^^^ 2 ^ v) ≤ bb_pc n x + 1 := by
  have f := bb_pc_flip h x
  have g := bb_tn (!x.testBit v)
  omega
theorem bb_pc_le (n x : Nat) : bb_pc n x ≤ n := bb_cn_le _ _
theorem bb_pc_self (n u : Nat) : bb_pc n (u ^^^ u) = 0 := by
  rw [Nat.xor_self]
  exact bb_cn_no (fun w _ => Nat.zero_testBit w)
theorem bb_pc_zero {n x : Nat} (hx : x < 2 ^ n) (h : bb_pc n x = 0) : x = 0 := by
  apply Nat.eq_of_testBit_eq
  intro i
  rw [Nat.zero_testBit]
  rcases Nat.lt_or_ge i n with hi | hi
  · exact bb_cn_zero.mp h i hi
  · exact bb_hi hx hi
theorem bb_pc_pos {n x : Nat} (h : 0 < bb_pc n x) : ∃ v, v < n ∧ x.testBit v = true := by
  cases e : bb_ex (fun v => x.testBit v) n with
  | true => exact (bb_ex_iff _ n).mp e
  | false =>
    have z : bb_pc n x = 0 := bb_cn_no (bb_ex_f.mp e)
    omega
theorem bb_xor0 {x y : Nat} (h : x ^^^ y = 0) : x = y := by
  have e := bb_xx x y
  rw [h, Nat.zero_xor] at e
  exact e.symm
/-! minimum and maximum by a fold -/
def bb_mn (s : Nat) (Q : Nat → Bool) (g : Nat → Nat) : Nat → Nat
  | 0 => s
  | m + 1 => if Q m = true ∧ g m < bb_mn s Q g m then g m else bb_mn s Q g m
theorem bb_mn_le (s : Nat) (Q : Nat → Bool) (g : Nat → Nat) (m k : Nat) : bb_mn s Q g m ≤ k ↔ s ≤ k ∨ ∃ w, w < m ∧ Q w = true ∧ g w ≤ k := by
  induction m with
  | zero =>
    constructor
    · intro h; exact Or.inl h
    · rintro (h | ⟨w, hw, _⟩)
      · exact h
      · exact absurd hw (Nat.not_lt_zero w)
  | succ m ih =>
    rw [bb_mn]
    by_cases h : Q m = true ∧ g m < bb_mn s Q g m
    · rw [if_pos h]
      constructor
      · intro hk; exact Or.inr ⟨m, Nat.lt_succ_self m, h.1, hk⟩
      · rintro (hk | ⟨w, hw, hq, hk⟩)
        · exact Nat.le_trans (Nat.le_of_lt h.2) (ih.mpr (Or.inl hk))
        · rcases Nat.lt_or_ge w m with h1 | h1
          · exact Nat.le_trans (Nat.le_of_lt h.2) (ih.mpr (Or.inr ⟨w, h1, hq, hk⟩))
          · have e : w = m := Nat.le_antisymm (Nat.le_of_lt_succ hw) h1
            subst e
            exact hk
    · rw [if_neg h]
      constructor
      · intro hk
        rcases ih.mp hk with h1 | ⟨w, hw, hq, h1⟩
        · exact Or.inl h1
        · exact Or.inr ⟨w, Nat.lt_succ_of_lt hw, hq, h1⟩
      · rintro (hk | ⟨w, hw, hq, hk⟩)
        · exact ih.mpr (Or.inl hk)
        · rcases Nat.lt_or_ge w m with h1 | h1
          · exact ih.mpr (Or.inr ⟨w, h1, hq, hk⟩)
          · have e : w = m := Nat.le_antisymm (Nat.le_of_lt_succ hw) h1
            subst e
            exact Nat.le_trans (Nat.le_of_not_lt (fun z => h ⟨hq, z⟩)) hk
theorem bb_mn_s (s : Nat) (Q : Nat → Bool) (g : Nat → Nat) (m : Nat) : bb_mn s Q g m ≤ s := (bb_mn_le s Q g m s).mpr (Or.inl (Nat.le_refl s))
theorem bb_mn_congr {s : Nat} {Q Q' : Nat → Bool} {g g' : Nat → Nat} {m : Nat} (h : ∀ w, w < m → Q w = Q' w) (h2 : ∀ w, w < m → g w = g' w) : bb_mn s Q g m = bb_mn s Q' g' m := by
  induction m with
  | zero => rfl
  | succ m ih => rw [bb_mn, bb_mn, ih (fun w hw => h w (Nat.lt_succ_of_lt hw)) (fun w hw => h2 w (Nat.lt_succ_of_lt hw)), h m (Nat.lt_succ_self m), h2 m (Nat.lt_succ_self m)]
def bb_mx (Q : Nat → Bool) (g : Nat → Nat) : Nat → Nat
  | 0 => 0
  | m + 1 => if Q m = true ∧ bb_mx Q g m < g m then g m else bb_mx Q g m
theorem bb_mx_le (Q : Nat → Bool) (g : Nat → Nat) (m k : Nat) : bb_mx Q g m ≤ k ↔ ∀ w, w < m → Q w = true → g w ≤ k := by
  induction m with
  | zero =>
    constructor
    · intro _ w hw; exact absurd hw (Nat.not_lt_zero w)
    · intro _; exact Nat.zero_le k
  | succ m ih =>
    rw [bb_mx]
    by_cases h : Q m = true ∧ bb_mx Q g m < g m
    · rw [if_pos h]
      constructor
      · intro hk w hw hq
        rcases Nat.lt_or_ge w m with h1 | h1
        · exact ih.mp (Nat.le_trans (Nat.le_of_lt h.2) hk) w h1 hq
        · have e : w = m := Nat.le_antisymm (Nat.le_of_lt_succ hw) h1
          subst e
          exact hk
      · intro hk; exact hk m (Nat.lt_succ_self m) h.1
    · rw [if_neg h]
      constructor
      · intro hk w hw hq
        rcases Nat.lt_or_ge w m with h1 | h1
        · exact ih.mp hk w h1 hq
        · have e : w = m := Nat.le_antisymm (Nat.le_of_lt_succ hw) h1
          subst e
          exact Nat.le_trans (Nat.le_of_not_lt (fun z => h ⟨hq, z⟩)) hk
      · intro hk; exact ih.mpr (fun w hw hq => hk w (Nat.lt_succ_of_lt hw) hq)
/-- a set's distance from u: n + 1 for the empty set -/
def bb_D (n : Nat) (P : Nat → Bool) (u : Nat) : Nat := bb_mn (n + 1) P (fun w => bb_pc n (u ^^^ w)) (2 ^ n)
theorem bb_D_le {n : Nat} {P : Nat → Bool} {u k : Nat} (hk : k ≤ n) : bb_D n P u ≤ k ↔ ∃ w, w < 2 ^ n ∧ P w = true ∧ bb_pc n (u ^^^ w) ≤ k := by
  unfold bb_D
  rw [bb_mn_le]
  constructor
  · rintro (h | h)
    · exact absurd (Nat.le_trans h hk) (Nat.not_succ_le_self n)
    · exact h
  · intro h; exact Or.inr h
theorem bb_D_top (n : Nat) (P : Nat → Bool) (u : Nat) : bb_D n P u ≤ n + 1 := bb_mn_s _ _ _ _
theorem bb_D_0 {n : Nat} {P : Nat → Bool} {u : Nat} (hu : u < 2 ^ n) : bb_D n P u ≤ 0 ↔ P u = true := by
  rw [bb_D_le (Nat.zero_le n)]
  constructor
  · rintro ⟨w, hw, hp, hc⟩
    have e : u = w := bb_xor0 (bb_pc_zero (Nat.xor_lt_two_pow hu hw) (Nat.le_zero.mp hc))
    rw [e]
    exact hp
  · intro h
    exact ⟨u, hu, h, Nat.le_of_eq (bb_pc_self n u)⟩
theorem bb_D_grow {n : Nat} {P : Nat → Bool} {u k : Nat} (hk : k < n) : bb_D n P u ≤ k + 1 ↔ bb_D n P u ≤ k ∨ ∃ v, v < n ∧ bb_D n P (u ^^^ 2 ^ v) ≤ k := by
  constructor
  · intro h
    obtain ⟨w, hw, hp, hc⟩ := (bb_D_le hk).mp h
    by_cases h2 : bb_pc n (u ^^^ w) ≤ k
    · exact Or.inl ((bb_D_le (Nat.le_of_lt hk)).mpr ⟨w, hw, hp, h2⟩)
    · obtain ⟨v, hv, hb⟩ := bb_pc_pos (n := n) (x := u ^^^ w) (Nat.lt_of_le_of_lt (Nat.zero_le k) (Nat.lt_of_not_le h2))
      refine Or.inr ⟨v, hv, (bb_D_le (Nat.le_of_lt hk)).mpr ⟨w, hw, hp, ?_⟩⟩
      have f := bb_pc_t hv hb
      rw [bb_xs u (2 ^ v) w]
      clear h h2 hb
      omega
  · rintro (h | ⟨v, hv, h⟩)
    · exact Nat.le_succ_of_le h
    · obtain ⟨w, hw, hp, hc⟩ := (bb_D_le (Nat.le_of_lt hk)).mp h
      refine (bb_D_le hk).mpr ⟨w, hw, hp, ?_⟩
      have f := bb_pc_up hv (u ^^^ 2 ^ v ^^^ w)
      rw [bb_xs u (2 ^ v) w, bb_xx] at f
      rw [bb_xs u (2 ^ v) w] at hc
      exact Nat.le_trans f (Nat.succ_le_succ hc)
theorem bb_D_non {n : Nat} {P : Nat → Bool} {w : Nat} (hw : w < 2 ^ n) (hp : P w = true) (u : Nat) : bb_D n P u ≤ n :=
  (bb_D_le (Nat.le_refl n)).mpr ⟨w, hw, hp, bb_pc_le _ _⟩
theorem bb_D_emp {n : Nat} {P : Nat → Bool} (h : ∀ w, w < 2 ^ n → P w = false) (u : Nat) : bb_D n P u = n + 1 := by
  rcases Nat.lt_or_ge n (bb_D n P u) with h1 | h1
  · exact Nat.le_antisymm (bb_D_top n P u) h1
  · obtain ⟨w, hw, hp, _⟩ := (bb_D_le (Nat.le_refl n)).mp h1
    rw [h w hw] at hp
    cases hp
theorem bb_D_congr {n : Nat} {P P' : Nat → Bool} (h : ∀ w, w < 2 ^ n → P w = P' w) (u : Nat) : bb_D n P u = bb_D n P' u :=
  bb_mn_congr h (fun _ _ => rfl)
/-- where the first grown set that meets f stands, the least distance stands -/
theorem bb_near {m s k : Nat} {f : Nat → Bool} {D : Nat → Nat} (hs : k ≤ s) (h1 : ∀ u, u < m → f u = true → k ≤ D u) (h2 : ∃ u, u < m ∧ f u = true ∧ D u ≤ k) : bb_mn s f D m = k := by
  apply Nat.le_antisymm
  · exact (bb_mn_le s f D m k).mpr (Or.inr h2)
  · rcases (bb_mn_le s f D m (bb_mn s f D m)).mp (Nat.le_refl _) with h | ⟨w, hw, hq, hg⟩
    · exact Nat.le_trans hs h
    · exact Nat.le_trans (h1 w hw hq) hg
end
section
/-! worlds that agree outside the free variables; worlds below a world; counts under a flip -/
def bb_E (op : Nat → Bool) (i y z : Nat) : Prop :=
  (∀ j, j < i → op j = false → z.testBit j = y.testBit j) ∧ (∀ j, i ≤ j → z.testBit j = y.testBit j)
theorem bb_E_0 {op : Nat → Bool} {y z : Nat} : bb_E op 0 y z ↔ z = y := by
  constructor
  · intro h
    exact Nat.eq_of_testBit_eq (fun j => h.2 j (Nat.zero_le j))
  · intro h
    subst h
    exact ⟨fun _ _ _ => rfl, fun _ _ => rfl⟩
theorem bb_E_no {op : Nat → Bool} {i y z : Nat} (h : op i = false) : bb_E op (i + 1) y z ↔ bb_E op i y z := by
  constructor
  · intro e
    refine ⟨fun j hj ho => e.1 j (Nat.lt_succ_of_lt hj) ho, fun j hj => ?_⟩
    rcases Nat.lt_or_ge i j with h1 | h1
    · exact e.2 j h1
    · have e2 : j = i := Nat.le_antisymm h1 hj
      subst e2
      exact e.1 j (Nat.lt_succ_self j) h
  · intro e
    refine ⟨fun j hj ho => ?_, fun j hj => e.2 j (Nat.le_of_lt hj)⟩
    rcases Nat.lt_or_ge j i with h1 | h1
    · exact e.1 j h1 ho
    · exact e.2 j h1
theorem bb_E_op {op : Nat → Bool} {i y z : Nat} (h : op i = true) : bb_E op (i + 1) y z ↔ bb_E op i y z ∨ bb_E op i (y ^^^ 2 ^ i) z := by
  constructor
  · intro e
    by_cases c : z.testBit i = y.testBit i
    · refine Or.inl ⟨fun j hj ho => e.1 j (Nat.lt_succ_of_lt hj) ho, fun j hj => ?_⟩
      rcases Nat.lt_or_ge i j with h1 | h1
      · exact e.2 j h1
      · have e2 : j = i := Nat.le_antisymm h1 hj
        subst e2
        exact c
    · refine Or.inr ⟨fun j hj ho => ?_, fun j hj => ?_⟩
      · rw [bb_tx_ne (Nat.ne_of_gt hj)]
        exact e.1 j (Nat.lt_succ_of_lt hj) ho
      · rcases Nat.lt_or_ge i j with h1 | h1
        · rw [bb_tx_ne (Nat.ne_of_lt h1)]
          exact e.2 j h1
        · have e2 : j = i := Nat.le_antisymm h1 hj
          subst e2
          rw [bb_tx_eq]
          revert c
          cases z.testBit j <;> cases y.testBit j <;> simp
  · rintro (e | e)
    · refine ⟨fun j hj ho => ?_, fun j hj => e.2 j (Nat.le_of_lt hj)⟩
      rcases Nat.lt_or_ge j i with h1 | h1
      · exact e.1 j h1 ho
      · exact e.2 j h1
    · refine ⟨fun j hj ho => ?_, fun j hj => ?_⟩
      · rcases Nat.lt_or_ge j i with h1 | h1
        · have k := e.1 j h1 ho
          rw [bb_tx_ne (Nat.ne_of_gt h1)] at k
          exact k
        · have e2 : j = i := Nat.le_antisymm (Nat.le_of_lt_succ hj) h1
          subst e2
          rw [h] at ho
          cases ho
      · have k := e.2 j (Nat.le_of_lt hj)
        rw [bb_tx_ne (Nat.ne_of_lt hj)] at k
        exact k
/-- z is a subset of y, and they agree from place i on -/
def bb_U (i y z : Nat) : Prop := (∀ j, z.testBit j = true → y.testBit j = true) ∧ (∀ j, i ≤ j → z.testBit j = y.testBit j)
theorem bb_U_0 {y z : Nat} : bb_U 0 y z ↔ z = y := by
  constructor
  · intro h
    exact Nat.eq_of_testBit_eq (fun j => h.2 j (Nat.zero_le j))
  · intro h
    subst h
    exact ⟨fun _ h => h, fun _ _ => rfl⟩
theorem bb_U_s {i y z : Nat} : bb_U (i + 1) y z ↔ bb_U i y z ∨ (y.testBit i = true ∧ bb_U i (y ^^^ 2 ^ i) z) := by
  constructor
  · intro e
    by_cases c : z.testBit i = y.testBit i
    · refine Or.inl ⟨e.1, fun j hj => ?_⟩
      rcases Nat.lt_or_ge i j with h1 | h1
      · exact e.2 j h1
      · have e2 : j = i := Nat.le_antisymm h1 hj
        subst e2
        exact c
    · have hz : z.testBit i = false ∧ y.testBit i = true := by
        have k := e.1 i
        revert c k
        cases z.testBit i <;> cases y.testBit i <;> simp
      refine Or.inr ⟨hz.2, fun j hj => ?_, fun j hj => ?_⟩
      · have n : i ≠ j := by
          intro q
          subst q
          rw [hz.1] at hj
          cases hj
        rw [bb_tx_ne n]
        exact e.1 j hj
      · rcases Nat.lt_or_ge i j with h1 | h1
        · rw [bb_tx_ne (Nat.ne_of_lt h1)]
          exact e.2 j h1
        · have e2 : j = i := Nat.le_antisymm h1 hj
          subst e2
          rw [bb_tx_eq, hz.1, hz.2]
          rfl
  · rintro (e | ⟨hy, e⟩)
    · exact ⟨e.1, fun j hj => e.2 j (Nat.le_of_lt hj)⟩
    · refine ⟨fun j hj => ?_, fun j hj => ?_⟩
      · by_cases q : i = j
        · subst q
          exact hy
        · have k := e.1 j hj
          rw [bb_tx_ne q] at k
          exact k
      · have k := e.2 j (Nat.le_of_lt hj)
        rw [bb_tx_ne (Nat.ne_of_lt hj)] at k
        exact k
theorem bb_sub {z y : Nat} : z &&& y = z ↔ ∀ j, z.testBit j = true → y.testBit j = true := by
  constructor
  · intro h j hz
    have k : (z &&& y).testBit j = z.testBit j := by rw [h]
    rw [Nat.testBit_and, hz, Bool.true_and] at k
    exact k
  · intro h
    apply Nat.eq_of_testBit_eq
    intro j
    rw [Nat.testBit_and]
    cases e : z.testBit j with
    | false => rfl
    | true => rw [h j e]; rfl
/-- something strictly below y, seen through one step -/
theorem bb_below {n y z : Nat} (hy : y < 2 ^ n) (hz : z < 2 ^ n) : (z ≠ y ∧ z &&& y = z) ↔ ∃ v, v < n ∧ y.testBit v = true ∧ bb_U n (y ^^^ 2 ^ v) z := by
  constructor
  · rintro ⟨hne, hs⟩
    rw [bb_sub] at hs
    obtain ⟨v, hv⟩ := Nat.exists_testBit_ne_of_ne hne
    have k : z.testBit v = false ∧ y.testBit v = true := by
      have k := hs v
      revert hv k
      cases z.testBit v <;> cases y.testBit v <;> simp
    have hvn : v < n := by
      rcases Nat.lt_or_ge v n with h1 | h1
      · exact h1
      · rw [bb_hi hy h1] at k
        cases k.2
    refine ⟨v, hvn, k.2, fun j hj => ?_, fun j hj => ?_⟩
    · have q : v ≠ j := by
        intro q
        subst q
        rw [k.1] at hj
        cases hj
      rw [bb_tx_ne q]
      exact hs j hj
    · rw [bb_hi hz hj, bb_tx_ne (Nat.ne_of_lt (Nat.lt_of_lt_of_le hvn hj)), bb_hi hy hj]
  · rintro ⟨v, hv, hb, hU⟩
    have hzv : z.testBit v = false := by
      cases e : z.testBit v with
      | false => rfl
      | true =>
        have k := hU.1 v e
        rw [bb_tx_eq, hb] at k
        cases k
    constructor
    · intro q
      rw [q, hb] at hzv
      cases hzv
    · rw [bb_sub]
      intro j hj
      by_cases q : v = j
      · subst q
        exact hb
      · have k := hU.1 j hj
        rw [bb_tx_ne q] at k
        exact k
/-! sums -/
def bb_sm (f : Nat → Nat) : Nat → Nat
  | 0 => 0
  | m + 1 => bb_sm f m + f m
theorem bb_sm_congr {f g : Nat → Nat} {m : Nat} (h : ∀ w, w < m → f w = g w) : bb_sm f m = bb_sm g m := by
  induction m with
  | zero => rfl
  | succ m ih => rw [bb_sm, bb_sm, ih (fun w hw => h w (Nat.lt_succ_of_lt hw)), h m (Nat.lt_succ_self m)]
theorem bb_sm_left (f : Nat → Nat) (m : Nat) : bb_sm f (m + 1) = f 0 + bb_sm (fun i => f (i + 1)) m := by
  induction m with
  | zero => rw [bb_sm, bb_sm, bb_sm, Nat.add_comm]
  | succ m ih => rw [bb_sm, ih, bb_sm, Nat.add_assoc]
theorem bb_sm_rev (f : Nat → Nat) (m : Nat) : bb_sm (fun i => f (m - 1 - i)) m = bb_sm f m := by
  induction m with
  | zero => rfl
  | succ m ih =>
    rw [bb_sm_left, bb_sm]
    have e : bb_sm (fun i => f (m + 1 - 1 - (i + 1))) m = bb_sm (fun i => f (m - 1 - i)) m := bb_sm_congr (fun w _ => congrArg f (by omega))
    rw [e, ih, Nat.add_comm]
    rfl
/-! counts under a flip -/
theorem bb_px : ∀ n, n < 6 → ∀ i, i < 2 ^ n → 2 ^ n + i = i ^^^ 2 ^ n := by decide +kernel
theorem bb_cn_flip {n v : Nat} (hn : n ≤ 6) (hv : v < n) (p : Nat → Bool) : bb_cn (fun w => p (w ^^^ 2 ^ v)) (2 ^ n) = bb_cn p (2 ^ n) := by
  induction n generalizing p with
  | zero => exact absurd hv (Nat.not_lt_zero v)
  | succ n ih =>
    have e2 : 2 ^ (n + 1) = 2 ^ n + 2 ^ n := by rw [Nat.pow_succ, Nat.mul_two]
    rw [e2, bb_cn_add, bb_cn_add]
    rcases Nat.lt_or_ge v n with h1 | h1
    · rw [ih (by omega) h1 p]
      have e3 : bb_cn (fun i => p ((2 ^ n + i) ^^^ 2 ^ v)) (2 ^ n) = bb_cn (fun i => (fun j => p (2 ^ n + j)) (i ^^^ 2 ^ v)) (2 ^ n) := by
        apply bb_cn_congr
        intro i hi
        show p ((2 ^ n + i) ^^^ 2 ^ v) = p (2 ^ n + (i ^^^ 2 ^ v))
        rw [bb_px n (by omega) i hi, bb_px n (by omega) (i ^^^ 2 ^ v) (bb_fx hi h1), bb_xs]
      rw [e3, ih (by omega) h1 (fun j => p (2 ^ n + j))]
    · have e : v = n := by omega
      subst e
      have e3 : bb_cn (fun w => p (w ^^^ 2 ^ v)) (2 ^ v) = bb_cn (fun i => p (2 ^ v + i)) (2 ^ v) := by
        apply bb_cn_congr
        intro i hi
        show p (i ^^^ 2 ^ v) = p (2 ^ v + i)
        rw [bb_px v (by omega) i hi]
      have e4 : bb_cn (fun i => p ((2 ^ v + i) ^^^ 2 ^ v)) (2 ^ v) = bb_cn p (2 ^ v) := by
        apply bb_cn_congr
        intro i hi
        show p ((2 ^ v + i) ^^^ 2 ^ v) = p i
        rw [bb_px v (by omega) i hi, bb_xx]
      rw [e3, e4, Nat.add_comm]
theorem bb_cn_split (p q : Nat → Bool) (m : Nat) : bb_cn p m = bb_cn (fun w => p w && q w) m + bb_cn (fun w => p w && !q w) m := by
  induction m with
  | zero => rfl
  | succ m ih =>
    rw [bb_cn, bb_cn, bb_cn, ih]
    have e : (p m).toNat = (p m && q m).toNat + (p m && !q m).toNat := by
      cases p m <;> cases q m <;> rfl
    omega
theorem bb_cn_half {n v : Nat} (hn : n ≤ 6) (hv : v < n) (p : Nat → Bool) (h : ∀ w, w < 2 ^ n → p (w ^^^ 2 ^ v) = p w) : bb_cn p (2 ^ n) = 2 * bb_cn (fun w => p w && !w.testBit v) (2 ^ n) := by
  have e : bb_cn (fun w => p w && w.testBit v) (2 ^ n) = bb_cn (fun w => p w && !w.testBit v) (2 ^ n) := by
    rw [← bb_cn_flip hn hv (fun w => p w && !w.testBit v)]
    apply bb_cn_congr
    intro w hw
    show (p w && w.testBit v) = (p (w ^^^ 2 ^ v) && !(w ^^^ 2 ^ v).testBit v)
    rw [h w hw, bb_tx_eq, Bool.not_not]
  rw [bb_cn_split p (fun w => w.testBit v) (2 ^ n), e]
  omega
/-- a set that every free flip keeps has 2 ^ (free ones) worlds for each world without free ones -/
theorem bb_cn_free {n : Nat} (hn : n ≤ 6) (p : Nat → Bool) (o : Nat) (h : ∀ v, v < n → o.testBit v = true → ∀ w, w < 2 ^ n → p (w ^^^ 2 ^ v) = p w) :
    ∀ i, i ≤ n → bb_cn p (2 ^ n) = 2 ^ bb_pc i o * bb_cn (fun w => p w && !bb_ex (fun j => o.testBit j && w.testBit j) i) (2 ^ n) := by
  intro i
  induction i with
  | zero =>
    intro _
    show bb_cn p (2 ^ n) = 1 * bb_cn (fun w => p w && true) (2 ^ n)
    rw [Nat.one_mul]
    apply bb_cn_congr
    intro w _
    show p w = (p w && true)
    rw [Bool.and_true]
  | succ i ih =>
    intro hi
    rw [ih (by omega)]
    cases e : o.testBit i with
    | false =>
      have e1 : bb_pc (i + 1) o = bb_pc i o := by
        show bb_pc i o + (o.testBit i).toNat = _
        rw [e]; rfl
      rw [e1]
      congr 1
      apply bb_cn_congr
      intro w _
      show (p w && !bb_ex (fun j => o.testBit j && w.testBit j) i) = (p w && !(bb_ex (fun j => o.testBit j && w.testBit j) i || (o.testBit i && w.testBit i)))
      rw [e, Bool.false_and, Bool.or_false]
    | true =>
      have e1 : bb_pc (i + 1) o = bb_pc i o + 1 := by
        show bb_pc i o + (o.testBit i).toNat = _
        rw [e]; rfl
      rw [e1, Nat.pow_succ, Nat.mul_assoc]
      congr 1
      rw [bb_cn_half hn (v := i) (by omega) (fun w => p w && !bb_ex (fun j => o.testBit j && w.testBit j) i)]
      · congr 1
        apply bb_cn_congr
        intro w _
        show ((p w && !bb_ex (fun j => o.testBit j && w.testBit j) i) && !w.testBit i) = (p w && !(bb_ex (fun j => o.testBit j && w.testBit j) i || (o.testBit i && w.testBit i)))
        rw [e, Bool.true_and, Bool.not_or, Bool.and_assoc]
      · intro w hw
        show (p (w ^^^ 2 ^ i) && !bb_ex (fun j => o.testBit j && (w ^^^ 2 ^ i).testBit j) i) = (p w && !bb_ex (fun j => o.testBit j && w.testBit j) i)
        rw [h i (by omega) e w hw]
        congr 2
        apply bb_ex_congr
        intro j hj
        show (o.testBit j && (w ^^^ 2 ^ i).testBit j) = (o.testBit j && w.testBit j)
        rw [bb_tx_ne (Nat.ne_of_gt hj)]
end
section
/-! the count of bits by words, byte by byte -/
def bb_t (x : Int64) (i : Nat) : Bool := x.toBitVec.getLsbD i
theorem bb_t_uN (x : Int64) (i : Nat) : bb_t x i = (uN x).testBit i := rfl
def bo_m (c : Nat) : Nat → Nat
  | 0 => 0
  | k + 1 => c + 256 * bo_m c k
theorem bo_and (X c M : Nat) (hc : c < 256) : X &&& (c + 256 * M) = (X % 256 &&& c) + 256 * (X / 256 &&& M) := by
  have h1 : (X &&& (c + 256 * M)) % 2 ^ 8 = (X % 2 ^ 8 &&& c) := by
    rw [Nat.and_mod_two_pow, show (c + 256 * M) % 2 ^ 8 = c by omega]
  have h2 : (X &&& (c + 256 * M)) / 2 ^ 8 = (X / 2 ^ 8 &&& M) := by
    rw [Nat.and_div_two_pow, show (c + 256 * M) / 2 ^ 8 = M by omega]
  have h3 := Nat.div_add_mod (X &&& (c + 256 * M)) (2 ^ 8)
  rw [h1, h2] at h3
  exact h3.symm.trans (Nat.add_comm _ _)
def bo_1 (k x : Nat) : Nat := x - (x / 2 &&& bo_m 85 k)
def bo_2 (k x : Nat) : Nat := (x &&& bo_m 51 k) + (x / 4 &&& bo_m 51 k)
def bo_3 (k x : Nat) : Nat := (x + x / 16) &&& bo_m 15 k
theorem bo_t1 : ∀ e, e < 2 → ∀ a, a < 256 → ((a / 2 + 128 * e) &&& 85) = (a / 2 &&& 85) := by decide +kernel
theorem bo_t2 : ∀ e, e < 4 → ∀ a, a < 256 → ((a / 4 + 64 * e) &&& 51) = (a / 4 &&& 51) := by decide +kernel
theorem bo_t3 : ∀ e, e < 16 → ∀ a, a < 256 → ((a + a / 16 + 16 * e) &&& 15) = ((a + a / 16) &&& 15) := by decide +kernel
theorem bo_1s (k a b : Nat) (ha : a < 256) : bo_1 (k + 1) (a + 256 * b) = (a - (a / 2 &&& 85)) + 256 * bo_1 k b := by
  unfold bo_1
  rw [bo_m, bo_and _ _ _ (by decide)]
  have h1 : (a + 256 * b) / 2 % 256 = a / 2 + 128 * (b % 2) := by omega
  have h2 : (a + 256 * b) / 2 / 256 = b / 2 := by omega
  rw [h1, h2, bo_t1 (b % 2) (by omega) a ha]
  have h3 : (a / 2 &&& 85) ≤ a / 2 := Nat.and_le_left
  have h4 : (b / 2 &&& bo_m 85 k) ≤ b / 2 := Nat.and_le_left
  generalize (a / 2 &&& 85) = p at *
  generalize (b / 2 &&& bo_m 85 k) = q at *
  clear h1 h2
  omega
theorem bo_2s (k a b : Nat) (ha : a < 256) : bo_2 (k + 1) (a + 256 * b) = ((a &&& 51) + (a / 4 &&& 51)) + 256 * bo_2 k b := by
  unfold bo_2
  rw [bo_m, bo_and _ _ _ (by decide), bo_and _ _ _ (by decide)]
  have h0 : (a + 256 * b) % 256 = a := by omega
  have h00 : (a + 256 * b) / 256 = b := by omega
  have h1 : (a + 256 * b) / 4 % 256 = a / 4 + 64 * (b % 4) := by omega
  have h2 : (a + 256 * b) / 4 / 256 = b / 4 := by omega
  rw [h0, h00, h1, h2, bo_t2 (b % 4) (by omega) a ha]
  generalize (a &&& 51) = p1
  generalize (a / 4 &&& 51) = p2
  generalize (b &&& bo_m 51 k) = p3
  generalize (b / 4 &&& bo_m 51 k) = p4
  clear h0 h00 h1 h2
  omega
theorem bo_3s (k a b : Nat) (h1 : a % 16 ≤ 4) (h2 : a / 16 ≤ 4) (h3 : b % 16 ≤ 4) : bo_3 (k + 1) (a + 256 * b) = ((a + a / 16) &&& 15) + 256 * bo_3 k b := by
  unfold bo_3
  rw [bo_m, bo_and _ _ _ (by decide)]
  have h4 : (a + 256 * b + (a + 256 * b) / 16) % 256 = a + a / 16 + 16 * (b % 16) := by omega
  have h5 : (a + 256 * b + (a + 256 * b) / 16) / 256 = b + b / 16 := by omega
  rw [h4, h5, bo_t3 (b % 16) (by omega) a (by omega)]
def bo_a1 (a : Nat) : Nat := a - (a / 2 &&& 85)
def bo_a2 (a : Nat) : Nat := (bo_a1 a &&& 51) + (bo_a1 a / 4 &&& 51)
def bo_a3 (a : Nat) : Nat := (bo_a2 a + bo_a2 a / 16) &&& 15
theorem bo_ta : ∀ a, a < 256 → bo_a1 a < 256 ∧ bo_a2 a % 16 ≤ 4 ∧ bo_a2 a / 16 ≤ 4 := by decide +kernel
theorem bo_tb : ∀ a, a < 256 → bo_a3 a = bb_pc 8 a := by decide +kernel
theorem bo_dm (x : Nat) : x = x % 256 + 256 * (x / 256) := by omega
theorem bo_12 (k x : Nat) : bo_2 (k + 1) (bo_1 (k + 1) x) = bo_a2 (x % 256) + 256 * bo_2 k (bo_1 k (x / 256)) := by
  have e : bo_1 (k + 1) x = bo_a1 (x % 256) + 256 * bo_1 k (x / 256) := by
    have e := bo_1s k (x % 256) (x / 256) (Nat.mod_lt _ (by decide))
    rw [← bo_dm x] at e
    exact e
  rw [e]
  exact bo_2s k (bo_a1 (x % 256)) (bo_1 k (x / 256)) (bo_ta _ (Nat.mod_lt _ (by decide))).1
theorem bo_low (k x : Nat) : bo_2 k (bo_1 k x) % 16 ≤ 4 := by
  cases k with
  | zero =>
    have e : bo_2 0 (bo_1 0 x) = 0 := by
      unfold bo_2
      rw [bo_m, Nat.and_zero, Nat.and_zero]
    rw [e]
    decide
  | succ k =>
    rw [bo_12]
    have h := (bo_ta (x % 256) (Nat.mod_lt _ (by decide))).2.1
    omega
def bo_F (k x : Nat) : Nat := bo_3 k (bo_2 k (bo_1 k x))
theorem bo_F0 (x : Nat) : bo_F 0 x = 0 := by
  unfold bo_F bo_3
  rw [bo_m, Nat.and_zero]
theorem bo_Fs (k x : Nat) : bo_F (k + 1) x = bb_pc 8 (x % 256) + 256 * bo_F k (x / 256) := by
  have ha := bo_ta (x % 256) (Nat.mod_lt _ (by decide))
  unfold bo_F
  rw [bo_12, bo_3s k _ _ ha.2.1 ha.2.2 (bo_low k _), ← bo_tb (x % 256) (Nat.mod_lt _ (by decide))]
  rfl
theorem bo_cs (k x : Nat) : bb_cn (fun i => x.testBit i) (8 + k) = bb_pc 8 (x % 256) + bb_cn (fun i => (x / 256).testBit i) k := by
  rw [bb_cn_add]
  congr 1
  · apply bb_cn_congr
    intro i hi
    show x.testBit i = (x % 2 ^ 8).testBit i
    rw [Nat.testBit_mod_two_pow, decide_eq_true hi, Bool.true_and]
  · apply bb_cn_congr
    intro i _
    show x.testBit (8 + i) = (x / 2 ^ 8).testBit i
    rw [Nat.testBit_div_two_pow, Nat.add_comm]
theorem bo_mul {h s l : Nat} (hs : s ≤ 64) (hl : l < 72057594037927936) : (h * 18446744073709551616 + (s * 72057594037927936 + l)) % 18446744073709551616 / 72057594037927936 = s := by
  omega
theorem bo_fin (c0 c1 c2 c3 c4 c5 c6 c7 : Nat) (h0 : c0 ≤ 8) (h1 : c1 ≤ 8) (h2 : c2 ≤ 8) (h3 : c3 ≤ 8) (h4 : c4 ≤ 8) (h5 : c5 ≤ 8) (h6 : c6 ≤ 8) (h7 : c7 ≤ 8) :
    ((c0 + 256 * (c1 + 256 * (c2 + 256 * (c3 + 256 * (c4 + 256 * (c5 + 256 * (c6 + 256 * c7))))))) * 72340172838076673) % 18446744073709551616 / 72057594037927936 = c0 + c1 + c2 + c3 + c4 + c5 + c6 + c7 := by
  have e : (c0 + 256 * (c1 + 256 * (c2 + 256 * (c3 + 256 * (c4 + 256 * (c5 + 256 * (c6 + 256 * c7))))))) * 72340172838076673
      = ((c1 + c2 + c3 + c4 + c5 + c6 + c7) + 256 * ((c2 + c3 + c4 + c5 + c6 + c7) + 256 * ((c3 + c4 + c5 + c6 + c7) + 256 * ((c4 + c5 + c6 + c7) + 256 * ((c5 + c6 + c7) + 256 * ((c6 + c7) + 256 * c7)))))) * 18446744073709551616
        + ((c0 + c1 + c2 + c3 + c4 + c5 + c6 + c7) * 72057594037927936
          + (c0 + 256 * ((c0 + c1) + 256 * ((c0 + c1 + c2) + 256 * ((c0 + c1 + c2 + c3) + 256 * ((c0 + c1 + c2 + c3 + c4) + 256 * ((c0 + c1 + c2 + c3 + c4 + c5) + 256 * (c0 + c1 + c2 + c3 + c4 + c5 + c6)))))))) := by
    omega
  rw [e]
  exact bo_mul (by omega) (by omega)
theorem bo_all (x : Nat) : (bo_F 8 x * 72340172838076673) % 18446744073709551616 / 72057594037927936 = bb_cn (fun i => x.testBit i) 64 := by
  have e : bb_cn (fun i => x.testBit i) 64 = bb_cn (fun i => x.testBit i) (8 + (8 + (8 + (8 + (8 + (8 + (8 + (8 + 0)))))))) := rfl
  rw [e]
  simp only [bo_cs, bo_Fs, bo_F0]
  show _ = _ + (_ + (_ + (_ + (_ + (_ + (_ + (_ + 0)))))))
  generalize g0 : bb_pc 8 (x % 256) = c0
  generalize g1 : bb_pc 8 (x / 256 % 256) = c1
  generalize g2 : bb_pc 8 (x / 256 / 256 % 256) = c2
  generalize g3 : bb_pc 8 (x / 256 / 256 / 256 % 256) = c3
  generalize g4 : bb_pc 8 (x / 256 / 256 / 256 / 256 % 256) = c4
  generalize g5 : bb_pc 8 (x / 256 / 256 / 256 / 256 / 256 % 256) = c5
  generalize g6 : bb_pc 8 (x / 256 / 256 / 256 / 256 / 256 / 256 % 256) = c6
  generalize g7 : bb_pc 8 (x / 256 / 256 / 256 / 256 / 256 / 256 / 256 % 256) = c7
  have b0 : c0 ≤ 8 := by rw [← g0]; exact bb_pc_le _ _
  have b1 : c1 ≤ 8 := by rw [← g1]; exact bb_pc_le _ _
  have b2 : c2 ≤ 8 := by rw [← g2]; exact bb_pc_le _ _
  have b3 : c3 ≤ 8 := by rw [← g3]; exact bb_pc_le _ _
  have b4 : c4 ≤ 8 := by rw [← g4]; exact bb_pc_le _ _
  have b5 : c5 ≤ 8 := by rw [← g5]; exact bb_pc_le _ _
  have b6 : c6 ≤ 8 := by rw [← g6]; exact bb_pc_le _ _
  have b7 : c7 ≤ 8 := by rw [← g7]; exact bb_pc_le _ _
  rw [Nat.mul_zero, Nat.add_zero, bo_fin c0 c1 c2 c3 c4 c5 c6 c7 b0 b1 b2 b3 b4 b5 b6 b7]
  simp only [Nat.add_assoc, Nat.add_zero]
/-! the same on longs -/
theorem bo_uand (x y : Int64) : uN (x &&& y) = (uN x &&& uN y) := UInt64.toNat_and _ _
theorem bo_usub {x y : Int64} (h : uN y ≤ uN x) : uN (x - y) = uN x - uN y := by
  have e : uN (x - y) = (18446744073709551616 - uN y + uN x) % 18446744073709551616 := UInt64.toNat_sub _ _
  have h1 := uN_lt x
  have h2 := uN_lt y
  omega
theorem bo_s1 (x : Int64) : uN (x.toUInt64 >>> ((1 : Int32).toInt64.toUInt64 &&& Int64.toUInt64 63)).toInt64 = uN x / 2 := by
  have h : ((1 : Int32).toInt64.toUInt64 &&& Int64.toUInt64 63).toNat % 64 = 1 := by decide
  rw [uN_shr, h]
theorem bo_s2 (x : Int64) : uN (x.toUInt64 >>> ((2 : Int32).toInt64.toUInt64 &&& Int64.toUInt64 63)).toInt64 = uN x / 4 := by
  have h : ((2 : Int32).toInt64.toUInt64 &&& Int64.toUInt64 63).toNat % 64 = 2 := by decide
  rw [uN_shr, h]
theorem bo_s4 (x : Int64) : uN (x.toUInt64 >>> ((4 : Int32).toInt64.toUInt64 &&& Int64.toUInt64 63)).toInt64 = uN x / 16 := by
  have h : ((4 : Int32).toInt64.toUInt64 &&& Int64.toUInt64 63).toNat % 64 = 4 := by decide
  rw [uN_shr, h]
theorem bo_s56 (x : Int64) : uN (x.toUInt64 >>> ((56 : Int32).toInt64.toUInt64 &&& Int64.toUInt64 63)).toInt64 = uN x / 72057594037927936 := by
  have h : ((56 : Int32).toInt64.toUInt64 &&& Int64.toUInt64 63).toNat % 64 = 56 := by decide
  rw [uN_shr, h]
theorem bo_m85 : uN 6148914691236517205 = bo_m 85 8 := by decide +kernel
theorem bo_m51 : uN 3689348814741910323 = bo_m 51 8 := by decide +kernel
theorem bo_m15 : uN 1085102592571150095 = bo_m 15 8 := by decide +kernel
theorem bo_mK : uN 72340172838076673 = 72340172838076673 := by decide +kernel
theorem bo_n51 : bo_m 51 8 = 3689348814741910323 := by decide +kernel
theorem bx_ones {post : Int32 → Prop} {x : Int64} (h : post (nI (bb_cn (bb_t x) 64))) : wpX_ones post x := by
  unfold wpX_ones
  intro y1 e1 y2 e2 y3 e3
  have u1 : uN y1 = bo_1 8 (uN x) := by
    have q : uN (((x.toUInt64 >>> ((1 : Int32).toInt64.toUInt64 &&& Int64.toUInt64 63)).toInt64) &&& 6148914691236517205) = (uN x / 2 &&& bo_m 85 8) := by
      rw [bo_uand, bo_s1, bo_m85]
    have q2 : (uN x / 2 &&& bo_m 85 8) ≤ uN x / 2 := Nat.and_le_left
    rw [e1, bo_usub (by rw [q]; exact Nat.le_trans q2 (Nat.div_le_self _ _)), q]
    rfl
  have u2 : uN y2 = bo_2 8 (uN y1) := by
    have a1 : (uN y1 &&& bo_m 51 8) ≤ bo_m 51 8 := Nat.and_le_right
    have a2 : (uN y1 / 4 &&& bo_m 51 8) ≤ bo_m 51 8 := Nat.and_le_right
    rw [e2, uN_add, bo_uand, bo_uand, bo_s2, bo_m51]
    rw [bo_n51] at a1 a2
    rw [Nat.mod_eq_of_lt]
    · rfl
    · rw [bo_n51]
      exact Nat.lt_of_le_of_lt (Nat.add_le_add a1 a2) (by decide)
  have b2 : uN y2 ≤ 7378697629483820646 := by
    have a1 : (uN y1 &&& bo_m 51 8) ≤ bo_m 51 8 := Nat.and_le_right
    have a2 : (uN y1 / 4 &&& bo_m 51 8) ≤ bo_m 51 8 := Nat.and_le_right
    rw [u2]
    rw [bo_n51] at a1 a2
    unfold bo_2
    rw [bo_n51]
    exact Nat.add_le_add a1 a2
  have u3 : uN y3 = bo_3 8 (uN y2) := by
    rw [e3, bo_uand, uN_add, bo_s4, bo_m15, Nat.mod_eq_of_lt]
    · rfl
    · omega
  have u4 : (y3 * 72340172838076673).toUInt64.toNat = (bo_F 8 (uN x) * 72340172838076673) % 18446744073709551616 := by
    have q := uN_mul y3 72340172838076673
    rw [bo_mK, u3, u2, u1] at q
    exact q
  have u5 : ((y3 * 72340172838076673).toUInt64 >>> ((56 : Int32).toInt64.toUInt64 &&& Int64.toUInt64 63)).toInt64 = lN (bb_cn (bb_t x) 64) := by
    apply uN_inj
    rw [bo_s56]
    have c : bb_cn (bb_t x) 64 ≤ 64 := bb_cn_le _ _
    have q : uN (lN (bb_cn (bb_t x) 64)) = bb_cn (bb_t x) 64 := wb_tn (by omega)
    rw [q]
    have r := bo_all (uN x)
    rw [← u4] at r
    exact r
  rw [u5, lN_i]
  exact h
end
section
/-! longs by their bits -/
theorem bb_t_ext {x y : Int64} (h : ∀ i, i < 64 → bb_t x i = bb_t y i) : x = y := Int64.toBitVec_inj.mp (BitVec.eq_of_getLsbD_eq (fun i hi => h i hi))
theorem bb_t_or (x y : Int64) (i : Nat) : bb_t (x ||| y) i = (bb_t x i || bb_t y i) := by unfold bb_t; rw [Int64.toBitVec_or, BitVec.getLsbD_or]
theorem bb_t_and (x y : Int64) (i : Nat) : bb_t (x &&& y) i = (bb_t x i && bb_t y i) := by unfold bb_t; rw [Int64.toBitVec_and, BitVec.getLsbD_and]
theorem bb_t_xor (x y : Int64) (i : Nat) : bb_t (x ^^^ y) i = (bb_t x i ^^ bb_t y i) := by unfold bb_t; rw [Int64.toBitVec_xor, BitVec.getLsbD_xor]
theorem bb_t_big {x : Int64} {i : Nat} (h : 64 ≤ i) : bb_t x i = false := BitVec.getLsbD_of_ge _ _ h
theorem bb_t_m1 : ∀ i, i < 64 → bb_t (-1) i = true := by decide +kernel
theorem bb_t_not (x : Int64) {i : Nat} (hi : i < 64) : bb_t (x ^^^ (-1)) i = !bb_t x i := by rw [bb_t_xor, bb_t_m1 i hi, Bool.xor_true]
theorem bb_t_0 (i : Nat) : bb_t 0 i = false := BitVec.getLsbD_zero
theorem bb_t_z {x : Int64} : x = 0 ↔ ∀ i, i < 64 → bb_t x i = false :=
  ⟨fun h i _ => by rw [h]; exact bb_t_0 i, fun h => bb_t_ext (fun i hi => by rw [h i hi, bb_t_0])⟩
theorem bb_t_nz {x : Int64} (h : ¬ x = 0) : ∃ i, i < 64 ∧ bb_t x i = true := by
  cases e : bb_ex (bb_t x) 64 with
  | true => exact (bb_ex_iff _ _).mp e
  | false => exact absurd (bb_t_z.mpr (bb_ex_f.mp e)) h
theorem bb_sl : ∀ k, k < 64 → (((nI k).toInt64 &&& 63).toBitVec.smod 64).toNat = k := by decide +kernel
theorem bb_t_shl (x : Int64) {k i : Nat} (hk : k < 64) (hi : i < 64) : bb_t (x <<< ((nI k).toInt64 &&& 63)) i = (decide (k ≤ i) && bb_t x (i - k)) := by
  unfold bb_t
  rw [Int64.toBitVec_shiftLeft]
  show (x.toBitVec <<< (((nI k).toInt64 &&& 63).toBitVec.smod 64).toNat).getLsbD i = _
  rw [bb_sl k hk, BitVec.getLsbD_shiftLeft]
  rcases Nat.lt_or_ge i k with h | h
  · simp [h, Nat.not_le.mpr h]
  · simp [hi, h, Nat.not_lt.mpr h]
theorem bb_t_shr (x : Int64) {k : Nat} (hk : k < 64) (i : Nat) : bb_t ((x.toUInt64 >>> ((nI k).toInt64.toUInt64 &&& Int64.toUInt64 63)).toInt64) i = bb_t x (k + i) := by
  rw [bb_t_uN, uN_sk x hk, Nat.testBit_div_two_pow, Nat.add_comm]
  rfl
theorem bb_one : ∀ i, i < 64 → bb_t 1 i = decide (i = 0) := by decide +kernel
theorem bb_a1 (y : Int64) : (y &&& 1) = 1 ↔ bb_t y 0 = true := by
  constructor
  · intro h
    have k : bb_t (y &&& 1) 0 = bb_t 1 0 := by rw [h]
    rw [bb_t_and, bb_one 0 (by decide)] at k
    simpa using k
  · intro h
    apply bb_t_ext
    intro i hi
    rw [bb_t_and, bb_one i hi]
    by_cases c : i = 0
    · subst c
      rw [h]
      rfl
    · rw [decide_eq_false c, Bool.and_false]
/-- no world from 2 ^ n on -/
def bb_W (n : Nat) (x : Int64) : Prop := ∀ w, 2 ^ n ≤ w → bb_t x w = false
def bb_A (n : Nat) (al : Int64) : Prop := ∀ w, w < 64 → bb_t al w = decide (w < 2 ^ n)
def bb_Z (Z : Nat → Int64) : Prop := ∀ v, v < 6 → ∀ w, w < 64 → bb_t (Z v) w = !w.testBit v
theorem bb_W_and {n : Nat} {x y : Int64} (h : bb_W n y) : bb_W n (x &&& y) := fun w hw => by rw [bb_t_and, h w hw, Bool.and_false]
theorem bb_W_or {n : Nat} {x y : Int64} (h1 : bb_W n x) (h : bb_W n y) : bb_W n (x ||| y) := fun w hw => by rw [bb_t_or, h w hw, h1 w hw]; rfl
theorem bb_W_of {n : Nat} {x : Int64} (h : ∀ w, w < 64 → 2 ^ n ≤ w → bb_t x w = false) : bb_W n x := by
  intro w hw
  rcases Nat.lt_or_ge w 64 with h1 | h1
  · exact h w h1 hw
  · exact bb_t_big h1
theorem bb_W_lt {n w : Nat} {x : Int64} (h : bb_W n x) (e : bb_t x w = true) : w < 2 ^ n := by
  rcases Nat.lt_or_ge w (2 ^ n) with h1 | h1
  · exact h1
  · rw [h w h1] at e
    cases e
theorem bb_A_W {n : Nat} {al : Int64} (h : bb_A n al) : bb_W n al :=
  bb_W_of (fun w hw h1 => by rw [h w hw]; exact decide_eq_false (Nat.not_lt.mpr h1))
theorem bb_W_all {n : Nat} {al x : Int64} (h : bb_A n al) : bb_W n (al &&& x) := fun w hw => by rw [bb_t_and, bb_A_W h w hw]; rfl
theorem bb_tab : ∀ v, v < 6 → ∀ w, w < 64 → (w.testBit v = true → 2 ^ v ≤ w ∧ w - 2 ^ v = w ^^^ 2 ^ v ∧ (w - 2 ^ v).testBit v = false) ∧ (w.testBit v = false → 2 ^ v + w = w ^^^ 2 ^ v ∧ (2 ^ v ≤ w → (w - 2 ^ v).testBit v = true)) := by decide +kernel
theorem bb_v64 {v : Nat} (hv : v < 6) : 2 ^ v < 64 := Nat.pow_lt_pow_right (by decide) hv
theorem bb_up {Z : Nat → Int64} (hz : bb_Z Z) {v w : Nat} (hv : v < 6) (hw : w < 64) (x : Int64) : bb_t ((x &&& Z v) <<< ((nI (2 ^ v)).toInt64 &&& 63)) w = (w.testBit v && bb_t x (w ^^^ 2 ^ v)) := by
  rw [bb_t_shl _ (bb_v64 hv) hw, bb_t_and, hz v hv _ (Nat.lt_of_le_of_lt (Nat.sub_le _ _) hw)]
  have T := bb_tab v hv w hw
  cases e : w.testBit v with
  | true =>
    obtain ⟨a, b, c⟩ := T.1 e
    rw [decide_eq_true a, c, b]
    simp
  | false =>
    obtain ⟨_, q⟩ := T.2 e
    by_cases c : 2 ^ v ≤ w
    · rw [q c]
      simp
    · rw [decide_eq_false c]
      simp
theorem bb_dn {Z : Nat → Int64} (hz : bb_Z Z) {v w : Nat} (hv : v < 6) (hw : w < 64) (x : Int64) : bb_t (((x.toUInt64 >>> ((nI (2 ^ v)).toInt64.toUInt64 &&& Int64.toUInt64 63)).toInt64) &&& Z v) w = (!w.testBit v && bb_t x (w ^^^ 2 ^ v)) := by
  rw [bb_t_and, bb_t_shr x (bb_v64 hv), hz v hv w hw]
  have T := bb_tab v hv w hw
  cases e : w.testBit v with
  | true => simp
  | false =>
    rw [(T.2 e).1]
    simp
theorem bb_1v : ∀ v, v < 7 → (1 : Int32) <<< (nI v &&& 31) = nI (2 ^ v) := by decide +kernel
theorem bb_bit : ∀ w, w < 64 → ∀ v, v < 6 → ((nI w >>> (nI v &&& 31)) &&& 1) = bb_i (w.testBit v) := by decide +kernel
theorem bb_md : ∀ w, w < 64 → ∀ i, i < 6 → (w.testBit i = true → w % 2 ^ (i + 1) = 2 ^ i ^^^ (w % 2 ^ i)) ∧ (w.testBit i = false → w % 2 ^ (i + 1) = w % 2 ^ i) := by decide +kernel
/-! ints out of a range, or a number below it -/
theorem bb_bel (x : Int32) : (x < 0 ∨ (¬ x < 0 ∧ 2 < x ∧ ¬ x ≤ 2)) ∨ ∃ b : Nat, b < 3 ∧ x = nI b := by
  by_cases h : x < 0
  · exact Or.inl (Or.inl h)
  · obtain ⟨j, hj, rfl⟩ := nI_of h
    by_cases c : j < 3
    · exact Or.inr ⟨j, c, rfl⟩
    · exact Or.inl (Or.inr ⟨h, nI_lt (a := 2) (by omega) hj, nI_ge (a := 2) (by omega) hj⟩)
theorem bb_dic (x : Int32) {N : Nat} (hN : N < 2 ^ 31) : (x < 0 ∨ (¬ x < 0 ∧ nI N ≤ x ∧ ¬ x < nI N)) ∨ ∃ b : Nat, b < N ∧ x = nI b := by
  by_cases h : x < 0
  · exact Or.inl (Or.inl h)
  · obtain ⟨j, hj, rfl⟩ := nI_of h
    by_cases c : j < N
    · exact Or.inr ⟨j, c, rfl⟩
    · exact Or.inl (Or.inr ⟨h, nI_le (by omega) hj, nI_nlt (by omega) hj⟩)
theorem bb_pred {d : Nat} (h : 0 < d) : nI d - 1 = nI (d - 1) := by
  obtain ⟨e, rfl⟩ : ∃ e, d = e + 1 := ⟨d - 1, by omega⟩
  exact nI_pred e
theorem bb_np {n : Nat} (h : n ≤ 6) : 2 ^ n < 2 ^ 31 := Nat.lt_of_le_of_lt (bb_64 h) (by decide)
theorem bb_xge {n v w : Nat} (hv : v < n) (hw : 2 ^ n ≤ w) : 2 ^ n ≤ w ^^^ 2 ^ v := by
  rcases Nat.lt_or_ge (w ^^^ 2 ^ v) (2 ^ n) with h | h
  · have q := bb_fx h hv
    rw [bb_xx] at q
    exact absurd q (Nat.not_lt.mpr hw)
  · exact h
theorem bb_W_sw {n v : Nat} {x r : Int64} (hv : v < n) (hx : bb_W n x) (hr : ∀ w, w < 64 → bb_t r w = bb_t x (w ^^^ 2 ^ v)) : bb_W n r :=
  bb_W_of (fun w hw h2 => by rw [hr w hw]; exact hx _ (bb_xge hv h2))
end
section
/-! X's small methods and its loops over the variables -/
section
variable {n d : Nat} {al : Int64} {B S Z A C : Nat → Int64}
theorem bx_isB {post : Int32 → Prop} {b : Nat} (hb : b < 3) (h : post 1) : wpX_isBelief post (nI b) := by
  unfold wpX_isBelief
  exact br_f (nI_pos (by omega)) (br_f (nI_nlt (a := 2) (by omega) (by decide)) h)
theorem bx_isB_bad {post : Int32 → Prop} {x : Int32} (hx : x < 0 ∨ (¬ x < 0 ∧ 2 < x ∧ ¬ x ≤ 2)) (h : post 0) : wpX_isBelief post x := by
  unfold wpX_isBelief
  rcases hx with hx | hx
  · exact br_t hx h
  · exact br_f hx.1 (br_t hx.2.1 h)
theorem bx_isV {post : Int32 → Prop} {v : Nat} (hn : n ≤ 6) (hv : v < n) (h : post 1) : wpX_isVar post (nI n, nI d, nI (2 ^ n), al, B, S, Z, A, C) (nI v) := by
  unfold wpX_isVar
  exact br_f (nI_pos (by omega)) (br_f (nI_ge hv (by omega)) h)
theorem bx_isV_bad {post : Int32 → Prop} {x : Int32} (hx : x < 0 ∨ (¬ x < 0 ∧ nI n ≤ x ∧ ¬ x < nI n)) (h : post 0) : wpX_isVar post (nI n, nI d, nI (2 ^ n), al, B, S, Z, A, C) x := by
  unfold wpX_isVar
  rcases hx with hx | hx
  · exact br_t hx h
  · exact br_f hx.1 (br_t hx.2.1 h)
theorem bx_isW {post : Int32 → Prop} {v : Nat} (hn : n ≤ 6) (hv : v < 2 ^ n) (h : post 1) : wpX_isWorld post (nI n, nI d, nI (2 ^ n), al, B, S, Z, A, C) (nI v) := by
  have h64 := bb_64 hn
  unfold wpX_isWorld
  exact br_f (nI_pos (by omega)) (br_f (nI_ge hv (by omega)) h)
theorem bx_isW_bad {post : Int32 → Prop} {x : Int32} (hx : x < 0 ∨ (¬ x < 0 ∧ nI (2 ^ n) ≤ x ∧ ¬ x < nI (2 ^ n))) (h : post 0) : wpX_isWorld post (nI n, nI d, nI (2 ^ n), al, B, S, Z, A, C) x := by
  unfold wpX_isWorld
  rcases hx with hx | hx
  · exact br_t hx h
  · exact br_f hx.1 (br_t hx.2.1 h)
theorem bx_has {post : Int32 → Prop} {x : Int64} {w : Nat} (hw : w < 64) (h : post (bb_i (bb_t x w))) : wpX_has post x (nI w) := by
  unfold wpX_has
  have e : (((x.toUInt64 >>> ((nI w).toInt64.toUInt64 &&& Int64.toUInt64 63)).toInt64) &&& 1) = 1 ↔ bb_t x w = true := by
    rw [bb_a1, bb_t_shr x hw, Nat.add_zero]
  cases c : bb_t x w with
  | true =>
    rw [c] at h
    exact br_t (e.mpr c) h
  | false =>
    rw [c] at h
    exact br_f (fun z => by rw [e.mp z] at c; cases c) h
theorem bx_pop {post : Int64 → SX → Prop} (h0 : 0 < d) (h8 : d ≤ 8) (h : post (S (d - 1)) (nI n, nI (d - 1), nI (2 ^ n), al, B, S, Z, A, C)) : wpX_pop post (nI n, nI d, nI (2 ^ n), al, B, S, Z, A, C) := by
  unfold wpX_pop
  dsimp only
  refine nm_r (bb_pred h0) ⟨vp_in_nI (by omega) (by omega), ?_⟩
  rw [nI_clamp (by omega)]
  exact h
theorem bx_become {post : Int32 → SX → Prop} {b : Nat} {r : Int64} (hb : b < 3) (h : post (nI (bb_cn (bb_t r) 64)) (nI n, nI d, nI (2 ^ n), al, vp_updL B b r, S, Z, A, C)) : wpX_become post (nI n, nI d, nI (2 ^ n), al, B, S, Z, A, C) (nI b) r := by
  unfold wpX_become
  dsimp only
  refine ⟨vp_in_nI hb (by omega), ?_⟩
  rw [nI_clamp (by omega)]
  exact nm_e (bx_ones h)
theorem bx_swapped {post : Int64 → Prop} (hz : bb_Z Z) {x : Int64} {v : Nat} (hv : v < 6) (h : ∀ r, (∀ w, w < 64 → bb_t r w = bb_t x (w ^^^ 2 ^ v)) → post r) : wpX_swapped post (nI n, nI d, nI (2 ^ n), al, B, S, Z, A, C) x (nI v) := by
  unfold wpX_swapped
  dsimp only
  intro s es
  have e1 : s = nI (2 ^ v) := by rw [es]; exact bb_1v v (by omega)
  subst e1
  have hin : vp_in (nI v) 6 := vp_in_nI hv (by omega)
  refine ⟨hin, hin, h _ ?_⟩
  intro w hw
  rw [nI_clamp (by omega), bb_t_or, bb_up hz hv hw, bb_dn hz hv hw]
  cases w.testBit v <;> simp
theorem bx_grown {post : Int64 → Prop} (hz : bb_Z Z) (hn : n ≤ 6) {x : Int64} (h : ∀ r, (∀ w, w < 64 → bb_t r w = (bb_t x w || bb_ex (fun v => bb_t x (w ^^^ 2 ^ v)) n)) → post r) : wpX_grownOnce post (nI n, nI d, nI (2 ^ n), al, B, S, Z, A, C) x := by
  unfold wpX_grownOnce
  dsimp only
  refine loop_0 (fun m i s => wX_grownOnce_5 post x (nI n) (nI d) (nI (2 ^ n)) al B S Z A C m s (nI i)) (fun i s => ∀ w, w < 64 → bb_t s w = (bb_t x w || bb_ex (fun v => bb_t x (w ^^^ 2 ^ v)) i)) n x ?_ ?_ ?_
  · intro w _
    show bb_t x w = (bb_t x w || false)
    rw [Bool.or_false]
  · intro m s hI
    exact br_t (Int32.le_refl _) (h s hI)
  · intro m i s hi hI K
    refine br_f (nI_ge hi (by omega)) (bx_swapped hz (by omega) fun r hr => nm_e (nm_r (nI_1 i) (K _ ?_)))
    intro w hw
    rw [bb_t_or, hI w hw, hr w hw, Bool.or_assoc]
    rfl
theorem bx_shifted {post : Int64 → Prop} (hz : bb_Z Z) (hn : n ≤ 6) {x : Int64} {w : Nat} (hw : w < 2 ^ n) (h : ∀ r, (∀ y, y < 64 → bb_t r y = bb_t x (y ^^^ w)) → post r) : wpX_shifted post (nI n, nI d, nI (2 ^ n), al, B, S, Z, A, C) x (nI w) := by
  unfold wpX_shifted
  dsimp only
  have h64 := bb_64 hn
  refine loop_0 (fun m i s => wX_shifted_6 post (nI w) (nI n) (nI d) (nI (2 ^ n)) al B S Z A C m s (nI i)) (fun i s => ∀ y, y < 64 → bb_t s y = bb_t x (y ^^^ (w % 2 ^ i))) n x ?_ ?_ ?_
  · intro y _
    show bb_t x y = bb_t x (y ^^^ (w % 2 ^ 0))
    rw [Nat.pow_zero, Nat.mod_one, Nat.xor_zero]
  · intro m s hI
    refine br_t (Int32.le_refl _) (h s (fun y hy => ?_))
    have q := hI y hy
    rw [Nat.mod_eq_of_lt hw] at q
    exact q
  · intro m i s hi hI K
    refine br_f (nI_ge hi (by omega)) ?_
    have hb := bb_bit w (by omega) i (by omega)
    have ht := bb_md w (by omega) i (by omega)
    cases c : w.testBit i with
    | true =>
      rw [c] at hb
      refine br_t hb (bx_swapped hz (by omega) fun r hr => nm_r (nI_1 i) (K r ?_))
      intro y hy
      rw [hr y hy, hI _ (bb_fx (n := 6) hy (by omega)), ht.1 c, ← Nat.xor_assoc]
    | false =>
      rw [c] at hb
      refine br_f (by rw [hb]; decide) (nm_r (nI_1 i) (K s ?_))
      intro y hy
      rw [hI y hy, ht.2 c]
theorem bx_min43 {post : Int64 → Prop} (hz : bb_Z Z) (hn : n ≤ 6) {x up : Int64} (h : ∀ r, (∀ y, y < 64 → bb_t r y = (bb_t x y && !bb_ex (fun v => y.testBit v && bb_t up (y ^^^ 2 ^ v)) n)) → post r) : ∃ m, wX_minimal_43 post x up (nI n) (nI d) (nI (2 ^ n)) al B S Z A C m 0 0 := by
  refine loop_0 (fun m i s => wX_minimal_43 post x up (nI n) (nI d) (nI (2 ^ n)) al B S Z A C m s (nI i)) (fun i s => ∀ y, y < 64 → bb_t s y = bb_ex (fun v => y.testBit v && bb_t up (y ^^^ 2 ^ v)) i) n 0 ?_ ?_ ?_
  · intro y _
    exact bb_t_0 y
  · intro m s hI
    refine br_t (Int32.le_refl _) (h _ (fun y hy => ?_))
    rw [bb_t_and, bb_t_not _ hy, hI y hy]
  · intro m i s hi hI K
    refine br_f (nI_ge hi (by omega)) ⟨vp_in_nI (by omega) (by omega), ?_⟩
    rw [bb_1v i (by omega), nI_clamp (by omega)]
    refine nm_e (nm_r (nI_1 i) (K _ ?_))
    intro y hy
    rw [bb_t_or, hI y hy, bb_up hz (by omega) hy]
    rfl
theorem bx_minimal {post : Int64 → Prop} (hz : bb_Z Z) (hn : n ≤ 6) {x : Int64} (h : ∀ r, (∀ y, y < 64 → bb_t r y = true → bb_t x y = true) → (∀ y, y < 2 ^ n → (bb_t r y = true ↔ bb_t x y = true ∧ ¬ ∃ z, z < 2 ^ n ∧ bb_t x z = true ∧ z ≠ y ∧ z &&& y = z)) → post r) : wpX_minimal post (nI n, nI d, nI (2 ^ n), al, B, S, Z, A, C) x := by
  unfold wpX_minimal
  dsimp only
  have h64 := bb_64 hn
  refine loop_0 (fun m i s => wX_minimal_5 post x (nI n) (nI d) (nI (2 ^ n)) al B S Z A C m s (nI i)) (fun i s => ∀ y, y < 2 ^ n → (bb_t s y = true ↔ ∃ z, z < 2 ^ n ∧ bb_t x z = true ∧ bb_U i y z)) n x ?_ ?_ ?_
  · intro y hy
    constructor
    · intro e
      exact ⟨y, hy, e, bb_U_0.mpr rfl⟩
    · rintro ⟨z, hz, e, u⟩
      rw [← bb_U_0.mp u]
      exact e
  · intro m s hI
    refine br_t (Int32.le_refl _) (bx_min43 hz hn fun r hr => h r ?_ ?_)
    · intro y hy e
      rw [hr y hy, Bool.and_eq_true] at e
      exact e.1
    · intro y hy
      rw [hr y (Nat.lt_of_lt_of_le hy h64), Bool.and_eq_true, Bool.not_eq_true']
      refine and_congr_right (fun _ => ?_)
      constructor
      · rintro q ⟨z, hz2, e, hb⟩
        obtain ⟨v, hv, hy2, hU⟩ := (bb_below hy hz2).mp hb
        have q2 := bb_ex_f.mp q v hv
        rw [hy2, Bool.true_and, (hI _ (bb_fx hy hv)).mpr ⟨z, hz2, e, hU⟩] at q2
        cases q2
      · intro q
        apply bb_ex_f.mpr
        intro v hv
        cases e : (y.testBit v && bb_t s (y ^^^ 2 ^ v)) with
        | false => rfl
        | true =>
          rw [Bool.and_eq_true] at e
          obtain ⟨z, hz2, e3, hU⟩ := (hI _ (bb_fx hy hv)).mp e.2
          exact absurd ⟨z, hz2, e3, (bb_below hy hz2).mpr ⟨v, hv, e.1, hU⟩⟩ q
  · intro m i s hi hI K
    refine br_f (nI_ge hi (by omega)) ⟨vp_in_nI (by omega) (by omega), ?_⟩
    rw [bb_1v i (by omega), nI_clamp (by omega)]
    refine nm_e (nm_r (nI_1 i) (K _ ?_))
    intro y hy
    rw [bb_t_or, bb_up hz (by omega) (Nat.lt_of_lt_of_le hy h64), Bool.or_eq_true, Bool.and_eq_true, hI y hy, hI _ (bb_fx hy hi)]
    constructor
    · rintro (⟨z, hz2, e, u⟩ | ⟨e1, z, hz2, e, u⟩)
      · exact ⟨z, hz2, e, bb_U_s.mpr (Or.inl u)⟩
      · exact ⟨z, hz2, e, bb_U_s.mpr (Or.inr ⟨e1, u⟩)⟩
    · rintro ⟨z, hz2, e, u⟩
      rcases bb_U_s.mp u with u | ⟨e1, u⟩
      · exact Or.inl ⟨z, hz2, e, u⟩
      · exact Or.inr ⟨e1, z, hz2, e, u⟩
theorem bx_smeared {post : Int64 → Prop} (hz : bb_Z Z) (hn : n ≤ 6) {x : Int64} {f : Nat} (hf : f < 64) (hx : bb_W n x) (h : ∀ r, bb_W n r → (∀ y, y < 2 ^ n → (bb_t r y = true ↔ ∃ z, z < 2 ^ n ∧ bb_t x z = true ∧ bb_E (fun j => !f.testBit j) n y z)) → post r) : wpX_smeared post (nI n, nI d, nI (2 ^ n), al, B, S, Z, A, C) x (nI f) := by
  unfold wpX_smeared
  dsimp only
  have h64 := bb_64 hn
  refine loop_0 (fun m i s => wX_smeared_6 post (nI f) (nI n) (nI d) (nI (2 ^ n)) al B S Z A C m s (nI i)) (fun i s => bb_W n s ∧ ∀ y, y < 2 ^ n → (bb_t s y = true ↔ ∃ z, z < 2 ^ n ∧ bb_t x z = true ∧ bb_E (fun j => !f.testBit j) i y z)) n x ?_ ?_ ?_
  · refine ⟨hx, fun y hy => ?_⟩
    constructor
    · intro e
      exact ⟨y, hy, e, bb_E_0.mpr rfl⟩
    · rintro ⟨z, hz, e, u⟩
      rw [← bb_E_0.mp u]
      exact e
  · intro m s hI
    exact br_t (Int32.le_refl _) (h s hI.1 hI.2)
  · intro m i s hi hI K
    refine br_f (nI_ge hi (by omega)) ?_
    have hb := bb_bit f hf i (by omega)
    cases c : f.testBit i with
    | false =>
      rw [c] at hb
      have ho : (fun j => !f.testBit j) i = true := by show (!f.testBit i) = true; rw [c]; rfl
      refine br_t hb (bx_swapped hz (by omega) fun r hr => nm_e (nm_r (nI_1 i) (K _ ⟨bb_W_or hI.1 (bb_W_sw hi hI.1 hr), fun y hy => ?_⟩)))
      rw [bb_t_or, hr y (Nat.lt_of_lt_of_le hy h64), Bool.or_eq_true, hI.2 y hy, hI.2 _ (bb_fx hy hi)]
      constructor
      · rintro (⟨z, hz2, e, u⟩ | ⟨z, hz2, e, u⟩)
        · exact ⟨z, hz2, e, (bb_E_op ho).mpr (Or.inl u)⟩
        · exact ⟨z, hz2, e, (bb_E_op ho).mpr (Or.inr u)⟩
      · rintro ⟨z, hz2, e, u⟩
        rcases (bb_E_op ho).mp u with u | u
        · exact Or.inl ⟨z, hz2, e, u⟩
        · exact Or.inr ⟨z, hz2, e, u⟩
    | true =>
      rw [c] at hb
      have ho : (fun j => !f.testBit j) i = false := by show (!f.testBit i) = false; rw [c]; rfl
      refine br_f (by rw [hb]; decide) (nm_r (nI_1 i) (K s ⟨hI.1, fun y hy => ?_⟩))
      rw [hI.2 y hy]
      constructor
      · rintro ⟨z, hz2, e, u⟩
        exact ⟨z, hz2, e, (bb_E_no ho).mpr u⟩
      · rintro ⟨z, hz2, e, u⟩
        exact ⟨z, hz2, e, (bb_E_no ho).mp u⟩
end
end
section
/-! X's growing loops: nearest, distance, reach -/
section
variable {n d : Nat} {al : Int64} {B S Z A C : Nat → Int64}
/-- grown to k: the worlds at distance at most k -/
def bb_G (n : Nat) (x g : Int64) (k : Nat) : Prop := ∀ u, u < 2 ^ n → (bb_t g u = true ↔ bb_D n (bb_t x) u ≤ k)
theorem bb_G_0 (x : Int64) : bb_G n x x 0 := fun _ hu => (bb_D_0 hu).symm
theorem bb_G_s {x g r : Int64} {k : Nat} (hn : n ≤ 6) (hk : k < n) (hG : bb_G n x g k) (hr : ∀ w, w < 64 → bb_t r w = (bb_t g w || bb_ex (fun v => bb_t g (w ^^^ 2 ^ v)) n)) : bb_G n x r (k + 1) := by
  intro u hu
  rw [hr u (Nat.lt_of_lt_of_le hu (bb_64 hn)), Bool.or_eq_true, bb_ex_iff, bb_D_grow hk, hG u hu]
  constructor
  · rintro (e | ⟨v, hv, e⟩)
    · exact Or.inl e
    · exact Or.inr ⟨v, hv, (hG _ (bb_fx hu hv)).mp e⟩
  · rintro (e | ⟨v, hv, e⟩)
    · exact Or.inl e
    · exact Or.inr ⟨v, hv, (hG _ (bb_fx hu hv)).mpr e⟩
/-- at the first k whose grown set meets f -/
theorem bb_meet {x g f : Int64} {k s : Nat} (hk : k ≤ s) (hf : bb_W n f) (hG : bb_G n x g k) (h1 : ∀ u, u < 2 ^ n → bb_t f u = true → k ≤ bb_D n (bb_t x) u) (h2 : ∃ u, u < 2 ^ n ∧ bb_t f u = true ∧ bb_D n (bb_t x) u ≤ k) :
    bb_mn s (bb_t f) (bb_D n (bb_t x)) (2 ^ n) = k ∧ ∀ w, w < 64 → bb_t (g &&& f) w = (bb_t f w && decide (bb_D n (bb_t x) w = bb_mn s (bb_t f) (bb_D n (bb_t x)) (2 ^ n))) := by
  have e := bb_near hk h1 h2
  refine ⟨e, ?_⟩
  rw [e]
  intro w _
  rw [bb_t_and, Bool.and_comm]
  cases c : bb_t f w with
  | false => rfl
  | true =>
    have hw := bb_W_lt hf c
    rw [Bool.true_and, Bool.true_and]
    apply bb_beq
    rw [hG w hw, decide_eq_true_eq]
    have := h1 w hw c
    constructor
    · intro q
      exact Nat.le_antisymm q this
    · intro q
      exact Nat.le_of_eq q
/-- the meeting of two words, as a fact -/
theorem bb_meets {x g f : Int64} {k : Nat} (hf : bb_W n f) (hG : bb_G n x g k) (h : ¬ (g &&& f) = 0) : ∃ u, u < 2 ^ n ∧ bb_t f u = true ∧ bb_D n (bb_t x) u ≤ k := by
  obtain ⟨i, hi, e⟩ := bb_t_nz h
  rw [bb_t_and, Bool.and_eq_true] at e
  have hw := bb_W_lt hf e.2
  exact ⟨i, hw, e.2, (hG i hw).mp e.1⟩
theorem bb_meets_no {x g f : Int64} {k : Nat} (hn : n ≤ 6) (hG : bb_G n x g k) (h : (g &&& f) = 0) : ∀ u, u < 2 ^ n → bb_t f u = true → k + 1 ≤ bb_D n (bb_t x) u := by
  intro u hu e
  rcases Nat.lt_or_ge k (bb_D n (bb_t x) u) with h1 | h1
  · exact h1
  · have q := bb_t_z.mp h u (Nat.lt_of_lt_of_le hu (bb_64 hn))
    rw [bb_t_and, e, (hG u hu).mpr h1] at q
    cases q
theorem bb_full {x f : Int64} (hx : bb_W n x) (hf : bb_W n f) (h0 : ¬ x = 0) (h1 : ¬ f = 0) : ∃ u, u < 2 ^ n ∧ bb_t f u = true ∧ bb_D n (bb_t x) u ≤ n := by
  obtain ⟨i, hi, e⟩ := bb_t_nz h0
  obtain ⟨j, hj, e2⟩ := bb_t_nz h1
  exact ⟨j, bb_W_lt hf e2, e2, bb_D_non (bb_W_lt hx e) e j⟩
theorem bx_near20 {post : Int64 → Prop} (hz : bb_Z Z) (hn : n ≤ 6) {x f : Int64} (hx : bb_W n x) (hf : bb_W n f) (h0 : ¬ x = 0) (h1 : ¬ f = 0)
    (h : ∀ r, (∀ w, w < 64 → bb_t r w = (bb_t f w && decide (bb_D n (bb_t x) w = bb_mn 1000 (bb_t f) (bb_D n (bb_t x)) (2 ^ n)))) → post r) : ∃ m, wX_nearest_20 post f (nI n) (nI d) (nI (2 ^ n)) al B S Z A C m x 0 := by
  refine loop_0 (fun m i s => wX_nearest_20 post f (nI n) (nI d) (nI (2 ^ n)) al B S Z A C m s (nI i)) (fun i s => i ≤ n ∧ bb_G n x s i ∧ ∀ u, u < 2 ^ n → bb_t f u = true → i ≤ bb_D n (bb_t x) u) n x ⟨Nat.zero_le n, bb_G_0 x, fun _ _ _ => Nat.zero_le _⟩ ?_ ?_
  · intro m s hI
    exact br_t (Int32.le_refl _) (h _ (bb_meet (by omega) hf hI.2.1 hI.2.2 (bb_full hx hf h0 h1)).2)
  · intro m i s hi hI K
    refine br_f (nI_ge hi (by omega)) (br_c (fun c => ?_) (fun c => ?_))
    · exact bx_grown hz hn fun r hr => nm_r (nI_1 i) (K r ⟨hi, bb_G_s hn hi hI.2.1 hr, bb_meets_no hn hI.2.1 c⟩)
    · exact h _ (bb_meet (by omega) hf hI.2.1 hI.2.2 (bb_meets hf hI.2.1 c)).2
theorem bx_nearest {post : Int64 → Prop} (hz : bb_Z Z) (hn : n ≤ 6) {x f : Int64} (hx : bb_W n x) (hf : bb_W n f)
    (h : ∀ r, (∀ w, w < 64 → bb_t r w = (bb_t f w && decide (bb_D n (bb_t x) w = bb_mn 1000 (bb_t f) (bb_D n (bb_t x)) (2 ^ n)))) → post r) : wpX_nearest post (nI n, nI d, nI (2 ^ n), al, B, S, Z, A, C) x f := by
  unfold wpX_nearest
  dsimp only
  refine br_c (fun c => ?_) (fun c => br_c (fun c2 => ?_) (fun c2 => bx_near20 hz hn hx hf c c2 h))
  · apply h
    intro w hw
    cases e : bb_t f w with
    | false => rfl
    | true =>
      have hD : ∀ u, bb_D n (bb_t x) u = n + 1 := fun u => bb_D_emp (fun w _ => by rw [c]; exact bb_t_0 w) u
      have q : bb_mn 1000 (bb_t f) (bb_D n (bb_t x)) (2 ^ n) = n + 1 :=
        bb_near (by omega) (fun u _ _ => by rw [hD u]; exact Nat.le_refl _) ⟨w, bb_W_lt hf e, e, by rw [hD w]; exact Nat.le_refl _⟩
      rw [q, hD w, decide_eq_true rfl]
      rfl
  · apply h
    intro w hw
    rw [c2, bb_t_0]
    rfl
theorem bx_dist54 {post : Int32 → Prop} (hz : bb_Z Z) (hn : n ≤ 6) {x : Int64} {b : Nat} (hb : b < 3) (hx : bb_W n x) (hf : bb_W n (B b)) (h0 : ¬ x = 0) (h1 : ¬ B b = 0)
    (h : post (nI (bb_mn (n + 1) (bb_t (B b)) (bb_D n (bb_t x)) (2 ^ n)))) : ∃ m, wX_distance_54 post (nI b) (nI n) (nI d) (nI (2 ^ n)) al B S Z A C m x 0 0 := by
  refine loop_0 (fun m i s => wX_distance_54 post (nI b) (nI n) (nI d) (nI (2 ^ n)) al B S Z A C m s (nI i) (nI i)) (fun i s => i ≤ n ∧ bb_G n x s i ∧ ∀ u, u < 2 ^ n → bb_t (B b) u = true → i ≤ bb_D n (bb_t x) u) n x ⟨Nat.zero_le n, bb_G_0 x, fun _ _ _ => Nat.zero_le _⟩ ?_ ?_
  · intro m s hI
    rw [(bb_meet (s := n + 1) (by omega) hf hI.2.1 hI.2.2 (bb_full hx hf h0 h1)).1] at h
    exact br_t (Int32.le_refl _) h
  · intro m i s hi hI K
    refine br_f (nI_ge hi (by omega)) ⟨vp_in_nI hb (by omega), ?_⟩
    rw [nI_clamp (by omega)]
    refine br_c (fun c => ?_) (fun c => ?_)
    · exact bx_grown hz hn fun r hr => nm_r (nI_1 i) (nm_r (nI_1 i) (K r ⟨hi, bb_G_s hn hi hI.2.1 hr, bb_meets_no hn hI.2.1 c⟩))
    · rw [(bb_meet (s := n + 1) (by omega) hf hI.2.1 hI.2.2 (bb_meets hf hI.2.1 c)).1] at h
      exact h
theorem bb_covers {x g f : Int64} {k : Nat} (hf : bb_W n f) (hG : bb_G n x g k) : (f &&& (g ^^^ (-1))) = 0 ↔ bb_mx (bb_t f) (bb_D n (bb_t x)) (2 ^ n) ≤ k := by
  rw [bb_mx_le, bb_t_z]
  constructor
  · intro h w hw e
    have q := h w (by
      rcases Nat.lt_or_ge w 64 with h1 | h1
      · exact h1
      · rw [bb_t_big h1] at e
        cases e)
    have hw64 : w < 64 := by
      rcases Nat.lt_or_ge w 64 with h1 | h1
      · exact h1
      · rw [bb_t_big h1] at e
        cases e
    rw [bb_t_and, bb_t_not _ hw64, e, Bool.true_and, Bool.not_eq_false'] at q
    exact (hG w hw).mp q
  · intro h i hi
    rw [bb_t_and, bb_t_not _ hi]
    cases e : bb_t f i with
    | false => rfl
    | true =>
      rw [(hG i (bb_W_lt hf e)).mpr (h i (bb_W_lt hf e) e)]
      rfl
theorem bx_reach54 {post : Int32 → Prop} (hz : bb_Z Z) (hn : n ≤ 6) {x : Int64} {b : Nat} (hb : b < 3) (hx : bb_W n x) (hf : bb_W n (B b)) (h0 : ¬ x = 0)
    (h : post (nI (bb_mx (bb_t (B b)) (bb_D n (bb_t x)) (2 ^ n)))) : ∃ m, wX_reach_54 post (nI b) (nI n) (nI d) (nI (2 ^ n)) al B S Z A C m x 0 0 := by
  refine loop_0 (fun m i s => wX_reach_54 post (nI b) (nI n) (nI d) (nI (2 ^ n)) al B S Z A C m s (nI i) (nI i)) (fun i s => bb_G n x s i ∧ i ≤ bb_mx (bb_t (B b)) (bb_D n (bb_t x)) (2 ^ n)) n x ⟨bb_G_0 x, Nat.zero_le _⟩ ?_ ?_
  · intro m s hI
    have e : bb_mx (bb_t (B b)) (bb_D n (bb_t x)) (2 ^ n) = n := by
      apply Nat.le_antisymm
      · obtain ⟨i, hi, e⟩ := bb_t_nz h0
        exact (bb_mx_le _ _ _ _).mpr (fun w _ _ => bb_D_non (bb_W_lt hx e) e w)
      · exact hI.2
    rw [e] at h
    exact br_t (Int32.le_refl _) h
  · intro m i s hi hI K
    refine br_f (nI_ge hi (by omega)) ⟨vp_in_nI hb (by omega), ?_⟩
    rw [nI_clamp (by omega)]
    refine br_c (fun c => ?_) (fun c => ?_)
    · rw [Nat.le_antisymm ((bb_covers hf hI.1).mp c) hI.2] at h
      exact h
    · exact bx_grown hz hn fun r hr => nm_r (nI_1 i) (nm_r (nI_1 i) (K r ⟨bb_G_s hn hi hI.1 hr, Nat.lt_of_not_le (fun q => c ((bb_covers hf hI.1).mpr q))⟩))
end
end
section
/-! X's update, rings, merge -/
/-- some world of f differs from w in a proper part of where u does -/
def bb_nr (n : Nat) (f : Nat → Bool) (u w : Nat) : Bool := bb_ex (fun x => f x && (!decide (x ^^^ w = u ^^^ w) && decide ((x ^^^ w) &&& (u ^^^ w) = x ^^^ w))) (2 ^ n)
theorem bb_nr_iff {n u w : Nat} {f : Nat → Bool} (hw : w < 2 ^ n) : bb_nr n f u w = true ↔ ∃ z, z < 2 ^ n ∧ f (z ^^^ w) = true ∧ z ≠ u ^^^ w ∧ z &&& (u ^^^ w) = z := by
  unfold bb_nr
  rw [bb_ex_iff]
  constructor
  · rintro ⟨x, hx, e⟩
    rw [Bool.and_eq_true, Bool.and_eq_true, Bool.not_eq_true', decide_eq_false_iff_not, decide_eq_true_eq] at e
    exact ⟨x ^^^ w, Nat.xor_lt_two_pow hx hw, by rw [bb_xx]; exact e.1, e.2.1, e.2.2⟩
  · rintro ⟨z, hz, e1, e2, e3⟩
    refine ⟨z ^^^ w, Nat.xor_lt_two_pow hz hw, ?_⟩
    rw [Bool.and_eq_true, Bool.and_eq_true, Bool.not_eq_true', decide_eq_false_iff_not, decide_eq_true_eq, bb_xx]
    exact ⟨e1, e2, e3⟩
/-- what an update leaves -/
def bb_u (n : Nat) (P f : Nat → Bool) (m u : Nat) : Bool := f u && bb_ex (fun w => P w && !bb_nr n f u w) m
theorem bb_u_s {n m u : Nat} {P f : Nat → Bool} : bb_u n P f (m + 1) u = (bb_u n P f m u || (f u && (P m && !bb_nr n f u m))) := by
  unfold bb_u
  rw [bb_ex]
  cases f u <;> simp
section
variable {n d : Nat} {al : Int64} {B S Z A C : Nat → Int64}
theorem bx_upd38 {post : Int32 → SX → Prop} (hz : bb_Z Z) (hn : n ≤ 6) {b : Nat} (hb : b < 3) {f x : Int64} (hf : bb_W n f)
    (h : ∀ r, bb_W n r → (∀ u, u < 2 ^ n → bb_t r u = bb_u n (bb_t x) (bb_t f) (2 ^ n) u) → post (nI (bb_cn (bb_t r) 64)) (nI n, nI d, nI (2 ^ n), al, vp_updL B b r, S, Z, A, C)) : ∃ m, wX_update_38 post (nI b) f x (nI n) (nI d) (nI (2 ^ n)) al B S Z A C m 0 0 := by
  have h64 := bb_64 hn
  refine loop_0 (fun m i s => wX_update_38 post (nI b) f x (nI n) (nI d) (nI (2 ^ n)) al B S Z A C m s (nI i)) (fun i s => bb_W n s ∧ ∀ u, u < 2 ^ n → bb_t s u = bb_u n (bb_t x) (bb_t f) i u) (2 ^ n) 0 ?_ ?_ ?_
  · refine ⟨fun w _ => bb_t_0 w, fun u _ => ?_⟩
    show bb_t 0 u = (bb_t f u && false)
    rw [bb_t_0, Bool.and_false]
  · intro m s hI
    exact br_t (Int32.le_refl _) (bx_become hb (h s hI.1 hI.2))
  · intro m i s hi hI K
    refine br_f (nI_ge hi (by omega)) (bx_has (by omega) ?_)
    cases c : bb_t x i with
    | false =>
      refine br_t rfl (nm_r (nI_1 i) (K s ⟨hI.1, fun u hu => ?_⟩))
      rw [hI.2 u hu, bb_u_s, c]
      simp
    | true =>
      refine br_f (by decide) (bx_shifted hz hn hi fun s1 h1 => bx_minimal hz hn fun s2 h2 h3 => bx_shifted hz hn hi fun s3 h4 => nm_e (nm_r (nI_1 i) (K _ ⟨?_, ?_⟩)))
      · refine bb_W_or hI.1 (bb_W_of fun w hw h2n => ?_)
        rw [h4 w hw]
        cases e : bb_t s2 (w ^^^ i) with
        | false => rfl
        | true =>
          have hx64 : w ^^^ i < 64 := Nat.xor_lt_two_pow (n := 6) hw (by omega)
          have q := h2 _ hx64 e
          rw [h1 _ hx64, bb_xx, hf w h2n] at q
          cases q
      · intro u hu
        rw [bb_t_or, hI.2 u hu, bb_u_s, c, h4 u (by omega)]
        congr 1
        have hx := Nat.xor_lt_two_pow hu hi
        apply bb_beq
        rw [h3 _ hx, h1 _ (by omega), bb_xx, Bool.and_eq_true, Bool.true_and, Bool.not_eq_true']
        refine and_congr_right (fun _ => ?_)
        cases e : bb_nr n (bb_t f) u i with
        | false =>
          refine ⟨fun _ => rfl, fun _ => ?_⟩
          rintro ⟨z, hz2, e1, e2⟩
          rw [h1 _ (by omega)] at e1
          have q := (bb_nr_iff (f := bb_t f) (u := u) hi).mpr ⟨z, hz2, e1, e2⟩
          rw [e] at q
          cases q
        | true =>
          refine ⟨fun q => ?_, fun q => by cases q⟩
          obtain ⟨z, hz2, e1, e2⟩ := (bb_nr_iff hi).mp e
          exact absurd ⟨z, hz2, by rw [h1 _ (by omega)]; exact e1, e2⟩ q
theorem bx_fill {post : SX → Prop} (hz : bb_Z Z) (hn : n ≤ 6) (hA : bb_A n al) {x y : Int64} (h : ∀ A' C', (∀ j, j ≤ n + 1 → bb_G n x (A' j) j) → (∀ j, j ≤ n + 1 → bb_G n y (C' j) j) → post (nI n, nI d, nI (2 ^ n), al, B, S, Z, A', C')) : wpX_fillRings post (nI n, nI d, nI (2 ^ n), al, B, S, Z, A, C) x y := by
  unfold wpX_fillRings
  dsimp only
  refine nm_e (nm_e ?_)
  refine pk_loop (fun m i (s : (Nat → Int64) × (Nat → Int64)) => wX_fillRings_17 post (nI n) (nI d) (nI (2 ^ n)) al m (nI i) B S Z s.1 s.2) (fun i s => 1 ≤ i ∧ (∀ j, j < i → bb_G n x (s.1 j) j) ∧ (∀ j, j < i → bb_G n y (s.2 j) j)) (n + 1) 1 (vp_updL A 0 x, vp_updL C 0 y) (by omega) ?_ ?_ ?_
  · refine ⟨Nat.le_refl 1, fun j hj => ?_, fun j hj => ?_⟩
    · have e : j = 0 := by omega
      subst e
      show bb_G n x (vp_updL A 0 x 0) 0
      rw [pk_uLs]
      exact bb_G_0 x
    · have e : j = 0 := by omega
      subst e
      show bb_G n y (vp_updL C 0 y 0) 0
      rw [pk_uLs]
      exact bb_G_0 y
  · intro m s hI
    have hall : ∀ q : Int64, bb_G n q al (n + 1) := fun q u hu => by
      rw [hA u (Nat.lt_of_lt_of_le hu (bb_64 hn)), decide_eq_true hu]
      exact ⟨fun _ => bb_D_top _ _ _, fun _ => rfl⟩
    refine br_t (nI_lt (by omega) (by omega)) ?_
    rw [nI_1 n, nI_clamp (by omega)]
    refine ⟨vp_in_nI (by omega) (by omega), nm_e ⟨vp_in_nI (by omega) (by omega), nm_e (h _ _ (fun j hj => ?_) (fun j hj => ?_))⟩⟩
    · by_cases e : j = n + 1
      · subst e
        rw [pk_uLs]
        exact hall x
      · rw [pk_uLn e]
        exact hI.2.1 j (by omega)
    · by_cases e : j = n + 1
      · subst e
        rw [pk_uLs]
        exact hall y
      · rw [pk_uLn e]
        exact hI.2.2 j (by omega)
  · intro m i s hi hI K
    obtain ⟨h1, hP, hQ⟩ := hI
    obtain ⟨j, rfl⟩ : ∃ j, i = j + 1 := ⟨i - 1, by omega⟩
    refine br_f (nI_nlt (by omega) (by omega)) ?_
    rw [nI_pred j, nI_clamp (n := j) (by omega), nI_clamp (n := j + 1) (by omega)]
    refine ⟨vp_in_nI (by omega) (by omega), bx_grown hz hn fun r hr => ⟨vp_in_nI (by omega) (by omega), nm_e ⟨vp_in_nI (by omega) (by omega), bx_grown hz hn fun r2 hr2 => ⟨vp_in_nI (by omega) (by omega), nm_e (nm_r (nI_1 (j + 1)) (K (vp_updL s.1 (j + 1) r, vp_updL s.2 (j + 1) r2) ⟨by omega, fun i hi2 => ?_, fun i hi2 => ?_⟩))⟩⟩⟩⟩
    · show bb_G n x (vp_updL s.1 (j + 1) r i) i
      by_cases e : i = j + 1
      · subst e
        rw [pk_uLs]
        exact bb_G_s hn (by omega) (hP j (by omega)) hr
      · rw [pk_uLn e]
        exact hP i (by omega)
    · show bb_G n y (vp_updL s.2 (j + 1) r2 i) i
      by_cases e : i = j + 1
      · subst e
        rw [pk_uLs]
        exact bb_G_s hn (by omega) (hQ j (by omega)) hr2
      · rw [pk_uLn e]
        exact hQ i (by omega)
theorem bx_mg76 {post : Int32 → SX → Prop} {J : Int64 → Int32 → Prop} (hn : n ≤ 6) {b : Int32} {f : Int64} {k : Nat} (hk : k ≤ 2 * n + 2) {x y : Int64} (hA : ∀ j, j ≤ n + 1 → bb_G n x (A j) j) (hC : ∀ j, j ≤ n + 1 → bb_G n y (C j) j) (hf : bb_W n f)
    (h : ∀ r, bb_W n r → (∀ u, u < 2 ^ n → (bb_t r u = true ↔ bb_t f u = true ∧ bb_D n (bb_t x) u + bb_D n (bb_t y) u ≤ k)) → J r (nI (k + 1))) : ∃ m, wX_merge_76 post J b f (nI k) (nI n) (nI d) (nI (2 ^ n)) al B S Z A C m 0 0 := by
  have e1 : nI n + 1 = nI (n + 1) := nI_1 n
  refine loop_0 (fun m i s => wX_merge_76 post J b f (nI k) (nI n) (nI d) (nI (2 ^ n)) al B S Z A C m s (nI i)) (fun i s => bb_W n s ∧ ∀ u, u < 2 ^ n → (bb_t s u = true ↔ bb_t f u = true ∧ ∃ j, j < i ∧ j ≤ k ∧ k - j ≤ n + 1 ∧ bb_D n (bb_t x) u ≤ j ∧ bb_D n (bb_t y) u ≤ k - j)) (n + 2) 0 ?_ ?_ ?_
  · refine ⟨fun w _ => bb_t_0 w, fun u _ => ?_⟩
    constructor
    · intro e
      rw [bb_t_0] at e
      cases e
    · rintro ⟨_, j, hj, _⟩
      exact absurd hj (Nat.not_lt_zero j)
  · intro m s hI
    refine br_t (by rw [e1]; exact nI_lt (by omega) (by omega)) (nm_r (nI_1 k) (h s hI.1 fun u hu => ?_))
    rw [hI.2 u hu]
    refine and_congr_right (fun _ => ?_)
    have t1 := bb_D_top n (bb_t x) u
    have t2 := bb_D_top n (bb_t y) u
    generalize bb_D n (bb_t x) u = p at *
    generalize bb_D n (bb_t y) u = q at *
    constructor
    · rintro ⟨j, h1, h2, h3, h4, h5⟩
      omega
    · intro hs
      by_cases c : k - p ≤ n + 1
      · exact ⟨p, by omega, by omega, c, Nat.le_refl p, by omega⟩
      · exact ⟨k - (n + 1), by omega, by omega, by omega, by omega, by omega⟩
  · intro m i s hi hI K
    have skip : (i ≤ k → k - i ≤ n + 1 → False) → ∀ u, u < 2 ^ n → (bb_t s u = true ↔ bb_t f u = true ∧ ∃ j, j < i + 1 ∧ j ≤ k ∧ k - j ≤ n + 1 ∧ bb_D n (bb_t x) u ≤ j ∧ bb_D n (bb_t y) u ≤ k - j) := by
      intro hno u hu
      rw [hI.2 u hu]
      refine and_congr_right (fun _ => ?_)
      constructor
      · rintro ⟨j, h1, h2⟩
        exact ⟨j, Nat.lt_succ_of_lt h1, h2⟩
      · rintro ⟨j, h1, h2, h3, h4⟩
        rcases Nat.lt_or_ge j i with q | q
        · exact ⟨j, q, h2, h3, h4⟩
        · have e : j = i := Nat.le_antisymm (Nat.le_of_lt_succ h1) q
          subst e
          exact absurd h3 (fun z => hno h2 z)
    refine br_f (by rw [e1]; exact nI_nlt (by omega) (by omega)) ?_
    by_cases q : i ≤ k
    · refine nm_r (pk_sub q) (br_f (nI_pos (by omega)) ?_)
      by_cases q2 : k - i ≤ n + 1
      · refine br_f (by rw [e1]; exact nI_nlt (by omega) (by omega)) ⟨vp_in_nI (by omega) (by omega), vp_in_nI (by omega) (by omega), ?_⟩
        rw [nI_clamp (n := i) (by omega), nI_clamp (n := k - i) (by omega)]
        refine nm_e (nm_r (nI_1 i) (K _ ⟨bb_W_or hI.1 (bb_W_and hf), fun u hu => ?_⟩))
        rw [bb_t_or, bb_t_and, bb_t_and, Bool.or_eq_true, Bool.and_eq_true, Bool.and_eq_true, hI.2 u hu, hA i (by omega) u hu, hC (k - i) q2 u hu]
        constructor
        · rintro (⟨e, j, h1, h2⟩ | ⟨⟨h1, h2⟩, e⟩)
          · exact ⟨e, j, Nat.lt_succ_of_lt h1, h2⟩
          · exact ⟨e, i, Nat.lt_succ_self i, q, q2, h1, h2⟩
        · rintro ⟨e, j, h1, h2, h3, h4, h5⟩
          rcases Nat.lt_or_ge j i with z | z
          · exact Or.inl ⟨e, j, z, h2, h3, h4, h5⟩
          · have ej : j = i := Nat.le_antisymm (Nat.le_of_lt_succ h1) z
            subst ej
            exact Or.inr ⟨⟨h4, h5⟩, e⟩
      · exact br_t (by rw [e1]; exact nI_lt (by omega) (by omega)) (nm_r (nI_1 i) (K s ⟨hI.1, skip (fun _ z => q2 z)⟩))
    · intro x9 e9
      exact br_t (by rw [e9]; exact pk_sneg (by omega) (by omega)) (nm_r (nI_1 i) (K s ⟨hI.1, skip (fun z _ => q z)⟩))
theorem bx_mg53 {post : Int32 → SX → Prop} (hn : n ≤ 6) {b : Nat} (hb : b < 3) {f x y : Int64} (hA : ∀ j, j ≤ n + 1 → bb_G n x (A j) j) (hC : ∀ j, j ≤ n + 1 → bb_G n y (C j) j) (hf : bb_W n f)
    (h : ∀ r, (∀ w, w < 64 → bb_t r w = (bb_t f w && decide (bb_D n (bb_t x) w + bb_D n (bb_t y) w = bb_mn 1000 (bb_t f) (fun u => bb_D n (bb_t x) u + bb_D n (bb_t y) u) (2 ^ n)))) → post (nI (bb_cn (bb_t r) 64)) (nI n, nI d, nI (2 ^ n), al, vp_updL B b r, S, Z, A, C)) : ∃ m, wX_merge_53 post (nI b) f (nI n) (nI d) (nI (2 ^ n)) al B S Z A C m 0 0 := by
  have h64 := bb_64 hn
  have fin : ∀ s : Int64, (∀ w, w < 64 → bb_t s w = (bb_t f w && decide (bb_D n (bb_t x) w + bb_D n (bb_t y) w = bb_mn 1000 (bb_t f) (fun u => bb_D n (bb_t x) u + bb_D n (bb_t y) u) (2 ^ n)))) → wX_merge_144 post (nI b) s (nI n) (nI d) (nI (2 ^ n)) al B S Z A C := by
    intro s hs
    unfold wX_merge_144
    exact bx_become hb (h s hs)
  have e2 : (2 * nI n) + 2 = nI (2 * n + 2) := by
    show nI 2 * nI n + nI 2 = _
    rw [pk_mul, nI_add]
  refine loop_0 (fun m i s => wX_merge_53 post (nI b) f (nI n) (nI d) (nI (2 ^ n)) al B S Z A C m s (nI i)) (fun i s => (s = 0 ∧ ∀ u, u < 2 ^ n → bb_t f u = true → i ≤ bb_D n (bb_t x) u + bb_D n (bb_t y) u) ∨ (¬ s = 0 ∧ ∀ w, w < 64 → bb_t s w = (bb_t f w && decide (bb_D n (bb_t x) w + bb_D n (bb_t y) w = bb_mn 1000 (bb_t f) (fun u => bb_D n (bb_t x) u + bb_D n (bb_t y) u) (2 ^ n))))) (2 * n + 3) 0 (Or.inl ⟨rfl, fun _ _ _ => Nat.zero_le _⟩) ?_ ?_
  · intro m s hI
    refine br_t (by rw [e2]; exact nI_lt (by omega) (by omega)) (fin s ?_)
    rcases hI with ⟨rfl, hI⟩ | hI
    · intro w hw
      cases e : bb_t f w with
      | false => exact bb_t_0 w
      | true =>
        have t0 := hI w (bb_W_lt hf e) e
        have t1 := bb_D_top n (bb_t x) w
        have t2 := bb_D_top n (bb_t y) w
        omega
    · exact hI.2
  · intro m i s hi hI K
    refine br_f (by rw [e2]; exact nI_nlt (by omega) (by omega)) ?_
    rcases hI with ⟨rfl, hI⟩ | hI
    · refine br_t rfl (bx_mg76 hn (by omega) hA hC hf fun r hW hr => K r ?_)
      by_cases c : r = 0
      · refine Or.inl ⟨c, fun u hu e => ?_⟩
        rcases Nat.lt_or_ge i (bb_D n (bb_t x) u + bb_D n (bb_t y) u) with q | q
        · exact q
        · have z := (hr u hu).mpr ⟨e, q⟩
          rw [c, bb_t_0] at z
          cases z
      · refine Or.inr ⟨c, ?_⟩
        have L : bb_mn 1000 (bb_t f) (fun u => bb_D n (bb_t x) u + bb_D n (bb_t y) u) (2 ^ n) = i := by
          obtain ⟨j, hj, e⟩ := bb_t_nz c
          have hw := bb_W_lt hW e
          exact bb_near (by omega) hI ⟨j, hw, (hr j hw).mp e⟩
        rw [L]
        intro w hw
        rcases Nat.lt_or_ge w (2 ^ n) with h2n | h2n
        · apply bb_beq
          rw [hr w h2n, Bool.and_eq_true, decide_eq_true_eq]
          constructor
          · rintro ⟨e, q⟩
            exact ⟨e, Nat.le_antisymm q (hI w h2n e)⟩
          · rintro ⟨e, q⟩
            exact ⟨e, Nat.le_of_eq q⟩
        · rw [hW w h2n, hf w h2n]
          rfl
    · exact br_f hI.1 (fin s hI.2)
end
end
section
/-! primes: cubes counted by their worlds, and by their least worlds -/
def bb_is (n : Nat) (P : Nat → Bool) (f v : Nat) : Bool := !bb_ex (fun w => decide (w &&& f = v) && !P w) (2 ^ n)
def bb_rm (f v : Nat) : Nat := f &&& (63 ^^^ 2 ^ v)
def bb_pr (n : Nat) (P : Nat → Bool) (f y : Nat) : Bool := bb_is n P f y && !bb_ex (fun v => f.testBit v && bb_is n P (bb_rm f v) (y &&& bb_rm f v)) n
def bb_T (n : Nat) (P : Nat → Bool) (f : Nat) : Nat := bb_cn (fun y => decide (y &&& f = y) && bb_pr n P f y) (2 ^ n)
def bb_I (n : Nat) (P : Nat → Bool) (o y : Nat) : Prop := ∀ z, z < 2 ^ n → bb_E (fun j => o.testBit j) n y z → P z = true
theorem bb_is_iff {n : Nat} {P : Nat → Bool} {f v : Nat} : bb_is n P f v = true ↔ ∀ w, w < 2 ^ n → w &&& f = v → P w = true := by
  unfold bb_is
  rw [Bool.not_eq_true', bb_ex_f]
  constructor
  · intro h w hw e
    have q := h w hw
    rw [decide_eq_true e, Bool.true_and, Bool.not_eq_false'] at q
    exact q
  · intro h w hw
    by_cases e : w &&& f = v
    · rw [h w hw e, Bool.not_true, Bool.and_false]
    · rw [decide_eq_false e, Bool.false_and]
theorem bb_fj {n o : Nat} (ho : o < 2 ^ n) (j : Nat) : (2 ^ n - 1 - o).testBit j = (decide (j < n) && !o.testBit j) := by
  rw [← Nat.testBit_two_pow_sub_succ ho j]
  congr 1
  omega
theorem bb_agree {n o y z : Nat} (ho : o < 2 ^ n) (hy : y < 2 ^ n) (hz : z < 2 ^ n) : z &&& (2 ^ n - 1 - o) = y &&& (2 ^ n - 1 - o) ↔ bb_E (fun j => o.testBit j) n y z := by
  constructor
  · intro h
    refine ⟨fun j hj hoj => ?_, fun j hj => ?_⟩
    · have hoj : o.testBit j = false := hoj
      have q : (z &&& (2 ^ n - 1 - o)).testBit j = (y &&& (2 ^ n - 1 - o)).testBit j := by rw [h]
      rw [Nat.testBit_and, Nat.testBit_and, bb_fj ho, decide_eq_true hj, hoj] at q
      simpa using q
    · rw [bb_hi hz hj, bb_hi hy hj]
  · intro h
    apply Nat.eq_of_testBit_eq
    intro j
    rw [Nat.testBit_and, Nat.testBit_and, bb_fj ho]
    rcases Nat.lt_or_ge j n with hj | hj
    · cases e : o.testBit j with
      | false => rw [h.1 j hj e]
      | true => simp
    · rw [h.2 j hj]
theorem bb_is_I {n o y : Nat} {P : Nat → Bool} (ho : o < 2 ^ n) (hy : y < 2 ^ n) : bb_is n P (2 ^ n - 1 - o) (y &&& (2 ^ n - 1 - o)) = true ↔ bb_I n P o y := by
  rw [bb_is_iff]
  constructor
  · intro h z hz e
    exact h z hz ((bb_agree ho hy hz).mpr e)
  · intro h z hz e
    exact h z hz ((bb_agree ho hy hz).mp e)
theorem bb_63 : ∀ j, j < 6 → (63 : Nat).testBit j = true := by decide
theorem bb_rmj {n o v : Nat} (hn : n ≤ 6) (ho : o < 2 ^ n) (j : Nat) : (bb_rm (2 ^ n - 1 - o) v).testBit j = (decide (j < n) && (!o.testBit j && !decide (v = j))) := by
  unfold bb_rm
  rw [Nat.testBit_and, bb_tx, bb_fj ho]
  rcases Nat.lt_or_ge j n with hj | hj
  · rw [bb_63 j (by omega), decide_eq_true hj]
    cases o.testBit j <;> simp
  · rw [decide_eq_false (Nat.not_lt.mpr hj)]
    simp
theorem bb_agree2 {n o v y z : Nat} (hn : n ≤ 6) (ho : o < 2 ^ n) (hy : y < 2 ^ n) (hz : z < 2 ^ n) (hv : v < n) :
    z &&& bb_rm (2 ^ n - 1 - o) v = y &&& bb_rm (2 ^ n - 1 - o) v ↔ bb_E (fun j => o.testBit j) n y z ∨ bb_E (fun j => o.testBit j) n (y ^^^ 2 ^ v) z := by
  constructor
  · intro h
    have key : ∀ j, j < n → o.testBit j = false → v ≠ j → z.testBit j = y.testBit j := by
      intro j hj hoj hvj
      have q : (z &&& bb_rm (2 ^ n - 1 - o) v).testBit j = (y &&& bb_rm (2 ^ n - 1 - o) v).testBit j := by rw [h]
      rw [Nat.testBit_and, Nat.testBit_and, bb_rmj hn ho, decide_eq_true hj, hoj, decide_eq_false hvj] at q
      simpa using q
    by_cases c : z.testBit v = y.testBit v
    · refine Or.inl ⟨fun j hj hoj => ?_, fun j hj => ?_⟩
      · by_cases e : v = j
        · subst e
          exact c
        · exact key j hj hoj e
      · rw [bb_hi hz hj, bb_hi hy hj]
    · refine Or.inr ⟨fun j hj hoj => ?_, fun j hj => ?_⟩
      · by_cases e : v = j
        · subst e
          rw [bb_tx_eq]
          revert c
          cases z.testBit v <;> cases y.testBit v <;> simp
        · rw [bb_tx_ne e]
          exact key j hj hoj e
      · rw [bb_hi hz hj, bb_hi (bb_fx hy hv) hj]
  · intro h
    apply Nat.eq_of_testBit_eq
    intro j
    rw [Nat.testBit_and, Nat.testBit_and, bb_rmj hn ho]
    rcases Nat.lt_or_ge j n with hj | hj
    · by_cases e : v = j
      · rw [decide_eq_true e]
        simp
      · cases e2 : o.testBit j with
        | true => simp
        | false =>
          rcases h with h | h
          · rw [h.1 j hj e2]
          · have q := h.1 j hj e2
            rw [bb_tx_ne e] at q
            rw [q]
    · rw [bb_hi hz hj, bb_hi hy hj]
theorem bb_is_I2 {n o v y : Nat} {P : Nat → Bool} (hn : n ≤ 6) (ho : o < 2 ^ n) (hy : y < 2 ^ n) (hv : v < n) :
    bb_is n P (bb_rm (2 ^ n - 1 - o) v) (y &&& bb_rm (2 ^ n - 1 - o) v) = true ↔ bb_I n P o y ∧ bb_I n P o (y ^^^ 2 ^ v) := by
  rw [bb_is_iff]
  constructor
  · intro h
    exact ⟨fun z hz e => h z hz ((bb_agree2 hn ho hy hz hv).mpr (Or.inl e)), fun z hz e => h z hz ((bb_agree2 hn ho hy hz hv).mpr (Or.inr e))⟩
  · intro h z hz e
    rcases (bb_agree2 hn ho hy hz hv).mp e with e | e
    · exact h.1 z hz e
    · exact h.2 z hz e
theorem bb_I_flip {n o v y : Nat} {P : Nat → Bool} (hv : v < n) (hov : o.testBit v = true) : bb_I n P o (y ^^^ 2 ^ v) ↔ bb_I n P o y := by
  have key : ∀ z, bb_E (fun j => o.testBit j) n (y ^^^ 2 ^ v) z ↔ bb_E (fun j => o.testBit j) n y z := by
    intro z
    have ne : ∀ j, j < n → o.testBit j = false → v ≠ j := by
      intro j _ hj e
      subst e
      rw [hov] at hj
      cases hj
    constructor
    · intro h
      refine ⟨fun j hj hoj => ?_, fun j hj => ?_⟩
      · have q := h.1 j hj hoj
        rw [bb_tx_ne (ne j hj hoj)] at q
        exact q
      · have q := h.2 j hj
        rw [bb_tx_ne (Nat.ne_of_lt (Nat.lt_of_lt_of_le hv hj))] at q
        exact q
    · intro h
      refine ⟨fun j hj hoj => ?_, fun j hj => ?_⟩
      · rw [bb_tx_ne (ne j hj hoj)]
        exact h.1 j hj hoj
      · rw [bb_tx_ne (Nat.ne_of_lt (Nat.lt_of_lt_of_le hv hj))]
        exact h.2 j hj
  constructor
  · intro h z hz e
    exact h z hz ((key z).mpr e)
  · intro h z hz e
    exact h z hz ((key z).mp e)
/-- what X counts, read as what Y counts -/
theorem bb_primes {n o : Nat} {P p : Nat → Bool} (hn : n ≤ 6) (ho : o < 2 ^ n)
    (hp : ∀ y, y < 2 ^ n → (p y = true ↔ bb_I n P o y ∧ ∀ v, v < n → o.testBit v = false → ¬ bb_I n P o (y ^^^ 2 ^ v))) : bb_cn p (2 ^ n) / 2 ^ bb_pc n o = bb_T n P (2 ^ n - 1 - o) := by
  have inv : ∀ v, v < n → o.testBit v = true → ∀ w, w < 2 ^ n → p (w ^^^ 2 ^ v) = p w := by
    intro v hv hov w hw
    apply bb_beq
    rw [hp _ (bb_fx hw hv), hp w hw, bb_I_flip hv hov]
    refine and_congr_right (fun _ => ?_)
    constructor
    · intro h v2 hv2 hov2 q
      refine h v2 hv2 hov2 ?_
      rw [bb_xs, bb_I_flip hv hov]
      exact q
    · intro h v2 hv2 hov2 q
      refine h v2 hv2 hov2 ?_
      rw [bb_xs, bb_I_flip hv hov] at q
      exact q
  rw [bb_cn_free hn p o inv n (Nat.le_refl n), Nat.mul_div_cancel_left _ (Nat.two_pow_pos _)]
  unfold bb_T
  apply bb_cn_congr
  intro w hw
  by_cases c : w &&& (2 ^ n - 1 - o) = w
  · have e1 : bb_ex (fun j => o.testBit j && w.testBit j) n = false := by
      apply bb_ex_f.mpr
      intro j hj
      cases e : w.testBit j with
      | false => rw [Bool.and_false]
      | true =>
        have q := bb_sub.mp c j e
        rw [bb_fj ho, Bool.and_eq_true, Bool.not_eq_true'] at q
        rw [q.2]
        rfl
    rw [e1, decide_eq_true c, Bool.not_false, Bool.and_true, Bool.true_and]
    apply bb_beq
    unfold bb_pr
    have hI : bb_is n P (2 ^ n - 1 - o) w = true ↔ bb_I n P o w := by
      have q := bb_is_I (P := P) ho hw
      rw [c] at q
      exact q
    rw [hp w hw, Bool.and_eq_true, hI, Bool.not_eq_true', bb_ex_f]
    refine and_congr_right (fun hIw => ?_)
    constructor
    · intro h v hv
      cases e : o.testBit v with
      | true =>
        rw [bb_fj ho, e]
        simp
      | false =>
        rw [bb_fj ho, e, decide_eq_true hv, Bool.not_false, Bool.and_true, Bool.true_and]
        cases e2 : bb_is n P (bb_rm (2 ^ n - 1 - o) v) (w &&& bb_rm (2 ^ n - 1 - o) v) with
        | false => rfl
        | true => exact absurd ((bb_is_I2 hn ho hw hv).mp e2).2 (h v hv e)
    · intro h v hv e q
      have z := h v hv
      rw [bb_fj ho, e, decide_eq_true hv, Bool.not_false, Bool.and_true, Bool.true_and, (bb_is_I2 hn ho hw hv).mpr ⟨hIw, q⟩] at z
      cases z
  · have e1 : bb_ex (fun j => o.testBit j && w.testBit j) n = true := by
      cases e : bb_ex (fun j => o.testBit j && w.testBit j) n with
      | true => rfl
      | false =>
        refine absurd (bb_sub.mpr (fun j hj => ?_)) c
        have hjn : j < n := by
          rcases Nat.lt_or_ge j n with h | h
          · exact h
          · rw [bb_hi hw h] at hj
            cases hj
        have q := bb_ex_f.mp e j hjn
        rw [hj, Bool.and_true] at q
        rw [bb_fj ho, q, decide_eq_true hjn]
        rfl
    rw [e1, decide_eq_false c, Bool.not_true, Bool.and_false, Bool.false_and]
section
variable {n d : Nat} {al : Int64} {B S Z A C : Nat → Int64}
theorem bx_pw56 {post : Int32 → Prop} (hz : bb_Z Z) (hn : n ≤ 6) {x : Int64} {o c : Nat} (ho : o < 64) (hc : c ≤ 6)
    (h : ∀ r, (∀ y, y < 64 → bb_t r y = (bb_t x y && !bb_ex (fun v => !o.testBit v && (bb_t x y && bb_t x (y ^^^ 2 ^ v))) n)) → post (nI (bb_cn (bb_t r) 64 / 2 ^ c))) : ∃ m, wX_primesWith_56 post (nI o) x (nI c) (nI n) (nI d) (nI (2 ^ n)) al B S Z A C m 0 0 := by
  refine loop_0 (fun m i s => wX_primesWith_56 post (nI o) x (nI c) (nI n) (nI d) (nI (2 ^ n)) al B S Z A C m s (nI i)) (fun i s => ∀ y, y < 64 → bb_t s y = bb_ex (fun v => !o.testBit v && (bb_t x y && bb_t x (y ^^^ 2 ^ v))) i) n 0 ?_ ?_ ?_
  · intro y _
    exact bb_t_0 y
  · intro m s hI
    refine br_t (Int32.le_refl _) (bx_ones ?_)
    have cl : bb_cn (bb_t (x &&& (s ^^^ (-1)))) 64 ≤ 64 := bb_cn_le _ _
    rw [pk_shrN (by omega) (nI c &&& 31) c (s_l c (by omega))]
    apply h
    intro y hy
    rw [bb_t_and, bb_t_not _ hy, hI y hy]
  · intro m i s hi hI K
    refine br_f (nI_ge hi (by omega)) ?_
    have hb := bb_bit o ho i (by omega)
    cases e : o.testBit i with
    | false =>
      rw [e] at hb
      refine br_t hb (bx_swapped hz (by omega) fun r hr => nm_e (nm_r (nI_1 i) (K _ ?_)))
      intro y hy
      show bb_t (s ||| (x &&& r)) y = (bb_ex (fun v => !o.testBit v && (bb_t x y && bb_t x (y ^^^ 2 ^ v))) i || (!o.testBit i && (bb_t x y && bb_t x (y ^^^ 2 ^ i))))
      rw [bb_t_or, bb_t_and, hI y hy, hr y hy, e]
      simp
    | true =>
      rw [e] at hb
      refine br_f (by rw [hb]; decide) (nm_r (nI_1 i) (K s ?_))
      intro y hy
      show bb_t s y = (bb_ex (fun v => !o.testBit v && (bb_t x y && bb_t x (y ^^^ 2 ^ v))) i || (!o.testBit i && (bb_t x y && bb_t x (y ^^^ 2 ^ i))))
      rw [hI y hy, e]
      simp
theorem bx_primesWith {post : Int32 → Prop} (hz : bb_Z Z) (hn : n ≤ 6) {x : Int64} (hx : bb_W n x) {o : Nat} (ho : o < 2 ^ n) (h : post (nI (bb_T n (bb_t x) (2 ^ n - 1 - o)))) : wpX_primesWith post (nI n, nI d, nI (2 ^ n), al, B, S, Z, A, C) x (nI o) := by
  unfold wpX_primesWith
  dsimp only
  have h64 := bb_64 hn
  refine loop_0 (fun m i s => wX_primesWith_9 post (nI o) (nI n) (nI d) (nI (2 ^ n)) al B S Z A C m s (nI (bb_pc i o)) (nI i)) (fun i s => bb_W n s ∧ ∀ y, y < 2 ^ n → (bb_t s y = true ↔ ∀ z, z < 2 ^ n → bb_E (fun j => o.testBit j) i y z → bb_t x z = true)) n x ?_ ?_ ?_
  · refine ⟨hx, fun y hy => ?_⟩
    constructor
    · intro e z _ u
      rw [bb_E_0.mp u]
      exact e
    · intro e
      exact e y hy (bb_E_0.mpr rfl)
  · intro m s hI
    have hpc := bb_pc_le n o
    refine br_t (Int32.le_refl _) (bx_pw56 hz hn (by omega) (by omega) fun r hr => ?_)
    have hrW : bb_W n r := bb_W_of fun w hw h2 => by
      rw [hr w hw, hI.1 w h2]
      rfl
    have e : bb_cn (bb_t r) 64 = bb_cn (bb_t r) (2 ^ n) := bb_cn_ext h64 hrW
    rw [e, bb_primes (P := bb_t x) hn ho]
    · exact h
    · intro y hy
      rw [hr y (by omega), Bool.and_eq_true, Bool.not_eq_true', bb_ex_f]
      have hIy : bb_t s y = true ↔ bb_I n (bb_t x) o y := hI.2 y hy
      rw [hIy]
      refine and_congr_right (fun hy2 => ?_)
      have e3 := hIy.mpr hy2
      constructor
      · intro q v hv hov z
        have q2 := q v hv
        rw [hov, e3, (hI.2 _ (bb_fx hy hv)).mpr z] at q2
        cases q2
      · intro q v hv
        cases e4 : o.testBit v with
        | true => rfl
        | false =>
          rw [e3]
          cases e5 : bb_t s (y ^^^ 2 ^ v) with
          | false => rfl
          | true => exact absurd ((hI.2 _ (bb_fx hy hv)).mp e5) (q v hv e4)
  · intro m i s hi hI K
    refine br_f (nI_ge hi (by omega)) ?_
    have hb := bb_bit o (by omega) i (by omega)
    have es : bb_pc (i + 1) o = bb_pc i o + (o.testBit i).toNat := rfl
    cases e : o.testBit i with
    | true =>
      rw [e] at hb es
      have es2 : nI (bb_pc i o) + 1 = nI (bb_pc (i + 1) o) := by rw [es, nI_1]; rfl
      refine br_t hb (bx_swapped hz (by omega) fun r hr => nm_e (nm_r es2 (nm_r (nI_1 i) (K _ ⟨?_, ?_⟩))))
      · intro w hw
        rw [bb_t_and, hI.1 w hw]
        rfl
      · intro y hy
        rw [bb_t_and, hr y (by omega), Bool.and_eq_true, hI.2 y hy, hI.2 _ (bb_fx hy hi)]
        constructor
        · rintro ⟨q1, q2⟩ z hz2 u
          rcases (bb_E_op e).mp u with u | u
          · exact q1 z hz2 u
          · exact q2 z hz2 u
        · intro q
          exact ⟨fun z hz2 u => q z hz2 ((bb_E_op e).mpr (Or.inl u)), fun z hz2 u => q z hz2 ((bb_E_op e).mpr (Or.inr u))⟩
    | false =>
      rw [e] at hb es
      have es2 : bb_pc (i + 1) o = bb_pc i o := es
      have K2 : wX_primesWith_9 post (nI o) (nI n) (nI d) (nI (2 ^ n)) al B S Z A C m s (nI (bb_pc (i + 1) o)) (nI (i + 1)) := K s ⟨hI.1, fun y hy => by
        rw [hI.2 y hy]
        constructor
        · intro q z hz2 u
          exact q z hz2 ((bb_E_no e).mp u)
        · intro q z hz2 u
          exact q z hz2 ((bb_E_no e).mpr u)⟩
      rw [es2] at K2
      exact br_f (by rw [hb]; decide) (nm_r (nI_1 i) K2)
theorem bx_primes13 {post : Int32 → Prop} (hz : bb_Z Z) (hn : n ≤ 6) {b : Nat} (hb : b < 3) (hx : bb_W n (B b)) (h : post (nI (bb_sm (fun o => bb_T n (bb_t (B b)) (2 ^ n - 1 - o)) (2 ^ n)))) : ∃ m, wX_primes_13 post (nI b) (nI n) (nI d) (nI (2 ^ n)) al B S Z A C m 0 0 := by
  have h64 := bb_64 hn
  refine loop_0 (fun m i (_ : Unit) => wX_primes_13 post (nI b) (nI n) (nI d) (nI (2 ^ n)) al B S Z A C m (nI (bb_sm (fun o => bb_T n (bb_t (B b)) (2 ^ n - 1 - o)) i)) (nI i)) (fun _ _ => True) (2 ^ n) () trivial ?_ ?_
  · intro m s _
    exact br_t (Int32.le_refl _) h
  · intro m i s hi _ K
    refine br_f (nI_ge hi (by omega)) ⟨vp_in_nI hb (by omega), ?_⟩
    rw [nI_clamp (by omega)]
    exact bx_primesWith hz hn hx hi (nm_r (nI_add _ _) (nm_r (nI_1 i) (K () trivial)))
end
end
section
/-! Y's small methods -/
theorem by_ix (b w : Nat) : (64 * nI b) + nI w = nI (64 * b + w) := by
  show nI 64 * nI b + nI w = _
  rw [pk_mul, nI_add]
theorem by_7 : ∀ e, e < 8 → nI e &&& 7 = nI e := by decide +kernel
/-- a search: the loop law -/
theorem bl_search (W : Nat → Nat → Prop) (p : Nat → Bool) (e : Nat) (post : Bool → Prop) (hp : post (bb_ex p e)) (hx : ∀ m, post false → W (m + 1) e) (hs : ∀ m i, i < e → (p i = true → post true) → (p i = false → W m (i + 1)) → W (m + 1) i) : ∃ m, W m 0 := by
  have key : ∀ k i, i + k = e → (∀ w, w < i → p w = false) → W (k + 1) i := by
    intro k
    induction k with
    | zero =>
      intro i hi hw
      have ei : i = e := hi
      subst ei
      apply hx
      rw [bb_ex_f.mpr hw] at hp
      exact hp
    | succ k ih =>
      intro i hi hw
      refine hs (k + 1) i (by omega) (fun h => ?_) (fun h => ih (i + 1) (by omega) (lt_s hw h))
      have q : bb_ex p e = true := (bb_ex_iff p e).mpr ⟨i, by omega, h⟩
      rw [q] at hp
      exact hp
  exact ⟨e + 1, key e 0 (by omega) (fun w hw => absurd hw (Nat.not_lt_zero w))⟩
/-- a fold: the loop law -/
theorem bl_fold (W : Nat → Nat → Prop) (e : Nat) (hx : ∀ m, W (m + 1) e) (hs : ∀ m i, i < e → W m (i + 1) → W (m + 1) i) : ∃ m, W m 0 := by
  have key : ∀ k i, i + k = e → W (k + 1) i := by
    intro k
    induction k with
    | zero =>
      intro i hi
      have ei : i = e := hi
      subst ei
      exact hx 0
    | succ k ih =>
      intro i hi
      exact hs (k + 1) i (by omega) (ih (i + 1) (by omega))
  exact ⟨e + 1, key e 0 (by omega)⟩
theorem bb_upd {s v : Nat → Int32} {i : Nat} {x : Int32} (hi : i < 2 ^ 31) (h : ∀ w, w < i → s w = v w) (hx : x = v i) : ∀ w, w < i + 1 → upd s (nI i).toNatClampNeg x w = v w := by
  rw [nI_clamp hi]
  intro w hw
  by_cases e : w = i
  · subst e
    rw [pk_us]
    exact hx
  · rw [pk_un e]
    exact h w (by omega)
/-- an array written from o on, up to o + i -/
def bb_O (o i : Nat) (F s v : Nat → Int32) : Prop := (∀ w, w < i → s (o + w) = v w) ∧ ∀ j, (j < o ∨ o + i ≤ j) → s j = F j
theorem bb_O_0 {o : Nat} {F v : Nat → Int32} : bb_O o 0 F F v := ⟨fun w hw => absurd hw (Nat.not_lt_zero w), fun _ _ => rfl⟩
theorem bb_O_s {o i : Nat} {F s v : Nat → Int32} {x : Int32} (h : bb_O o i F s v) (hx : x = v i) : bb_O o (i + 1) F (upd s (o + i) x) v := by
  refine ⟨fun w hw => ?_, fun j hj => ?_⟩
  · by_cases e : w = i
    · subst e
      rw [pk_us]
      exact hx
    · rw [pk_un (by omega)]
      exact h.1 w (by omega)
  · rw [pk_un (by omega)]
    exact h.2 j (by omega)
section
variable {n d : Nat} {H F R G : Nat → Int32}
theorem by_good {post : Int32 → Prop} {b : Nat} (hb : b < 3) (h : post 0) : wpY_badBelief post (nI n, nI (2 ^ n), nI d, H, F, R, G) (nI b) := by
  unfold wpY_badBelief
  exact br_f (nI_pos (by omega)) (br_t (nI_le (b := 2) (by omega) (by decide)) h)
theorem by_bad {post : Int32 → Prop} {x : Int32} (hx : x < 0 ∨ (¬ x < 0 ∧ 2 < x ∧ ¬ x ≤ 2)) (h : post 1) : wpY_badBelief post (nI n, nI (2 ^ n), nI d, H, F, R, G) x := by
  unfold wpY_badBelief
  rcases hx with hx | hx
  · exact br_t hx h
  · exact br_f hx.1 (br_f hx.2.2 h)
theorem by_goodV {post : Int32 → Prop} {v : Nat} (hn : n ≤ 6) (hv : v < n) (h : post 0) : wpY_badVar post (nI n, nI (2 ^ n), nI d, H, F, R, G) (nI v) := by
  unfold wpY_badVar
  exact br_f (nI_pos (by omega)) (br_t (nI_lt hv (by omega)) h)
theorem by_badV {post : Int32 → Prop} {x : Int32} (hx : x < 0 ∨ (¬ x < 0 ∧ nI n ≤ x ∧ ¬ x < nI n)) (h : post 1) : wpY_badVar post (nI n, nI (2 ^ n), nI d, H, F, R, G) x := by
  unfold wpY_badVar
  rcases hx with hx | hx
  · exact br_t hx h
  · exact br_f hx.1 (br_f hx.2.2 h)
theorem by_goodW {post : Int32 → Prop} {v : Nat} (hn : n ≤ 6) (hv : v < 2 ^ n) (h : post 0) : wpY_badWorld post (nI n, nI (2 ^ n), nI d, H, F, R, G) (nI v) := by
  have h64 := bb_64 hn
  unfold wpY_badWorld
  exact br_f (nI_pos (by omega)) (br_f (nI_ge hv (by omega)) (br_t (nI_lt (b := 64) (by omega) (by decide)) h))
theorem by_badW {post : Int32 → Prop} {x : Int32} (hx : x < 0 ∨ (¬ x < 0 ∧ nI (2 ^ n) ≤ x ∧ ¬ x < nI (2 ^ n))) (h : post 1) : wpY_badWorld post (nI n, nI (2 ^ n), nI d, H, F, R, G) x := by
  unfold wpY_badWorld
  rcases hx with hx | hx
  · exact br_t hx h
  · exact br_f hx.1 (br_t hx.2.1 h)
theorem by_in {post : Int32 → Prop} {b w : Nat} {q : Bool} (hb : b < 3) (hw : w < 64) (e : H (64 * b + w) = bb_i q) (h : post (bb_i q)) : wpY_in post (nI n, nI (2 ^ n), nI d, H, F, R, G) (nI b) (nI w) := by
  unfold wpY_in
  dsimp only
  rw [by_ix, nI_clamp (by omega), e]
  exact ⟨vp_in_nI (by omega) (by omega), bb_in _, h⟩
theorem by_top {post : Int32 → Prop} {w : Nat} {q : Bool} (h0 : 0 < d) (h8 : d ≤ 8) (hw : w < 64) (e : F (64 * (d - 1) + w) = bb_i q) (h : post (bb_i q)) : wpY_top post (nI n, nI (2 ^ n), nI d, H, F, R, G) (nI w) := by
  unfold wpY_top
  dsimp only
  rw [bb_pred h0, by_7 (d - 1) (by omega), by_ix, nI_clamp (by omega), e]
  exact ⟨vp_in_nI (by omega) (by omega), bb_in _, h⟩
theorem by_val {post : Int32 → Prop} {w v : Nat} (hw : w < 64) (hv : v < 6) (h : post (bb_i (w.testBit v))) : wpY_valueOf post (nI n, nI (2 ^ n), nI d, H, F, R, G) (nI w) (nI v) := by
  unfold wpY_valueOf
  dsimp only
  rw [bb_bit w hw v hv]
  exact h
theorem by_apart {post : Int32 → Prop} (hn : n ≤ 6) {u w : Nat} (hu : u < 64) (hw : w < 64) (h : post (nI (bb_pc n (u ^^^ w)))) : wpY_apart post (nI n, nI (2 ^ n), nI d, H, F, R, G) (nI u) (nI w) := by
  unfold wpY_apart
  dsimp only
  refine bl_fold (fun m i => wY_apart_5 post (nI u) (nI w) (nI n) (nI (2 ^ n)) (nI d) H F R G m (nI (bb_pc i (u ^^^ w))) (nI i)) n ?_ ?_
  · intro m
    exact br_t (Int32.le_refl _) h
  · intro m i hi K
    have K2 : wY_apart_5 post (nI u) (nI w) (nI n) (nI (2 ^ n)) (nI d) H F R G m (nI (bb_pc i (u ^^^ w) + ((u ^^^ w).testBit i).toNat)) (nI (i + 1)) := K
    rw [Nat.testBit_xor] at K2
    refine br_f (nI_ge hi (by omega)) (by_val hu (by omega) (by_val hw (by omega) ?_))
    by_cases c : u.testBit i = w.testBit i
    · have z : (u.testBit i ^^ w.testBit i).toNat = 0 := by rw [c]; cases w.testBit i <;> rfl
      rw [z] at K2
      exact br_t (by rw [c]) (nm_r (nI_1 i) K2)
    · have z : (u.testBit i ^^ w.testBit i).toNat = 1 := by
        revert c
        cases u.testBit i <;> cases w.testBit i <;> simp
      rw [z] at K2
      exact br_f (fun q => c (bb_ii.mp q)) (nm_r (nI_1 _) (nm_r (nI_1 i) K2))
theorem by_dist {post : Int32 → Prop} (hn : n ≤ 6) {b u : Nat} {P : Nat → Bool} (hb : b < 3) (hu : u < 64) (hH : ∀ w, w < 2 ^ n → H (64 * b + w) = bb_i (P w)) (h : post (nI (bb_D n P u))) : wpY_distanceFrom post (nI n, nI (2 ^ n), nI d, H, F, R, G) (nI b) (nI u) := by
  have h64 := bb_64 hn
  unfold wpY_distanceFrom
  dsimp only
  refine nm_r (nI_1 n) (bl_fold (fun m i => wY_distanceFrom_10 post (nI b) (nI u) (nI n) (nI (2 ^ n)) (nI d) H F R G m (nI (bb_mn (n + 1) P (fun w => bb_pc n (u ^^^ w)) i)) (nI i)) (2 ^ n) ?_ ?_)
  · intro m
    exact br_t (Int32.le_refl _) h
  · intro m i hi K
    have K2 : wY_distanceFrom_10 post (nI b) (nI u) (nI n) (nI (2 ^ n)) (nI d) H F R G m (nI (if P i = true ∧ bb_pc n (u ^^^ i) < bb_mn (n + 1) P (fun w => bb_pc n (u ^^^ w)) i then bb_pc n (u ^^^ i) else bb_mn (n + 1) P (fun w => bb_pc n (u ^^^ w)) i)) (nI (i + 1)) := K
    have hl := bb_mn_s (n + 1) P (fun w => bb_pc n (u ^^^ w)) i
    have hp := bb_pc_le n (u ^^^ i)
    generalize bb_mn (n + 1) P (fun w => bb_pc n (u ^^^ w)) i = l at *
    refine br_f (nI_ge hi (by omega)) (by_in hb (by omega) (hH i hi) ?_)
    cases c : P i with
    | false =>
      rw [c, if_neg (by simp)] at K2
      exact br_t rfl (nm_r (nI_1 i) K2)
    | true =>
      refine br_f (by decide) (by_apart hn hu (by omega) ?_)
      by_cases c2 : bb_pc n (u ^^^ i) < l
      · rw [if_pos ⟨c, c2⟩] at K2
        exact br_f (nI_ge c2 (by omega)) (nm_r (nI_1 i) K2)
      · rw [if_neg (fun z => c2 z.2)] at K2
        exact br_t (nI_le (by omega) (by omega)) (nm_r (nI_1 i) K2)
/-- belief b of H overwritten by q -/
def bb_St (n b : Nat) (H H' : Nat → Int32) (q : Nat → Bool) : Prop := (∀ w, w < 2 ^ n → H' (64 * b + w) = bb_i (q w)) ∧ ∀ j, (j < 64 * b ∨ 64 * b + 64 ≤ j) → H' j = H j
theorem by_store {post : Int32 → SY → Prop} (hn : n ≤ 6) {b : Nat} {q : Nat → Bool} (hb : b < 3) (hR : ∀ w, w < 2 ^ n → R w = bb_i (q w)) (h : ∀ H', bb_St n b H H' q → post (nI (bb_cn q (2 ^ n))) (nI n, nI (2 ^ n), nI d, H', F, R, G)) : wpY_store post (nI n, nI (2 ^ n), nI d, H, F, R, G) (nI b) := by
  have h64 := bb_64 hn
  unfold wpY_store
  dsimp only
  refine loop_0 (fun m i s => wY_store_4 post (nI b) (nI n) (nI (2 ^ n)) (nI d) m (nI (bb_cn q i)) (nI i) s F R G) (fun i s => bb_O (64 * b) i H s (fun w => bb_i (q w))) (2 ^ n) H bb_O_0 ?_ ?_
  · intro m s hI
    exact br_t (Int32.le_refl _) (h s ⟨hI.1, fun j hj => hI.2 j (by omega)⟩)
  · intro m i s hi hI K
    refine br_f (nI_ge hi (by omega)) (br_f (nI_ge (b := 64) (by omega) (by decide)) ?_)
    rw [by_ix, nI_clamp (n := i) (by omega), nI_clamp (n := 64 * b + i) (by omega), hR i hi, bb_iv]
    refine ⟨vp_in_nI (by omega) (by omega), vp_in_nI (by omega) (by omega), nm_e ⟨vp_in_nI (by omega) (by omega), ?_⟩⟩
    have K2 : wY_store_4 post (nI b) (nI n) (nI (2 ^ n)) (nI d) m (nI (bb_cn q i + (q i).toNat)) (nI (i + 1)) (upd s (64 * b + i) (bb_i (q i))) F R G := K _ (bb_O_s hI rfl)
    cases c : q i with
    | false =>
      rw [c] at K2
      exact br_t rfl (nm_r (nI_1 i) K2)
    | true =>
      rw [c] at K2
      exact br_f (by decide) (nm_r (nI_1 _) (nm_r (nI_1 i) K2))
theorem by_least {post : Int32 → Prop} (hn : n ≤ 6) (h0 : 0 < d) (h8 : d ≤ 8) {f : Nat → Bool} {g : Nat → Nat} (hF : ∀ w, w < 2 ^ n → F (64 * (d - 1) + w) = bb_i (f w)) (hG : ∀ w, w < 2 ^ n → G w = nI (g w)) (hg : ∀ w, w < 2 ^ n → g w < 1000) {t : Bool}
    (h : post (nI (bb_mn 1000 (fun w => f w == t) g (2 ^ n)))) : wpY_leastFar post (nI n, nI (2 ^ n), nI d, H, F, R, G) (bb_i t) := by
  have h64 := bb_64 hn
  unfold wpY_leastFar
  dsimp only
  refine bl_fold (fun m i => wY_leastFar_6 post (bb_i t) (nI n) (nI (2 ^ n)) (nI d) H F R G m (nI (bb_mn 1000 (fun w => f w == t) g i)) (nI i)) (2 ^ n) ?_ ?_
  · intro m
    exact br_t (Int32.le_refl _) h
  · intro m i hi K
    have K2 : wY_leastFar_6 post (bb_i t) (nI n) (nI (2 ^ n)) (nI d) H F R G m (nI (if (f i == t) = true ∧ g i < bb_mn 1000 (fun w => f w == t) g i then g i else bb_mn 1000 (fun w => f w == t) g i)) (nI (i + 1)) := K
    have hl := bb_mn_s 1000 (fun w => f w == t) g i
    have hp := hg i hi
    generalize bb_mn 1000 (fun w => f w == t) g i = l at *
    refine br_f (nI_ge hi (by omega)) (br_f (nI_ge (b := 64) (by omega) (by decide)) (by_top h0 h8 (by omega) (hF i hi) ?_))
    rw [nI_clamp (n := i) (by omega), hG i hi]
    by_cases c : f i = t
    · refine br_t (by rw [c]) ⟨vp_in_nI (by omega) (by omega), ?_⟩
      by_cases c2 : g i < l
      · rw [if_pos ⟨by rw [c]; exact beq_self_eq_true t, c2⟩] at K2
        exact br_f (nI_ge c2 (by omega)) ⟨vp_in_nI (by omega) (by omega), nm_e (nm_r (nI_1 i) K2)⟩
      · rw [if_neg (fun z => c2 z.2)] at K2
        exact br_t (nI_le (by omega) (by omega)) (nm_r (nI_1 i) K2)
    · rw [if_neg (fun z => c (eq_of_beq z.1))] at K2
      exact br_f (fun z => c (bb_ii.mp z)) (nm_r (nI_1 i) K2)
end
end
section
/-! Y's methods that store -/
def bb_j (k : Nat) (a b : Bool) : Bool := if k = 1 then a && b else if k = 2 then a || b else if k = 3 then a ^^ b else !a || b
section
variable {n d : Nat} {H F R G : Nat → Int32}
theorem by_atom24 {post : Int32 → SY → Prop} (hn : n ≤ 6) (h8 : d < 8) {v : Nat} (hv : v < n) (h : ∀ F', bb_O (64 * d) (2 ^ n) F F' (fun w => bb_i (w.testBit v)) → post (nI (d + 1)) (nI n, nI (2 ^ n), nI (d + 1), H, F', R, G)) : ∃ m, wY_atom_24 post (nI v) (nI n) (nI (2 ^ n)) (nI d) m 0 H F R G := by
  have h64 := bb_64 hn
  refine loop_0 (fun m i s => wY_atom_24 post (nI v) (nI n) (nI (2 ^ n)) (nI d) m (nI i) H s R G) (fun i s => bb_O (64 * d) i F s (fun w => bb_i (w.testBit v))) (2 ^ n) F bb_O_0 ?_ ?_
  · intro m s hI
    refine br_t (Int32.le_refl _) ?_
    unfold wY_atom_76
    exact nm_r (nI_1 d) (h s hI)
  · intro m i s hi hI K
    refine br_f (nI_ge hi (by omega)) (br_f (nI_ge (b := 64) (by omega) (by decide)) (by_val (by omega) (by omega) ?_))
    rw [by_7 d h8, by_ix, nI_clamp (n := 64 * d + i) (by omega)]
    have hin : vp_in (nI (64 * d + i)) 512 := vp_in_nI (by omega) (by omega)
    cases c : i.testBit v with
    | true => exact br_t rfl ⟨hin, nm_e (nm_r (nI_1 i) (K _ (bb_O_s hI (by rw [c]; rfl))))⟩
    | false => exact br_f (by decide) ⟨hin, nm_e (nm_r (nI_1 i) (K _ (bb_O_s hI (by rw [c]; rfl))))⟩
theorem by_quote24 {post : Int32 → SY → Prop} (hn : n ≤ 6) (h8 : d < 8) {b : Nat} (hb : b < 3) {P : Nat → Bool} (hH : ∀ w, w < 2 ^ n → H (64 * b + w) = bb_i (P w)) (h : ∀ F', bb_O (64 * d) (2 ^ n) F F' (fun w => bb_i (P w)) → post (nI (d + 1)) (nI n, nI (2 ^ n), nI (d + 1), H, F', R, G)) : ∃ m, wY_quote_24 post (nI b) (nI n) (nI (2 ^ n)) (nI d) m 0 H F R G := by
  have h64 := bb_64 hn
  refine loop_0 (fun m i s => wY_quote_24 post (nI b) (nI n) (nI (2 ^ n)) (nI d) m (nI i) H s R G) (fun i s => bb_O (64 * d) i F s (fun w => bb_i (P w))) (2 ^ n) F bb_O_0 ?_ ?_
  · intro m s hI
    refine br_t (Int32.le_refl _) ?_
    unfold wY_quote_67
    exact nm_r (nI_1 d) (h s hI)
  · intro m i s hi hI K
    refine br_f (nI_ge hi (by omega)) (br_f (nI_ge (b := 64) (by omega) (by decide)) (by_in hb (by omega) (hH i hi) ?_))
    rw [by_7 d h8, by_ix, nI_clamp (n := 64 * d + i) (by omega)]
    exact ⟨vp_in_nI (by omega) (by omega), nm_e (nm_r (nI_1 i) (K _ (bb_O_s hI (bb_iv _))))⟩
theorem by_joined {post : Int32 → Prop} {k : Nat} (h1 : 1 ≤ k) (h4 : k ≤ 4) {a b : Bool} (h : post (bb_i (bb_j k a b))) : wpY_joined post (nI n, nI (2 ^ n), nI d, H, F, R, G) (nI k) (bb_i a) (bb_i b) := by
  unfold wpY_joined
  dsimp only
  have hk : k = 1 ∨ k = 2 ∨ k = 3 ∨ k = 4 := by omega
  rcases hk with rfl | rfl | rfl | rfl
  · refine br_t (by decide) ?_
    cases a with
    | false => exact br_t rfl h
    | true =>
      refine br_f (by decide) ?_
      cases b with
      | false => exact br_t rfl h
      | true => exact br_f (by decide) h
  · refine br_f (by decide) (br_t (by decide) ?_)
    cases a with
    | true => exact br_f (by decide) h
    | false =>
      refine br_t rfl ?_
      cases b with
      | false => exact br_t rfl h
      | true => exact br_f (by decide) h
  · refine br_f (by decide) (br_f (by decide) (br_t (by decide) ?_))
    cases a with
    | true =>
      cases b with
      | true => exact br_t rfl h
      | false => exact br_f (by decide) h
    | false =>
      cases b with
      | false => exact br_t rfl h
      | true => exact br_f (by decide) h
  · refine br_f (by decide) (br_f (by decide) (br_f (by decide) ?_))
    cases a with
    | false => exact br_t rfl h
    | true =>
      refine br_f (by decide) ?_
      cases b with
      | false => exact br_t rfl h
      | true => exact br_f (by decide) h
theorem by_con49 {post : Int32 → SY → Prop} (hn : n ≤ 6) {o : Nat} (ho : o ≤ 448) {f : Nat → Bool} (hF : ∀ w, w < 2 ^ n → F (o + w) = bb_i (f w)) (h : ∀ F', bb_O o (2 ^ n) F F' (fun w => bb_i (!f w)) → post (nI d) (nI n, nI (2 ^ n), nI d, H, F', R, G)) : ∃ m, wY_connect_49 post (nI o) (nI n) (nI (2 ^ n)) (nI d) m 0 H F R G := by
  have h64 := bb_64 hn
  refine loop_0 (fun m i s => wY_connect_49 post (nI o) (nI n) (nI (2 ^ n)) (nI d) m (nI i) H s R G) (fun i s => bb_O o i F s (fun w => bb_i (!f w))) (2 ^ n) F bb_O_0 ?_ ?_
  · intro m s hI
    exact br_t (Int32.le_refl _) (h s hI)
  · intro m i s hi hI K
    refine br_f (nI_ge hi (by omega)) (br_f (nI_ge (b := 64) (by omega) (by decide)) ?_)
    have hin : vp_in (nI (o + i)) 512 := vp_in_nI (by omega) (by omega)
    have e : s (o + i) = bb_i (f i) := by rw [hI.2 (o + i) (Or.inr (Nat.le_refl _)), hF i hi]
    rw [nI_add, nI_clamp (n := o + i) (by omega), e]
    refine ⟨hin, ?_⟩
    cases c : f i with
    | false => exact br_t rfl ⟨hin, nm_e (nm_r (nI_1 i) (K _ (bb_O_s hI (by rw [c]; rfl))))⟩
    | true => exact br_f (by decide) ⟨hin, nm_e (nm_r (nI_1 i) (K _ (bb_O_s hI (by rw [c]; rfl))))⟩
theorem by_con114 {post : Int32 → SY → Prop} (hn : n ≤ 6) (hd : 0 < d) {k o q : Nat} (h1 : 1 ≤ k) (h4 : k ≤ 4) (ho : o + 64 ≤ q) (hq : q ≤ 448) {f g : Nat → Bool} (hF : ∀ w, w < 2 ^ n → F (q + w) = bb_i (f w)) (hG : ∀ w, w < 2 ^ n → F (o + w) = bb_i (g w))
    (h : ∀ F', bb_O o (2 ^ n) F F' (fun w => bb_i (bb_j k (g w) (f w))) → post (nI (d - 1)) (nI n, nI (2 ^ n), nI (d - 1), H, F', R, G)) : ∃ m, wY_connect_114 post (nI k) (nI q) (nI o) (nI n) (nI (2 ^ n)) (nI d) m 0 H F R G := by
  have h64 := bb_64 hn
  refine loop_0 (fun m i s => wY_connect_114 post (nI k) (nI q) (nI o) (nI n) (nI (2 ^ n)) (nI d) m (nI i) H s R G) (fun i s => bb_O o i F s (fun w => bb_i (bb_j k (g w) (f w)))) (2 ^ n) F bb_O_0 ?_ ?_
  · intro m s hI
    refine br_t (Int32.le_refl _) ?_
    unfold wY_connect_168
    exact nm_r (bb_pred hd) (h s hI)
  · intro m i s hi hI K
    refine br_f (nI_ge hi (by omega)) (br_f (nI_ge (b := 64) (by omega) (by decide)) ?_)
    have hin : vp_in (nI (o + i)) 512 := vp_in_nI (by omega) (by omega)
    have hin2 : vp_in (nI (q + i)) 512 := vp_in_nI (by omega) (by omega)
    have e : s (o + i) = bb_i (g i) := by rw [hI.2 (o + i) (Or.inr (Nat.le_refl _)), hG i hi]
    have e2 : s (q + i) = bb_i (f i) := by rw [hI.2 (q + i) (Or.inr (by omega)), hF i hi]
    rw [nI_add o i, nI_add q i, nI_clamp (n := o + i) (by omega), nI_clamp (n := q + i) (by omega), e, e2]
    exact ⟨hin, hin2, by_joined h1 h4 ⟨hin, nm_e (nm_r (nI_1 i) (K _ (bb_O_s hI (bb_iv _))))⟩⟩
theorem by_expand22 {post : Int32 → SY → Prop} (hn : n ≤ 6) (h0 : 0 < d) (h8 : d ≤ 8) {b : Nat} (hb : b < 3) {P f : Nat → Bool} (hH : ∀ w, w < 2 ^ n → H (64 * b + w) = bb_i (P w)) (hF : ∀ w, w < 2 ^ n → F (64 * (d - 1) + w) = bb_i (f w))
    (h : ∀ H' R', bb_St n b H H' (fun w => P w && f w) → post (nI (bb_cn (fun w => P w && f w) (2 ^ n))) (nI n, nI (2 ^ n), nI (d - 1), H', F, R', G)) : ∃ m, wY_expand_22 post (nI b) (nI n) (nI (2 ^ n)) (nI d) m 0 H F R G := by
  have h64 := bb_64 hn
  refine loop_0 (fun m i s => wY_expand_22 post (nI b) (nI n) (nI (2 ^ n)) (nI d) m (nI i) H F s G) (fun i s => ∀ w, w < i → s w = bb_i (P w && f w)) (2 ^ n) R (fun w hw => absurd hw (Nat.not_lt_zero w)) ?_ ?_
  · intro m s hI
    refine br_t (Int32.le_refl _) ?_
    unfold wY_expand_70
    exact nm_r (bb_pred h0) (by_store hn hb hI (fun H' hS => h H' s hS))
  · intro m i s hi hI K
    refine br_f (nI_ge hi (by omega)) (br_f (nI_ge (b := 64) (by omega) (by decide)) (by_in hb (by omega) (hH i hi) ?_))
    have hin : vp_in (nI i) 64 := vp_in_nI (by omega) (by omega)
    have U : ∀ x, x = bb_i (P i && f i) → ∀ w, w < i + 1 → upd s (nI i).toNatClampNeg x w = bb_i (P w && f w) := fun x hx => bb_upd (v := fun w => bb_i (P w && f w)) (by omega) hI hx
    cases c : P i with
    | false => exact br_t rfl ⟨hin, nm_e (nm_r (nI_1 i) (K _ (U _ (by rw [c]; rfl))))⟩
    | true =>
      refine br_f (by decide) (by_top h0 h8 (by omega) (hF i hi) ?_)
      cases c2 : f i with
      | false => exact br_t rfl ⟨hin, nm_e (nm_r (nI_1 i) (K _ (U _ (by rw [c, c2]; rfl))))⟩
      | true => exact br_f (by decide) ⟨hin, nm_e (nm_r (nI_1 i) (K _ (U _ (by rw [c, c2]; rfl))))⟩
theorem by_rev62 {post : Int32 → SY → Prop} (hn : n ≤ 6) (h0 : 0 < d) (h8 : d ≤ 8) {b : Nat} (hb : b < 3) {f : Nat → Bool} {g : Nat → Nat} {L : Nat} (hL : L ≤ 1000) (hF : ∀ w, w < 2 ^ n → F (64 * (d - 1) + w) = bb_i (f w)) (hG : ∀ w, w < 2 ^ n → G w = nI (g w)) (hg : ∀ w, w < 2 ^ n → g w < 1000)
    (h : ∀ H' R', bb_St n b H H' (fun w => f w && decide (g w = L)) → post (nI (bb_cn (fun w => f w && decide (g w = L)) (2 ^ n))) (nI n, nI (2 ^ n), nI (d - 1), H', F, R', G)) : ∃ m, wY_revise_62 post (nI b) (nI L) (nI n) (nI (2 ^ n)) (nI d) m 0 H F R G := by
  have h64 := bb_64 hn
  refine loop_0 (fun m i s => wY_revise_62 post (nI b) (nI L) (nI n) (nI (2 ^ n)) (nI d) m (nI i) H F s G) (fun i s => ∀ w, w < i → s w = bb_i (f w && decide (g w = L))) (2 ^ n) R (fun w hw => absurd hw (Nat.not_lt_zero w)) ?_ ?_
  · intro m s hI
    refine br_t (Int32.le_refl _) ?_
    unfold wY_revise_111
    exact nm_r (bb_pred h0) (by_store hn hb hI (fun H' hS => h H' s hS))
  · intro m i s hi hI K
    refine br_f (nI_ge hi (by omega)) (br_f (nI_ge (b := 64) (by omega) (by decide)) (by_top h0 h8 (by omega) (hF i hi) ?_))
    have hin : vp_in (nI i) 64 := vp_in_nI (by omega) (by omega)
    have hgi := hg i hi
    have U : ∀ x, x = bb_i (f i && decide (g i = L)) → ∀ w, w < i + 1 → upd s (nI i).toNatClampNeg x w = bb_i (f w && decide (g w = L)) := fun x hx => bb_upd (v := fun w => bb_i (f w && decide (g w = L))) (by omega) hI hx
    cases c : f i with
    | false => exact br_t rfl ⟨hin, nm_e (nm_r (nI_1 i) (K _ (U _ (by rw [c]; rfl))))⟩
    | true =>
      refine br_f (by decide) ⟨hin, ?_⟩
      have e : G (nI i).toNatClampNeg = nI (g i) := by rw [nI_clamp (by omega), hG i hi]
      rw [e]
      by_cases c2 : g i = L
      · exact br_t (by rw [c2]) ⟨hin, nm_e (nm_r (nI_1 i) (K _ (U _ (by rw [c, decide_eq_true c2]; rfl))))⟩
      · exact br_f (fun z => c2 ((nI_eq (by omega) (by omega)).mp z)) ⟨hin, nm_e (nm_r (nI_1 i) (K _ (U _ (by rw [c, decide_eq_false c2]; rfl))))⟩
theorem by_rev22 {post : Int32 → SY → Prop} (hn : n ≤ 6) {b : Nat} (hb : b < 3) {P : Nat → Bool} (hH : ∀ w, w < 2 ^ n → H (64 * b + w) = bb_i (P w))
    (h : ∀ G', (∀ w, w < 2 ^ n → G' w = nI (bb_D n P w)) → wY_revise_54 post (nI b) (nI n) (nI (2 ^ n)) (nI d) H F R G') : ∃ m, wY_revise_22 post (nI b) (nI n) (nI (2 ^ n)) (nI d) m 0 H F R G := by
  have h64 := bb_64 hn
  refine loop_0 (fun m i s => wY_revise_22 post (nI b) (nI n) (nI (2 ^ n)) (nI d) m (nI i) H F R s) (fun i s => ∀ w, w < i → s w = nI (bb_D n P w)) (2 ^ n) G (fun w hw => absurd hw (Nat.not_lt_zero w)) ?_ ?_
  · intro m s hI
    exact br_t (Int32.le_refl _) (h s hI)
  · intro m i s hi hI K
    refine br_f (nI_ge hi (by omega)) (br_f (nI_ge (b := 64) (by omega) (by decide)) (by_dist hn hb (by omega) hH ⟨vp_in_nI (by omega) (by omega), nm_e (nm_r (nI_1 i) (K _ ?_))⟩))
    exact bb_upd (v := fun w => nI (bb_D n P w)) (by omega) hI rfl
theorem bb_D_k {n : Nat} (hn : n ≤ 6) (P : Nat → Bool) (w : Nat) : bb_D n P w < 8 := Nat.lt_of_le_of_lt (bb_D_top n P w) (by omega)
theorem by_revise {post : Int32 → SY → Prop} (hn : n ≤ 6) (h0 : 0 < d) (h8 : d ≤ 8) {b : Nat} (hb : b < 3) {P f : Nat → Bool} (hH : ∀ w, w < 2 ^ n → H (64 * b + w) = bb_i (P w)) (hF : ∀ w, w < 2 ^ n → F (64 * (d - 1) + w) = bb_i (f w))
    (h : ∀ H' R' G', bb_St n b H H' (fun w => f w && decide (bb_D n P w = bb_mn 1000 f (bb_D n P) (2 ^ n))) → post (nI (bb_cn (fun w => f w && decide (bb_D n P w = bb_mn 1000 f (bb_D n P) (2 ^ n))) (2 ^ n))) (nI n, nI (2 ^ n), nI (d - 1), H', F, R', G')) : ∃ m, wY_revise_22 post (nI b) (nI n) (nI (2 ^ n)) (nI d) m 0 H F R G := by
  refine by_rev22 hn hb hH fun G' hG => ?_
  have hg : ∀ w, w < 2 ^ n → bb_D n P w < 1000 := fun w _ => Nat.lt_trans (bb_D_k hn P w) (by decide)
  unfold wY_revise_54
  refine by_least (t := true) hn h0 h8 hF hG hg ?_
  have e : bb_mn 1000 (fun w => f w == true) (bb_D n P) (2 ^ n) = bb_mn 1000 f (bb_D n P) (2 ^ n) := bb_mn_congr (fun w _ => by cases f w <;> rfl) (fun _ _ => rfl)
  rw [e]
  exact by_rev62 hn h0 h8 hb (bb_mn_s _ _ _ _) hF hG hg (fun H' R' hS => h H' R' G' hS)
end
end
section
/-! Y's methods that store: update, giveUp, forget, merge, copy -/
section
variable {n d : Nat} {H F R G : Nat → Int32}
theorem by_nearer {post : Int32 → Prop} (hn : n ≤ 6) (h0 : 0 < d) (h8 : d ≤ 8) {u w : Nat} (hu : u < 64) (hw : w < 64) {f : Nat → Bool} (hF : ∀ w, w < 2 ^ n → F (64 * (d - 1) + w) = bb_i (f w)) (h : post (bb_i (bb_nr n f u w))) : wpY_nearer post (nI n, nI (2 ^ n), nI d, H, F, R, G) (nI u) (nI w) := by
  have h64 := bb_64 hn
  unfold wpY_nearer
  dsimp only
  refine nm_r (nx_xor u w) (bl_search (fun m i => wY_nearer_7 post (nI w) (nI (u ^^^ w)) (nI n) (nI (2 ^ n)) (nI d) H F R G m (nI i)) (fun x => f x && (!decide (x ^^^ w = u ^^^ w) && decide ((x ^^^ w) &&& (u ^^^ w) = x ^^^ w))) (2 ^ n) (fun r => post (bb_i r)) h ?_ ?_)
  · intro m hp
    exact br_t (Int32.le_refl _) hp
  · intro m i hi ht hf
    have hu6 : u ^^^ w < 64 := Nat.xor_lt_two_pow (n := 6) hu hw
    have hi6 : i ^^^ w < 64 := Nat.xor_lt_two_pow (n := 6) (show i < 64 by omega) hw
    have ha6 : (i ^^^ w) &&& (u ^^^ w) < 64 := Nat.lt_of_le_of_lt Nat.and_le_left hi6
    refine br_f (nI_ge hi (by omega)) (nm_r (nx_xor i w) (by_top h0 h8 (by omega) (hF i hi) ?_))
    cases c : f i with
    | false => exact br_t rfl (nm_r (nI_1 i) (hf (by rw [c]; rfl)))
    | true =>
      refine br_f (by decide) ?_
      by_cases c2 : i ^^^ w = u ^^^ w
      · exact br_t (by rw [c2]) (nm_r (nI_1 i) (hf (by rw [c, decide_eq_true c2]; rfl)))
      · refine br_f (fun z => c2 ((nI_eq (by omega) (by omega)).mp z)) ?_
        rw [nx_and]
        by_cases c3 : (i ^^^ w) &&& (u ^^^ w) = i ^^^ w
        · exact br_t (by rw [c3]) (ht (by rw [c, decide_eq_false c2, decide_eq_true c3]; rfl))
        · exact br_f (fun z => c3 ((nI_eq (by omega) (by omega)).mp z)) (nm_r (nI_1 i) (hf (by rw [c, decide_eq_false c3, Bool.and_false, Bool.and_false])))
theorem by_reached {post : Int32 → Prop} (hn : n ≤ 6) (h0 : 0 < d) (h8 : d ≤ 8) {b u : Nat} (hb : b < 3) (hu : u < 64) {P f : Nat → Bool} (hH : ∀ w, w < 2 ^ n → H (64 * b + w) = bb_i (P w)) (hF : ∀ w, w < 2 ^ n → F (64 * (d - 1) + w) = bb_i (f w)) (h : post (bb_i (bb_ex (fun w => P w && !bb_nr n f u w) (2 ^ n)))) : wpY_reached post (nI n, nI (2 ^ n), nI d, H, F, R, G) (nI b) (nI u) := by
  have h64 := bb_64 hn
  unfold wpY_reached
  dsimp only
  refine bl_search (fun m i => wY_reached_2 post (nI b) (nI u) (nI n) (nI (2 ^ n)) (nI d) H F R G m (nI i)) (fun w => P w && !bb_nr n f u w) (2 ^ n) (fun r => post (bb_i r)) h ?_ ?_
  · intro m hp
    exact br_t (Int32.le_refl _) hp
  · intro m i hi ht hf
    refine br_f (nI_ge hi (by omega)) (by_in hb (by omega) (hH i hi) ?_)
    cases c : P i with
    | false => exact br_t rfl (nm_r (nI_1 i) (hf (by rw [c]; rfl)))
    | true =>
      refine br_f (by decide) (by_nearer hn h0 h8 hu (by omega) hF ?_)
      cases c2 : bb_nr n f u i with
      | false => exact br_t rfl (ht (by rw [c, c2]; rfl))
      | true => exact br_f (by decide) (nm_r (nI_1 i) (hf (by rw [c, c2]; rfl)))
theorem by_upd22 {post : Int32 → SY → Prop} (hn : n ≤ 6) (h0 : 0 < d) (h8 : d ≤ 8) {b : Nat} (hb : b < 3) {P f : Nat → Bool} (hH : ∀ w, w < 2 ^ n → H (64 * b + w) = bb_i (P w)) (hF : ∀ w, w < 2 ^ n → F (64 * (d - 1) + w) = bb_i (f w))
    (h : ∀ H' R', bb_St n b H H' (bb_u n P f (2 ^ n)) → post (nI (bb_cn (bb_u n P f (2 ^ n)) (2 ^ n))) (nI n, nI (2 ^ n), nI (d - 1), H', F, R', G)) : ∃ m, wY_update_22 post (nI b) (nI n) (nI (2 ^ n)) (nI d) m 0 H F R G := by
  have h64 := bb_64 hn
  refine loop_0 (fun m i s => wY_update_22 post (nI b) (nI n) (nI (2 ^ n)) (nI d) m (nI i) H F s G) (fun i s => ∀ w, w < i → s w = bb_i (bb_u n P f (2 ^ n) w)) (2 ^ n) R (fun w hw => absurd hw (Nat.not_lt_zero w)) ?_ ?_
  · intro m s hI
    refine br_t (Int32.le_refl _) ?_
    unfold wY_update_70
    exact nm_r (bb_pred h0) (by_store hn hb hI (fun H' hS => h H' s hS))
  · intro m i s hi hI K
    refine br_f (nI_ge hi (by omega)) (br_f (nI_ge (b := 64) (by omega) (by decide)) (by_top h0 h8 (by omega) (hF i hi) ?_))
    have hin : vp_in (nI i) 64 := vp_in_nI (by omega) (by omega)
    have U : ∀ x, x = bb_i (bb_u n P f (2 ^ n) i) → ∀ w, w < i + 1 → upd s (nI i).toNatClampNeg x w = bb_i (bb_u n P f (2 ^ n) w) := fun x hx => bb_upd (v := fun w => bb_i (bb_u n P f (2 ^ n) w)) (by omega) hI hx
    unfold bb_u at U
    cases c : f i with
    | false => exact br_t rfl ⟨hin, nm_e (nm_r (nI_1 i) (K _ (U _ (by rw [c]; rfl))))⟩
    | true =>
      refine br_f (by decide) (by_reached hn h0 h8 hb (by omega) hH hF ?_)
      cases c2 : bb_ex (fun w => P w && !bb_nr n f i w) (2 ^ n) with
      | false => exact br_t rfl ⟨hin, nm_e (nm_r (nI_1 i) (K _ (U _ (by rw [c, c2]; rfl))))⟩
      | true => exact br_f (by decide) ⟨hin, nm_e (nm_r (nI_1 i) (K _ (U _ (by rw [c, c2]; rfl))))⟩
/-- what giving up leaves -/
def bb_gq (n : Nat) (P f : Nat → Bool) (u : Nat) : Bool := P u || (!bb_ex (fun w => P w && !f w) (2 ^ n) && (!f u && decide (bb_D n P u = bb_mn 1000 (fun w => f w == false) (bb_D n P) (2 ^ n))))
theorem by_gu172 {post : Int32 → SY → Prop} (hn : n ≤ 6) (h0 : 0 < d) {b : Nat} (hb : b < 3) {q : Nat → Bool} (hR : ∀ w, w < 2 ^ n → R w = bb_i (q w)) (h : ∀ H', bb_St n b H H' q → post (nI (bb_cn q (2 ^ n))) (nI n, nI (2 ^ n), nI (d - 1), H', F, R, G)) : wY_giveUp_172 post (nI b) (nI n) (nI (2 ^ n)) (nI d) H F R G := by
  unfold wY_giveUp_172
  exact nm_r (bb_pred h0) (by_store hn hb hR h)
theorem by_gu122 {post : Int32 → SY → Prop} (hn : n ≤ 6) (h0 : 0 < d) (h8 : d ≤ 8) {b : Nat} (hb : b < 3) {P f : Nat → Bool} {g : Nat → Nat} {L : Nat} (hL : L ≤ 1000) (hF : ∀ w, w < 2 ^ n → F (64 * (d - 1) + w) = bb_i (f w)) (hG : ∀ w, w < 2 ^ n → G w = nI (g w)) (hg : ∀ w, w < 2 ^ n → g w < 1000) (hR : ∀ w, w < 2 ^ n → R w = bb_i (P w))
    (h : ∀ H' R', bb_St n b H H' (fun w => P w || (!f w && decide (g w = L))) → post (nI (bb_cn (fun w => P w || (!f w && decide (g w = L))) (2 ^ n))) (nI n, nI (2 ^ n), nI (d - 1), H', F, R', G)) : ∃ m, wY_giveUp_122 post (nI b) (nI L) (nI n) (nI (2 ^ n)) (nI d) m 0 H F R G := by
  have h64 := bb_64 hn
  refine loop_0 (fun m i s => wY_giveUp_122 post (nI b) (nI L) (nI n) (nI (2 ^ n)) (nI d) m (nI i) H F s G) (fun i s => (∀ w, w < i → s w = bb_i (P w || (!f w && decide (g w = L)))) ∧ ∀ w, i ≤ w → w < 2 ^ n → s w = bb_i (P w)) (2 ^ n) R ⟨fun w hw => absurd hw (Nat.not_lt_zero w), fun w _ => hR w⟩ ?_ ?_
  · intro m s hI
    exact br_t (Int32.le_refl _) (by_gu172 hn h0 hb hI.1 (fun H' hS => h H' s hS))
  · intro m i s hi hI K
    refine br_f (nI_ge hi (by omega)) (br_f (nI_ge (b := 64) (by omega) (by decide)) (by_top h0 h8 (by omega) (hF i hi) ?_))
    have hin : vp_in (nI i) 64 := vp_in_nI (by omega) (by omega)
    have hgi := hg i hi
    have skip : (!f i && decide (g i = L)) = false → (∀ w, w < i + 1 → s w = bb_i (P w || (!f w && decide (g w = L)))) ∧ ∀ w, i + 1 ≤ w → w < 2 ^ n → s w = bb_i (P w) := by
      intro hno
      refine ⟨fun w hw => ?_, fun w hw h2 => hI.2 w (by omega) h2⟩
      by_cases e : w = i
      · subst e
        rw [hno, Bool.or_false]
        exact hI.2 w (Nat.le_refl w) hi
      · exact hI.1 w (by omega)
    cases c : f i with
    | true => exact br_f (by decide) (nm_r (nI_1 i) (K s (skip (by rw [c]; rfl))))
    | false =>
      refine br_t rfl ⟨hin, ?_⟩
      have e : G (nI i).toNatClampNeg = nI (g i) := by rw [nI_clamp (by omega), hG i hi]
      rw [e]
      by_cases c2 : g i = L
      · refine br_t (by rw [c2]) ⟨hin, nm_e (nm_r (nI_1 i) (K _ ⟨?_, fun w hw h2 => ?_⟩))⟩
        · exact bb_upd (v := fun w => bb_i (P w || (!f w && decide (g w = L)))) (by omega) hI.1 (by rw [c, decide_eq_true c2]; cases P i <;> rfl)
        · rw [nI_clamp (by omega), pk_un (by omega)]
          exact hI.2 w (by omega) h2
      · exact br_f (fun z => c2 ((nI_eq (by omega) (by omega)).mp z)) (nm_r (nI_1 i) (K s (skip (by rw [decide_eq_false c2, Bool.and_false]))))
theorem by_gu81 {post : Int32 → SY → Prop} (hn : n ≤ 6) {b : Nat} (hb : b < 3) {P : Nat → Bool} (hH : ∀ w, w < 2 ^ n → H (64 * b + w) = bb_i (P w))
    (h : ∀ G', (∀ w, w < 2 ^ n → G' w = nI (bb_D n P w)) → wY_giveUp_113 post (nI b) (nI n) (nI (2 ^ n)) (nI d) H F R G') : ∃ m, wY_giveUp_81 post (nI b) (nI n) (nI (2 ^ n)) (nI d) m 0 H F R G := by
  have h64 := bb_64 hn
  refine loop_0 (fun m i s => wY_giveUp_81 post (nI b) (nI n) (nI (2 ^ n)) (nI d) m (nI i) H F R s) (fun i s => ∀ w, w < i → s w = nI (bb_D n P w)) (2 ^ n) G (fun w hw => absurd hw (Nat.not_lt_zero w)) ?_ ?_
  · intro m s hI
    exact br_t (Int32.le_refl _) (h s hI)
  · intro m i s hi hI K
    refine br_f (nI_ge hi (by omega)) (br_f (nI_ge (b := 64) (by omega) (by decide)) (by_dist hn hb (by omega) hH ⟨vp_in_nI (by omega) (by omega), nm_e (nm_r (nI_1 i) (K _ ?_))⟩))
    exact bb_upd (v := fun w => nI (bb_D n P w)) (by omega) hI rfl
theorem by_gu24 {post : Int32 → SY → Prop} (hn : n ≤ 6) (h0 : 0 < d) (h8 : d ≤ 8) {b : Nat} (hb : b < 3) {P f : Nat → Bool} (hH : ∀ w, w < 2 ^ n → H (64 * b + w) = bb_i (P w)) (hF : ∀ w, w < 2 ^ n → F (64 * (d - 1) + w) = bb_i (f w))
    (h : ∀ R', (∀ w, w < 2 ^ n → R' w = bb_i (P w)) → wY_giveUp_75 post (nI b) (bb_i (!bb_ex (fun w => P w && !f w) (2 ^ n))) (nI n) (nI (2 ^ n)) (nI d) H F R' G) : ∃ m, wY_giveUp_24 post (nI b) (nI n) (nI (2 ^ n)) (nI d) m 1 0 H F R G := by
  have h64 := bb_64 hn
  refine loop_0 (fun m i s => wY_giveUp_24 post (nI b) (nI n) (nI (2 ^ n)) (nI d) m (bb_i (!bb_ex (fun w => P w && !f w) i)) (nI i) H F s G) (fun i s => ∀ w, w < i → s w = bb_i (P w)) (2 ^ n) R (fun w hw => absurd hw (Nat.not_lt_zero w)) ?_ ?_
  · intro m s hI
    exact br_t (Int32.le_refl _) (h s hI)
  · intro m i s hi hI K
    refine br_f (nI_ge hi (by omega)) (br_f (nI_ge (b := 64) (by omega) (by decide)) (by_in hb (by omega) (hH i hi) ⟨vp_in_nI (by omega) (by omega), nm_e (by_in hb (by omega) (hH i hi) ?_)⟩))
    have K2 : wY_giveUp_24 post (nI b) (nI n) (nI (2 ^ n)) (nI d) m (bb_i (!(bb_ex (fun w => P w && !f w) i || (P i && !f i)))) (nI (i + 1)) H F (upd s (nI i).toNatClampNeg (vp_nar .boolean (bb_i (P i)))) G := K _ (bb_upd (v := fun w => bb_i (P w)) (by omega) hI (bb_iv _))
    revert K2
    cases c : P i with
    | false =>
      intro K2
      rw [Bool.false_and, Bool.or_false] at K2
      exact br_t rfl (nm_r (nI_1 i) K2)
    | true =>
      intro K2
      refine br_f (by decide) (by_top h0 h8 (by omega) (hF i hi) ?_)
      revert K2
      cases c2 : f i with
      | false =>
        intro K2
        rw [Bool.not_false, Bool.true_and, Bool.or_true] at K2
        exact br_t rfl (nm_r (nI_1 i) K2)
      | true =>
        intro K2
        rw [Bool.not_true, Bool.and_false, Bool.or_false] at K2
        exact br_f (by decide) (nm_r (nI_1 i) K2)
theorem by_giveUp {post : Int32 → SY → Prop} (hn : n ≤ 6) (h0 : 0 < d) (h8 : d ≤ 8) {b : Nat} (hb : b < 3) {P f : Nat → Bool} (hH : ∀ w, w < 2 ^ n → H (64 * b + w) = bb_i (P w)) (hF : ∀ w, w < 2 ^ n → F (64 * (d - 1) + w) = bb_i (f w))
    (h : ∀ H' R' G', bb_St n b H H' (bb_gq n P f) → post (nI (bb_cn (bb_gq n P f) (2 ^ n))) (nI n, nI (2 ^ n), nI (d - 1), H', F, R', G')) : ∃ m, wY_giveUp_24 post (nI b) (nI n) (nI (2 ^ n)) (nI d) m 1 0 H F R G := by
  refine by_gu24 hn h0 h8 hb hH hF fun R' hR => ?_
  unfold wY_giveUp_75
  unfold bb_gq at h
  cases c : bb_ex (fun w => P w && !f w) (2 ^ n) with
  | true =>
    refine br_t rfl (by_gu172 hn h0 hb hR fun H' hS => ?_)
    have k := h H' R' G
    rw [c] at k
    have e : (fun u => P u || (!true && (!f u && decide (bb_D n P u = bb_mn 1000 (fun w => f w == false) (bb_D n P) (2 ^ n))))) = P := by
      funext u
      rw [Bool.not_true, Bool.false_and, Bool.or_false]
    rw [e] at k
    exact k hS
  | false =>
    have hg : ∀ w, w < 2 ^ n → bb_D n P w < 1000 := fun w _ => Nat.lt_trans (bb_D_k hn P w) (by decide)
    refine br_f (by decide) (by_gu81 hn hb hH fun G' hG => ?_)
    unfold wY_giveUp_113
    refine by_least (t := false) hn h0 h8 hF hG hg (by_gu122 hn h0 h8 hb (bb_mn_s _ _ _ _) hF hG hg hR fun H' R' hS => ?_)
    have k := h H' R' G'
    rw [c] at k
    have e : (fun u => P u || (!false && (!f u && decide (bb_D n P u = bb_mn 1000 (fun w => f w == false) (bb_D n P) (2 ^ n))))) = (fun u => P u || (!f u && decide (bb_D n P u = bb_mn 1000 (fun w => f w == false) (bb_D n P) (2 ^ n)))) := by
      funext u
      rw [Bool.not_false, Bool.true_and]
    rw [e] at k
    exact k hS
theorem by_fl {i v : Nat} (hv : v < 6) : nI i ^^^ ((1 : Int32) <<< (nI v &&& 31)) = nI (i ^^^ 2 ^ v) := by rw [bb_1v v (by omega), nx_xor]
theorem by_forget23 {post : Int32 → SY → Prop} (hn : n ≤ 6) {b v : Nat} (hb : b < 3) (hv : v < n) {P : Nat → Bool} (hH : ∀ w, w < 2 ^ n → H (64 * b + w) = bb_i (P w))
    (h : ∀ H' R', bb_St n b H H' (fun w => P w || P (w ^^^ 2 ^ v)) → post (nI (bb_cn (fun w => P w || P (w ^^^ 2 ^ v)) (2 ^ n))) (nI n, nI (2 ^ n), nI d, H', F, R', G)) : ∃ m, wY_forget_23 post (nI b) (nI v) (nI n) (nI (2 ^ n)) (nI d) m 0 H F R G := by
  have h64 := bb_64 hn
  refine loop_0 (fun m i s => wY_forget_23 post (nI b) (nI v) (nI n) (nI (2 ^ n)) (nI d) m (nI i) H F s G) (fun i s => ∀ w, w < i → s w = bb_i (P w || P (w ^^^ 2 ^ v))) (2 ^ n) R (fun w hw => absurd hw (Nat.not_lt_zero w)) ?_ ?_
  · intro m s hI
    refine br_t (Int32.le_refl _) ?_
    unfold wY_forget_76
    exact by_store hn hb hI (fun H' hS => h H' s hS)
  · intro m i s hi hI K
    refine br_f (nI_ge hi (by omega)) (br_f (nI_ge (b := 64) (by omega) (by decide)) (by_in hb (by omega) (hH i hi) ?_))
    have hin : vp_in (nI i) 64 := vp_in_nI (by omega) (by omega)
    have hx := bb_fx hi hv
    have U : ∀ x, x = bb_i (P i || P (i ^^^ 2 ^ v)) → ∀ w, w < i + 1 → upd s (nI i).toNatClampNeg x w = bb_i (P w || P (w ^^^ 2 ^ v)) := fun x hx => bb_upd (v := fun w => bb_i (P w || P (w ^^^ 2 ^ v))) (by omega) hI hx
    rw [by_fl (by omega)]
    cases c : P i with
    | true => exact br_f (by decide) ⟨hin, nm_e (nm_r (nI_1 i) (K _ (U _ (by rw [c]; rfl))))⟩
    | false =>
      refine br_t rfl (by_in hb (by omega) (hH _ hx) ?_)
      cases c2 : P (i ^^^ 2 ^ v) with
      | false => exact br_t rfl ⟨hin, nm_e (nm_r (nI_1 i) (K _ (U _ (by rw [c, c2]; rfl))))⟩
      | true => exact br_f (by decide) ⟨hin, nm_e (nm_r (nI_1 i) (K _ (U _ (by rw [c, c2]; rfl))))⟩
theorem by_mg78 {post : Int32 → SY → Prop} (hn : n ≤ 6) (h0 : 0 < d) (h8 : d ≤ 8) {b : Nat} (hb : b < 3) {f : Nat → Bool} {g : Nat → Nat} {L : Nat} (hL : L ≤ 1000) (hF : ∀ w, w < 2 ^ n → F (64 * (d - 1) + w) = bb_i (f w)) (hG : ∀ w, w < 2 ^ n → G w = nI (g w)) (hg : ∀ w, w < 2 ^ n → g w < 1000)
    (h : ∀ H' R', bb_St n b H H' (fun w => f w && decide (g w = L)) → post (nI (bb_cn (fun w => f w && decide (g w = L)) (2 ^ n))) (nI n, nI (2 ^ n), nI (d - 1), H', F, R', G)) : ∃ m, wY_merge_78 post (nI b) (nI L) (nI n) (nI (2 ^ n)) (nI d) m 0 H F R G := by
  have h64 := bb_64 hn
  refine loop_0 (fun m i s => wY_merge_78 post (nI b) (nI L) (nI n) (nI (2 ^ n)) (nI d) m (nI i) H F s G) (fun i s => ∀ w, w < i → s w = bb_i (f w && decide (g w = L))) (2 ^ n) R (fun w hw => absurd hw (Nat.not_lt_zero w)) ?_ ?_
  · intro m s hI
    refine br_t (Int32.le_refl _) ?_
    unfold wY_merge_132
    exact nm_r (bb_pred h0) (by_store hn hb hI (fun H' hS => h H' s hS))
  · intro m i s hi hI K
    refine br_f (nI_ge hi (by omega)) (br_f (nI_ge (b := 64) (by omega) (by decide)) (by_top h0 h8 (by omega) (hF i hi) ?_))
    have hin : vp_in (nI i) 64 := vp_in_nI (by omega) (by omega)
    have hgi := hg i hi
    have U : ∀ x, x = bb_i (f i && decide (g i = L)) → ∀ w, w < i + 1 → upd s (nI i).toNatClampNeg x w = bb_i (f w && decide (g w = L)) := fun x hx => bb_upd (v := fun w => bb_i (f w && decide (g w = L))) (by omega) hI hx
    cases c : f i with
    | false => exact br_t rfl ⟨hin, nm_e (nm_r (nI_1 i) (K _ (U _ (by rw [c]; rfl))))⟩
    | true =>
      refine br_f (by decide) ⟨hin, ?_⟩
      have e : G (nI i).toNatClampNeg = nI (g i) := by rw [nI_clamp (by omega), hG i hi]
      rw [e]
      by_cases c2 : g i = L
      · exact br_t (by rw [c2]) ⟨hin, nm_e (nm_r (nI_1 i) (K _ (U _ (by rw [c, decide_eq_true c2]; rfl))))⟩
      · exact br_f (fun z => c2 ((nI_eq (by omega) (by omega)).mp z)) ⟨hin, nm_e (nm_r (nI_1 i) (K _ (U _ (by rw [c, decide_eq_false c2]; rfl))))⟩
theorem by_merge {post : Int32 → SY → Prop} (hn : n ≤ 6) (h0 : 0 < d) (h8 : d ≤ 8) {a b : Nat} (ha : a < 3) (hb : b < 3) {P Q f : Nat → Bool} (hP : ∀ w, w < 2 ^ n → H (64 * a + w) = bb_i (P w)) (hQ : ∀ w, w < 2 ^ n → H (64 * b + w) = bb_i (Q w)) (hF : ∀ w, w < 2 ^ n → F (64 * (d - 1) + w) = bb_i (f w))
    (h : ∀ H' R' G', bb_St n b H H' (fun w => f w && decide (bb_D n P w + bb_D n Q w = bb_mn 1000 f (fun u => bb_D n P u + bb_D n Q u) (2 ^ n))) → post (nI (bb_cn (fun w => f w && decide (bb_D n P w + bb_D n Q w = bb_mn 1000 f (fun u => bb_D n P u + bb_D n Q u) (2 ^ n))) (2 ^ n))) (nI n, nI (2 ^ n), nI (d - 1), H', F, R', G')) : ∃ m, wY_merge_30 post (nI a) (nI b) (nI n) (nI (2 ^ n)) (nI d) m 0 H F R G := by
  have h64 := bb_64 hn
  refine loop_0 (fun m i s => wY_merge_30 post (nI a) (nI b) (nI n) (nI (2 ^ n)) (nI d) m (nI i) H F R s) (fun i s => ∀ w, w < i → s w = nI (bb_D n P w + bb_D n Q w)) (2 ^ n) G (fun w hw => absurd hw (Nat.not_lt_zero w)) ?_ ?_
  · intro m s hI
    have hg : ∀ w, w < 2 ^ n → bb_D n P w + bb_D n Q w < 1000 := fun w _ => by
      have h1 := bb_D_k hn P w
      have h2 := bb_D_k hn Q w
      omega
    refine br_t (Int32.le_refl _) ?_
    unfold wY_merge_69
    refine by_least (t := true) (g := fun u => bb_D n P u + bb_D n Q u) hn h0 h8 hF hI hg ?_
    have e : bb_mn 1000 (fun w => f w == true) (fun u => bb_D n P u + bb_D n Q u) (2 ^ n) = bb_mn 1000 f (fun u => bb_D n P u + bb_D n Q u) (2 ^ n) := bb_mn_congr (fun w _ => by cases f w <;> rfl) (fun _ _ => rfl)
    rw [e]
    exact by_mg78 (g := fun u => bb_D n P u + bb_D n Q u) hn h0 h8 hb (bb_mn_s _ _ _ _) hF hI hg (fun H' R' hS => h H' R' s hS)
  · intro m i s hi hI K
    refine br_f (nI_ge hi (by omega)) (br_f (nI_ge (b := 64) (by omega) (by decide)) (by_dist hn ha (by omega) hP (by_dist hn hb (by omega) hQ ⟨vp_in_nI (by omega) (by omega), nm_e (nm_r (nI_1 i) (K _ ?_))⟩)))
    exact bb_upd (v := fun w => nI (bb_D n P w + bb_D n Q w)) (by omega) hI (nI_add _ _)
theorem by_copy20 {post : Int32 → SY → Prop} (hn : n ≤ 6) {a b : Nat} (ha : a < 3) (hb : b < 3) {P : Nat → Bool} (hH : ∀ w, w < 2 ^ n → H (64 * a + w) = bb_i (P w))
    (h : ∀ H' R', bb_St n b H H' P → post (nI (bb_cn P (2 ^ n))) (nI n, nI (2 ^ n), nI d, H', F, R', G)) : ∃ m, wY_copy_20 post (nI a) (nI b) (nI n) (nI (2 ^ n)) (nI d) m 0 H F R G := by
  have h64 := bb_64 hn
  refine loop_0 (fun m i s => wY_copy_20 post (nI a) (nI b) (nI n) (nI (2 ^ n)) (nI d) m (nI i) H F s G) (fun i s => ∀ w, w < i → s w = bb_i (P w)) (2 ^ n) R (fun w hw => absurd hw (Nat.not_lt_zero w)) ?_ ?_
  · intro m s hI
    refine br_t (Int32.le_refl _) ?_
    unfold wY_copy_52
    exact by_store hn hb hI (fun H' hS => h H' s hS)
  · intro m i s hi hI K
    refine br_f (nI_ge hi (by omega)) (br_f (nI_ge (b := 64) (by omega) (by decide)) (by_in ha (by omega) (hH i hi) ⟨vp_in_nI (by omega) (by omega), nm_e (nm_r (nI_1 i) (K _ ?_))⟩))
    exact bb_upd (v := fun w => bb_i (P w)) (by omega) hI (bb_iv _)
end
end
section
/-! Y's methods that only read -/
theorem by_rm : ∀ v, v < 6 → ∀ f, f < 64 → (nI f &&& (((1 : Int32) <<< (nI v &&& 31)) ^^^ (-1))) = nI (bb_rm f v) ∧ (bb_rm f v = f ↔ f.testBit v = false) ∧ bb_rm f v < 64 := by decide +kernel
section
variable {n d : Nat} {H F R G : Nat → Int32}
theorem by_count {post : Int32 → Prop} (hn : n ≤ 6) {b : Nat} (hb : b < 3) {P : Nat → Bool} (hH : ∀ w, w < 2 ^ n → H (64 * b + w) = bb_i (P w)) (h : post (nI (bb_cn P (2 ^ n)))) : wpY_count post (nI n, nI (2 ^ n), nI d, H, F, R, G) (nI b) := by
  have h64 := bb_64 hn
  unfold wpY_count
  dsimp only
  refine by_good hb (br_t rfl (bl_fold (fun m i => wY_count_14 post (nI b) (nI n) (nI (2 ^ n)) (nI d) H F R G m (nI (bb_cn P i)) (nI i)) (2 ^ n) ?_ ?_))
  · intro m
    exact br_t (Int32.le_refl _) h
  · intro m i hi K
    have K2 : wY_count_14 post (nI b) (nI n) (nI (2 ^ n)) (nI d) H F R G m (nI (bb_cn P i + (P i).toNat)) (nI (i + 1)) := K
    refine br_f (nI_ge hi (by omega)) (by_in hb (by omega) (hH i hi) ?_)
    cases c : P i with
    | false =>
      rw [c] at K2
      exact br_t rfl (nm_r (nI_1 i) K2)
    | true =>
      rw [c] at K2
      exact br_f (by decide) (nm_r (nI_1 _) (nm_r (nI_1 i) K2))
theorem by_empty {post : Int32 → Prop} (hn : n ≤ 6) {b : Nat} (hb : b < 3) {P : Nat → Bool} (hH : ∀ w, w < 2 ^ n → H (64 * b + w) = bb_i (P w)) (h1 : bb_cn P (2 ^ n) = 0 → post 1) (h0 : ¬ bb_cn P (2 ^ n) = 0 → post 0) : wpY_empty post (nI n, nI (2 ^ n), nI d, H, F, R, G) (nI b) := by
  have h64 := bb_64 hn
  have hc := bb_cn_le P (2 ^ n)
  unfold wpY_empty
  refine by_count hn hb hH (br_c (fun c => h1 ?_) (fun c => h0 ?_))
  · exact (nI_eq (b := 0) (by omega) (by decide)).mp c
  · intro z
    rw [z] at c
    exact c rfl
theorem by_next12 {post : Int32 → Prop} (hn : n ≤ 6) {b : Nat} (hb : b < 3) {P : Nat → Bool} {a : Int32} (hH : ∀ w, w < 2 ^ n → H (64 * b + w) = bb_i (P w))
    (h1 : ∀ t, t < 2 ^ n → P t = true → ¬ nI t ≤ a → (∀ w, w < t → nI w ≤ a ∨ P w = false) → post (nI t)) (h2 : (∀ w, w < 2 ^ n → nI w ≤ a ∨ P w = false) → post (-2)) : ∃ m, wY_next_12 post (nI b) a (nI n) (nI (2 ^ n)) (nI d) H F R G m 0 := by
  have h64 := bb_64 hn
  refine loop_0 (fun m i (_ : Unit) => wY_next_12 post (nI b) a (nI n) (nI (2 ^ n)) (nI d) H F R G m (nI i)) (fun i _ => ∀ w, w < i → nI w ≤ a ∨ P w = false) (2 ^ n) () (fun w hw => absurd hw (Nat.not_lt_zero w)) ?_ ?_
  · intro m _ hI
    exact br_t (Int32.le_refl _) (h2 hI)
  · intro m i _ hi hI K
    refine br_f (nI_ge hi (by omega)) (br_c (fun c => ?_) (fun c => by_in hb (by omega) (hH i hi) ?_))
    · exact nm_r (nI_1 i) (K () (lt_s hI (Or.inl c)))
    · cases c2 : P i with
      | false => exact br_t rfl (nm_r (nI_1 i) (K () (lt_s hI (Or.inr c2))))
      | true => exact br_f (by decide) (h1 i hi c2 c hI)
theorem by_entails22 {post : Int32 → Prop} (hn : n ≤ 6) (h0 : 0 < d) (h8 : d ≤ 8) {b : Nat} (hb : b < 3) {P f : Nat → Bool} (hH : ∀ w, w < 2 ^ n → H (64 * b + w) = bb_i (P w)) (hF : ∀ w, w < 2 ^ n → F (64 * (d - 1) + w) = bb_i (f w)) (h : post (bb_i (!bb_ex (fun w => P w && !f w) (2 ^ n)))) : ∃ m, wY_entails_22 post (nI b) (nI n) (nI (2 ^ n)) (nI d) H F R G m 0 := by
  have h64 := bb_64 hn
  refine bl_search (fun m i => wY_entails_22 post (nI b) (nI n) (nI (2 ^ n)) (nI d) H F R G m (nI i)) (fun w => P w && !f w) (2 ^ n) (fun r => post (bb_i (!r))) h ?_ ?_
  · intro m hp
    exact br_t (Int32.le_refl _) hp
  · intro m i hi ht hf
    refine br_f (nI_ge hi (by omega)) (by_in hb (by omega) (hH i hi) ?_)
    cases c : P i with
    | false => exact br_t rfl (nm_r (nI_1 i) (hf (by rw [c]; rfl)))
    | true =>
      refine br_f (by decide) (by_top h0 h8 (by omega) (hF i hi) ?_)
      cases c2 : f i with
      | false => exact br_t rfl (ht (by rw [c, c2]; rfl))
      | true => exact br_f (by decide) (nm_r (nI_1 i) (hf (by rw [c, c2]; rfl)))
theorem by_dist47 {post : Int32 → Prop} (hn : n ≤ 6) {a b : Nat} (ha : a < 3) (hb : b < 3) {P Q : Nat → Bool} (hP : ∀ w, w < 2 ^ n → H (64 * a + w) = bb_i (P w)) (hQ : ∀ w, w < 2 ^ n → H (64 * b + w) = bb_i (Q w)) (h : post (nI (bb_mn (n + 1) Q (bb_D n P) (2 ^ n)))) : ∃ m, wY_distance_47 post (nI a) (nI b) (nI n) (nI (2 ^ n)) (nI d) H F R G m (nI (n + 1)) 0 := by
  have h64 := bb_64 hn
  refine bl_fold (fun m i => wY_distance_47 post (nI a) (nI b) (nI n) (nI (2 ^ n)) (nI d) H F R G m (nI (bb_mn (n + 1) Q (bb_D n P) i)) (nI i)) (2 ^ n) ?_ ?_
  · intro m
    exact br_t (Int32.le_refl _) h
  · intro m i hi K
    have K2 : wY_distance_47 post (nI a) (nI b) (nI n) (nI (2 ^ n)) (nI d) H F R G m (nI (if Q i = true ∧ bb_D n P i < bb_mn (n + 1) Q (bb_D n P) i then bb_D n P i else bb_mn (n + 1) Q (bb_D n P) i)) (nI (i + 1)) := K
    have hl := bb_mn_s (n + 1) Q (bb_D n P) i
    have hp := bb_D_k hn P i
    generalize bb_mn (n + 1) Q (bb_D n P) i = l at *
    refine br_f (nI_ge hi (by omega)) (by_in hb (by omega) (hQ i hi) ?_)
    cases c : Q i with
    | false =>
      rw [c, if_neg (by simp)] at K2
      exact br_t rfl (nm_r (nI_1 i) K2)
    | true =>
      refine br_f (by decide) (by_dist hn ha (by omega) hP ?_)
      by_cases c2 : bb_D n P i < l
      · rw [if_pos ⟨c, c2⟩] at K2
        exact br_f (nI_ge c2 (by omega)) (nm_r (nI_1 i) K2)
      · rw [if_neg (fun z => c2 z.2)] at K2
        exact br_t (nI_le (by omega) (by omega)) (nm_r (nI_1 i) K2)
theorem by_reach42 {post : Int32 → Prop} (hn : n ≤ 6) {a b : Nat} (ha : a < 3) (hb : b < 3) {P Q : Nat → Bool} (hP : ∀ w, w < 2 ^ n → H (64 * a + w) = bb_i (P w)) (hQ : ∀ w, w < 2 ^ n → H (64 * b + w) = bb_i (Q w)) (h : post (nI (bb_mx Q (bb_D n P) (2 ^ n)))) : ∃ m, wY_reach_42 post (nI a) (nI b) (nI n) (nI (2 ^ n)) (nI d) H F R G m 0 0 := by
  have h64 := bb_64 hn
  refine bl_fold (fun m i => wY_reach_42 post (nI a) (nI b) (nI n) (nI (2 ^ n)) (nI d) H F R G m (nI (bb_mx Q (bb_D n P) i)) (nI i)) (2 ^ n) ?_ ?_
  · intro m
    exact br_t (Int32.le_refl _) h
  · intro m i hi K
    have K2 : wY_reach_42 post (nI a) (nI b) (nI n) (nI (2 ^ n)) (nI d) H F R G m (nI (if Q i = true ∧ bb_mx Q (bb_D n P) i < bb_D n P i then bb_D n P i else bb_mx Q (bb_D n P) i)) (nI (i + 1)) := K
    have hl : bb_mx Q (bb_D n P) i ≤ 8 := (bb_mx_le _ _ _ _).mpr (fun w _ _ => Nat.le_of_lt (bb_D_k hn P w))
    have hp := bb_D_k hn P i
    generalize bb_mx Q (bb_D n P) i = l at *
    refine br_f (nI_ge hi (by omega)) (by_in hb (by omega) (hQ i hi) ?_)
    cases c : Q i with
    | false =>
      rw [c, if_neg (by simp)] at K2
      exact br_t rfl (nm_r (nI_1 i) K2)
    | true =>
      refine br_f (by decide) (by_dist hn ha (by omega) hP ?_)
      by_cases c2 : l < bb_D n P i
      · rw [if_pos ⟨c, c2⟩] at K2
        exact br_f (nI_ge c2 (by omega)) (nm_r (nI_1 i) K2)
      · rw [if_neg (fun z => c2 z.2)] at K2
        exact br_t (nI_le (by omega) (by omega)) (nm_r (nI_1 i) K2)
theorem by_mat23 {post : Int32 → Prop} (hn : n ≤ 6) {b v : Nat} (hb : b < 3) (hv : v < n) {P : Nat → Bool} (hH : ∀ w, w < 2 ^ n → H (64 * b + w) = bb_i (P w)) (h : post (bb_i (bb_ex (fun w => P w && !P (w ^^^ 2 ^ v)) (2 ^ n)))) : ∃ m, wY_matters_23 post (nI b) (nI v) (nI n) (nI (2 ^ n)) (nI d) H F R G m 0 := by
  have h64 := bb_64 hn
  refine bl_search (fun m i => wY_matters_23 post (nI b) (nI v) (nI n) (nI (2 ^ n)) (nI d) H F R G m (nI i)) (fun w => P w && !P (w ^^^ 2 ^ v)) (2 ^ n) (fun r => post (bb_i r)) h ?_ ?_
  · intro m hp
    exact br_t (Int32.le_refl _) hp
  · intro m i hi ht hf
    have hx := bb_fx hi hv
    refine br_f (nI_ge hi (by omega)) (by_in hb (by omega) (hH i hi) ?_)
    rw [by_fl (by omega)]
    cases c : P i with
    | false => exact br_t rfl (nm_r (nI_1 i) (hf (by rw [c]; rfl)))
    | true =>
      refine br_f (by decide) (by_in hb (by omega) (hH _ hx) ?_)
      cases c2 : P (i ^^^ 2 ^ v) with
      | false => exact br_t rfl (ht (by rw [c, c2]; rfl))
      | true => exact br_f (by decide) (nm_r (nI_1 i) (hf (by rw [c, c2]; rfl)))
/-- two worlds of P that agree on s and differ at v -/
def bb_df (P : Nat → Bool) (s v u w : Nat) : Bool := P u && (P w && (decide (u &&& s = w &&& s) && (u.testBit v ^^ w.testBit v)))
theorem by_def76 {post J J2 : Int32 → Prop} (hn : n ≤ 6) {b v s u w : Nat} (hb : b < 3) (hv : v < n) (hu : u < 2 ^ n) (hw : w < 2 ^ n) {P : Nat → Bool} {q : Bool} (hH : ∀ w, w < 2 ^ n → H (64 * b + w) = bb_i (P w))
    (h1 : (P u && (P w && (q && (u.testBit v ^^ w.testBit v)))) = true → post 0) (h0 : (P u && (P w && (q && (u.testBit v ^^ w.testBit v)))) = false → J2 (nI (w + 1))) : wY_defined_76 post J J2 (nI b) (nI v) (nI s) (nI u) (nI w) (bb_i q) (nI n) (nI (2 ^ n)) (nI d) H F R G := by
  have h64 := bb_64 hn
  unfold wY_defined_76
  refine by_in hb (by omega) (hH u hu) ?_
  revert h1 h0
  cases c : P u with
  | false =>
    intro _ h0
    exact br_t rfl (nm_r (nI_1 w) (h0 rfl))
  | true =>
    intro h1 h0
    refine br_f (by decide) (by_in hb (by omega) (hH w hw) ?_)
    revert h1 h0
    cases c2 : P w with
    | false =>
      intro _ h0
      exact br_t rfl (nm_r (nI_1 w) (h0 rfl))
    | true =>
      intro h1 h0
      refine br_f (by decide) ?_
      cases q with
      | false => exact br_t rfl (nm_r (nI_1 w) (h0 rfl))
      | true =>
        refine br_f (by decide) (by_val (by omega) (by omega) (by_val (by omega) (by omega) ?_))
        by_cases c3 : u.testBit v = w.testBit v
        · refine br_t (by rw [c3]) (nm_r (nI_1 w) (h0 ?_))
          rw [c3]
          cases w.testBit v <;> rfl
        · refine br_f (fun z => c3 (bb_ii.mp z)) (h1 ?_)
          revert c3
          cases u.testBit v <;> cases w.testBit v <;> simp
theorem by_def51 {post J : Int32 → Prop} (hn : n ≤ 6) {b v s u : Nat} (hb : b < 3) (hv : v < n) (hu : u < 2 ^ n) (hs : s < 2 ^ n) {P : Nat → Bool} (hH : ∀ w, w < 2 ^ n → H (64 * b + w) = bb_i (P w))
    (h1 : bb_ex (bb_df P s v u) (2 ^ n) = true → post 0) (h0 : bb_ex (bb_df P s v u) (2 ^ n) = false → J (nI (u + 1))) : ∃ m, wY_defined_51 post J (nI b) (nI v) (nI s) (nI u) (nI n) (nI (2 ^ n)) (nI d) H F R G m 0 := by
  have h64 := bb_64 hn
  refine bl_search (fun m i => wY_defined_51 post J (nI b) (nI v) (nI s) (nI u) (nI n) (nI (2 ^ n)) (nI d) H F R G m (nI i)) (bb_df P s v u) (2 ^ n) (fun r => (r = true → post 0) ∧ (r = false → J (nI (u + 1)))) ⟨h1, h0⟩ ?_ ?_
  · intro m hp
    exact br_t (Int32.le_refl _) (nm_r (nI_1 u) (hp.2 rfl))
  · intro m i hi ht hf
    refine br_f (nI_ge hi (by omega)) ?_
    have hus : u &&& s < 64 := Nat.lt_of_le_of_lt Nat.and_le_left (by omega)
    have his : i &&& s < 64 := Nat.lt_of_le_of_lt Nat.and_le_left (by omega)
    rw [nx_and u s, nx_and i s]
    unfold bb_df at ht hf
    by_cases c : u &&& s = i &&& s
    · rw [decide_eq_true c] at ht hf
      exact br_t (by rw [c]) (by_def76 (q := true) hn hb hv hu hi hH (fun z => (ht z).1 rfl) hf)
    · rw [decide_eq_false c] at ht hf
      exact br_f (fun z => c ((nI_eq (by omega) (by omega)).mp z)) (by_def76 (q := false) hn hb hv hu hi hH (fun z => (ht z).1 rfl) hf)
theorem by_def39 {post : Int32 → Prop} (hn : n ≤ 6) {b v s : Nat} (hb : b < 3) (hv : v < n) (hs : s < 2 ^ n) {P : Nat → Bool} (hH : ∀ w, w < 2 ^ n → H (64 * b + w) = bb_i (P w))
    (h : post (bb_i (!bb_ex (fun u => bb_ex (bb_df P s v u) (2 ^ n)) (2 ^ n)))) : ∃ m, wY_defined_39 post (nI b) (nI v) (nI s) (nI n) (nI (2 ^ n)) (nI d) H F R G m 0 := by
  have h64 := bb_64 hn
  refine bl_search (fun m i => wY_defined_39 post (nI b) (nI v) (nI s) (nI n) (nI (2 ^ n)) (nI d) H F R G m (nI i)) (fun u => bb_ex (bb_df P s v u) (2 ^ n)) (2 ^ n) (fun r => post (bb_i (!r))) h ?_ ?_
  · intro m hp
    exact br_t (Int32.le_refl _) hp
  · intro m i hi ht hf
    exact br_f (nI_ge hi (by omega)) (by_def51 hn hb hv hi hs hH ht hf)
theorem by_inside {post : Int32 → Prop} (hn : n ≤ 6) {b f v : Nat} (hb : b < 3) (hf : f < 64) (hv : v < 64) {P : Nat → Bool} (hH : ∀ w, w < 2 ^ n → H (64 * b + w) = bb_i (P w)) (h : post (bb_i (bb_is n P f v))) : wpY_inside post (nI n, nI (2 ^ n), nI d, H, F, R, G) (nI b) (nI f) (nI v) := by
  have h64 := bb_64 hn
  unfold wpY_inside
  dsimp only
  refine bl_search (fun m i => wY_inside_3 post (nI b) (nI f) (nI v) (nI n) (nI (2 ^ n)) (nI d) H F R G m (nI i)) (fun w => decide (w &&& f = v) && !P w) (2 ^ n) (fun r => post (bb_i (!r))) h ?_ ?_
  · intro m hp
    exact br_t (Int32.le_refl _) hp
  · intro m i hi ht hf2
    have his : i &&& f < 64 := Nat.lt_of_le_of_lt Nat.and_le_left (by omega)
    refine br_f (nI_ge hi (by omega)) ?_
    rw [nx_and]
    by_cases c : i &&& f = v
    · refine br_t (by rw [c]) (by_in hb (by omega) (hH i hi) ?_)
      cases c2 : P i with
      | false => exact br_t rfl (ht (by rw [decide_eq_true c, c2]; rfl))
      | true => exact br_f (by decide) (nm_r (nI_1 i) (hf2 (by rw [decide_eq_true c, c2]; rfl)))
    · exact br_f (fun z => c ((nI_eq (by omega) (by omega)).mp z)) (nm_r (nI_1 i) (hf2 (by rw [decide_eq_false c]; rfl)))
theorem by_prime {post : Int32 → Prop} (hn : n ≤ 6) {b f y : Nat} (hb : b < 3) (hf : f < 64) (hy : y < 64) {P : Nat → Bool} (hH : ∀ w, w < 2 ^ n → H (64 * b + w) = bb_i (P w)) (h : post (bb_i (bb_pr n P f y))) : wpY_prime post (nI n, nI (2 ^ n), nI d, H, F, R, G) (nI b) (nI f) (nI y) := by
  unfold wpY_prime
  dsimp only
  refine by_inside hn hb hf hy hH ?_
  unfold bb_pr at h
  revert h
  cases c : bb_is n P f y with
  | false =>
    intro h
    exact br_t rfl h
  | true =>
    intro h
    refine br_f (by decide) (bl_search (fun m i => wY_prime_15 post (nI b) (nI f) (nI y) (nI n) (nI (2 ^ n)) (nI d) H F R G m (nI i)) (fun v => f.testBit v && bb_is n P (bb_rm f v) (y &&& bb_rm f v)) n (fun r => post (bb_i (!r))) h ?_ ?_)
    · intro m hp
      exact br_t (Int32.le_refl _) hp
    · intro m i hi ht hf2
      obtain ⟨e1, e2, e3⟩ := by_rm i (by omega) f hf
      have hyr : y &&& bb_rm f i < 64 := Nat.lt_of_le_of_lt Nat.and_le_left hy
      refine br_f (nI_ge hi (by omega)) (nm_r e1 ?_)
      cases c2 : f.testBit i with
      | false => exact br_t (by rw [e2.mpr c2]) (nm_r (nI_1 i) (hf2 (by rw [c2]; rfl)))
      | true =>
        refine br_f (fun z => ?_) ?_
        · have q := e2.mp ((nI_eq (by omega) (by omega)).mp z)
          rw [c2] at q
          cases q
        · rw [nx_and]
          refine by_inside hn hb e3 hyr hH ?_
          cases c3 : bb_is n P (bb_rm f i) (y &&& bb_rm f i) with
          | false => exact br_t rfl (nm_r (nI_1 i) (hf2 (by rw [c2, c3]; rfl)))
          | true => exact br_f (by decide) (ht (by rw [c2, c3]; rfl))
theorem by_primes25 {post : Int32 → Prop} {J : Int32 → Int32 → Prop} (hn : n ≤ 6) {b f c : Nat} (hb : b < 3) (hf : f < 2 ^ n) {P : Nat → Bool} (hH : ∀ w, w < 2 ^ n → H (64 * b + w) = bb_i (P w)) (h : J (nI (c + bb_T n P f)) (nI (f + 1))) : ∃ m, wY_primes_25 post J (nI b) (nI f) (nI n) (nI (2 ^ n)) (nI d) H F R G m (nI c) 0 := by
  have h64 := bb_64 hn
  refine bl_fold (fun m i => wY_primes_25 post J (nI b) (nI f) (nI n) (nI (2 ^ n)) (nI d) H F R G m (nI (c + bb_cn (fun y => decide (y &&& f = y) && bb_pr n P f y) i)) (nI i)) (2 ^ n) ?_ ?_
  · intro m
    exact br_t (Int32.le_refl _) (nm_r (nI_1 f) h)
  · intro m i hi K
    have K2 : wY_primes_25 post J (nI b) (nI f) (nI n) (nI (2 ^ n)) (nI d) H F R G m (nI (c + (bb_cn (fun y => decide (y &&& f = y) && bb_pr n P f y) i + (decide (i &&& f = i) && bb_pr n P f i).toNat))) (nI (i + 1)) := K
    have his : i &&& f < 64 := Nat.lt_of_le_of_lt Nat.and_le_left (by omega)
    refine br_f (nI_ge hi (by omega)) ?_
    rw [nx_and]
    by_cases c1 : i &&& f = i
    · rw [decide_eq_true c1, Bool.true_and] at K2
      refine br_t (by rw [c1]) (by_prime hn hb (by omega) (by omega) hH ?_)
      cases c2 : bb_pr n P f i with
      | false =>
        rw [c2] at K2
        exact br_t rfl (nm_r (nI_1 i) K2)
      | true =>
        rw [c2] at K2
        exact br_f (by decide) (nm_r (nI_1 _) (nm_r (nI_1 i) K2))
    · rw [decide_eq_false c1, Bool.false_and] at K2
      exact br_f (fun z => c1 ((nI_eq (by omega) (by omega)).mp z)) (nm_r (nI_1 i) K2)
theorem by_primes14 {post : Int32 → Prop} (hn : n ≤ 6) {b : Nat} (hb : b < 3) {P : Nat → Bool} (hH : ∀ w, w < 2 ^ n → H (64 * b + w) = bb_i (P w)) (h : post (nI (bb_sm (fun f => bb_T n P f) (2 ^ n)))) : ∃ m, wY_primes_14 post (nI b) (nI n) (nI (2 ^ n)) (nI d) H F R G m 0 0 := by
  have h64 := bb_64 hn
  refine bl_fold (fun m i => wY_primes_14 post (nI b) (nI n) (nI (2 ^ n)) (nI d) H F R G m (nI (bb_sm (fun f => bb_T n P f) i)) (nI i)) (2 ^ n) ?_ ?_
  · intro m
    exact br_t (Int32.le_refl _) h
  · intro m i hi K
    exact br_f (nI_ge hi (by omega)) (by_primes25 hn hb hi hH K)
end
end
section
/-! the lowest bit; the constructors; the relation -/
theorem bb_low1 {x : Int64} {t : Nat} (ht : t < 64) (h : bb_t x t = true) (hl : ∀ i, i < t → bb_t x i = false) : ∀ i, i < 64 → bb_t (x &&& (-x)) i = decide (t = i) := by
  intro i hi
  have e : bb_t (-x) i = (bb_t x i ^^ (decide (i < 64) && decide (∃ j, j < i ∧ bb_t x j = true))) := by
    unfold bb_t
    rw [Int64.toBitVec_neg, BitVec.getLsbD_neg]
  rw [bb_t_and, e, decide_eq_true hi]
  rcases Nat.lt_trichotomy i t with c | c | c
  · have ne : ¬ t = i := by omega
    rw [hl i c, decide_eq_false ne]
    rfl
  · subst c
    have n : ¬ ∃ j, j < i ∧ bb_t x j = true := by
      rintro ⟨j, hj, q⟩
      rw [hl j hj] at q
      cases q
    rw [h, decide_eq_false n, decide_eq_true rfl]
    rfl
  · have y : ∃ j, j < i ∧ bb_t x j = true := ⟨t, c, h⟩
    have ne : ¬ t = i := by omega
    rw [decide_eq_true y, decide_eq_false ne]
    cases bb_t x i <;> rfl
theorem bb_low {x : Int64} {t : Nat} (ht : t < 64) (h : bb_t x t = true) (hl : ∀ i, i < t → bb_t x i = false) : bb_cn (bb_t ((x &&& (-x)) - 1)) 64 = t := by
  have e1 : uN (x &&& (-x)) = 2 ^ t := by
    apply Nat.eq_of_testBit_eq
    intro i
    rw [← bb_t_uN, Nat.testBit_two_pow]
    rcases Nat.lt_or_ge i 64 with c | c
    · exact bb_low1 ht h hl i c
    · rw [bb_t_big c, decide_eq_false (by omega)]
  have e2 : uN 1 = 1 := by decide
  have e3 : uN ((x &&& (-x)) - 1) = 2 ^ t - 1 := by
    rw [bo_usub (by rw [e1, e2]; exact Nat.two_pow_pos t), e1, e2]
  have e4 : bb_cn (bb_t ((x &&& (-x)) - 1)) 64 = bb_cn (fun i => decide (i < t)) 64 := by
    apply bb_cn_congr
    intro i _
    rw [bb_t_uN, e3, Nat.testBit_two_pow_sub_one]
  rw [e4, bb_cn_lt t 64 (by omega)]
section
variable {n d : Nat} {al : Int64} {B S Z A C : Nat → Int64} {H F R G : Nat → Int32}
theorem bx_next33 {post : Int32 → Prop} {b j : Nat} (hb : b < 3) (hj : j < 64) (h2 : (∀ w, j ≤ w → bb_t (B b) w = false) → post (-2))
    (h1 : ∀ t, j ≤ t → bb_t (B b) t = true → (∀ w, j ≤ w → w < t → bb_t (B b) w = false) → post (nI t)) : wX_next_33 post (nI b) (nI j) (nI n) (nI d) (nI (2 ^ n)) al B S Z A C := by
  unfold wX_next_33
  refine ⟨vp_in_nI hb (by omega), ?_⟩
  rw [nI_clamp (by omega)]
  intro x ex
  have hx : ∀ i, bb_t x i = bb_t (B b) (j + i) := fun i => by rw [ex, bb_t_shr _ hj]
  refine br_c (fun c => h2 fun w hw => ?_) (fun c => nm_e (bx_ones ?_))
  · obtain ⟨i, rfl⟩ : ∃ i, w = j + i := ⟨w - j, by omega⟩
    rw [← hx i, c, bb_t_0]
  · obtain ⟨i0, hi0, e0⟩ := bb_t_nz c
    obtain ⟨t, ht, hl⟩ := pk_least (fun k => bb_t x k = true) ⟨i0, e0⟩
    have hl2 : ∀ i, i < t → bb_t x i = false := fun i hi => by
      have q := hl i hi
      cases e : bb_t x i with
      | false => rfl
      | true => exact absurd e q
    have ht64 : t < 64 := by
      rcases Nat.lt_or_ge t 64 with q | q
      · exact q
      · have z : bb_t x t = true := ht
        rw [bb_t_big q] at z
        cases z
    rw [bb_low ht64 ht hl2, nI_add]
    refine h1 (j + t) (by omega) (by rw [← hx t]; exact ht) (fun w hw hwt => ?_)
    obtain ⟨i, rfl⟩ : ∃ i, w = j + i := ⟨w - j, by omega⟩
    rw [← hx i]
    exact hl2 i (by omega)
/-- the relation's facts -/
def bb_R (n d : Nat) (al : Int64) (B S Z : Nat → Int64) (H F : Nat → Int32) : Prop :=
  2 ≤ n ∧ n ≤ 6 ∧ d ≤ 8 ∧ bb_A n al ∧ bb_Z Z ∧ (∀ b, b < 3 → bb_W n (B b)) ∧ (∀ k, k < d → bb_W n (S k))
  ∧ (∀ b, b < 3 → ∀ w, w < 2 ^ n → H (64 * b + w) = bb_i (bb_t (B b) w)) ∧ (∀ k, k < d → ∀ w, w < 2 ^ n → F (64 * k + w) = bb_i (bb_t (S k) w))
/-- the relation at the head of a turn -/
def i_Rel (k : Nat) (u : SX) (v : SY) : Prop := ∃ (n d : Nat) (al : Int64) (B S Z A C : Nat → Int64) (H F R G : Nat → Int32), bb_R n d al B S Z H F ∧ u = (nI n, nI d, nI (2 ^ n), al, B, S, Z, A, C) ∧ v = (nI n, nI (2 ^ n), nI d, H, F, R, G)
theorem bb_rel {k : Nat} (h : bb_R n d al B S Z H F) : i_Rel k (nI n, nI d, nI (2 ^ n), al, B, S, Z, A, C) (nI n, nI (2 ^ n), nI d, H, F, R, G) := ⟨n, d, al, B, S, Z, A, C, H, F, R, G, h, rfl, rfl⟩
theorem bb_el {k : Nat} {P : SX → SY → Prop} {u : SX} {v : SY} (I : i_Rel k u v) (h : ∀ (n d : Nat) (al : Int64) (B S Z A C : Nat → Int64) (H F R G : Nat → Int32), bb_R n d al B S Z H F → P (nI n, nI d, nI (2 ^ n), al, B, S, Z, A, C) (nI n, nI (2 ^ n), nI d, H, F, R, G)) : P u v := by
  obtain ⟨n, d, al, B, S, Z, A, C, H, F, R, G, hR, rfl, rfl⟩ := I
  exact h n d al B S Z A C H F R G hR
theorem bb_R_put (h : bb_R n d al B S Z H F) {e : Nat} {x : Int64} {F' : Nat → Int32} (he : e ≤ d) (he8 : e < 8) (hx : bb_W n x) (hO : bb_O (64 * e) (2 ^ n) F F' (fun w => bb_i (bb_t x w))) : bb_R n (e + 1) al B (vp_updL S e x) Z H F' := by
  obtain ⟨h2, h6, h8, hA, hZ, hB, hS, hH, hF⟩ := h
  have h64 := bb_64 h6
  refine ⟨h2, h6, by omega, hA, hZ, hB, fun k hk => ?_, hH, fun k hk w hw => ?_⟩
  · by_cases c : k = e
    · subst c
      rw [pk_uLs]
      exact hx
    · rw [pk_uLn c]
      exact hS k (by omega)
  · by_cases c : k = e
    · subst c
      rw [pk_uLs]
      exact hO.1 w hw
    · rw [pk_uLn c, hO.2 (64 * k + w) (Or.inl (by omega))]
      exact hF k (by omega) w hw
theorem bb_R_st (h : bb_R n d al B S Z H F) {e b : Nat} {r : Int64} {q : Nat → Bool} {H' : Nat → Int32} (he : e ≤ d) (hb : b < 3) (hW : bb_W n r) (hSt : bb_St n b H H' q) (hq : ∀ w, w < 2 ^ n → bb_t r w = q w) : bb_R n e al (vp_updL B b r) S Z H' F := by
  obtain ⟨h2, h6, h8, hA, hZ, hB, hS, hH, hF⟩ := h
  have h64 := bb_64 h6
  refine ⟨h2, h6, by omega, hA, hZ, fun k hk => ?_, fun k hk => hS k (by omega), fun k hk w hw => ?_, fun k hk => hF k (by omega)⟩
  · by_cases c : k = b
    · subst c
      rw [pk_uLs]
      exact hW
    · rw [pk_uLn c]
      exact hB k hk
  · by_cases c : k = b
    · subst c
      rw [pk_uLs, hSt.1 w hw, hq w hw]
    · rw [pk_uLn c, hSt.2 (64 * k + w) (by omega)]
      exact hH k hk w hw
theorem bb_fin {k : Nat} (h : bb_R n d al B S Z H F) {e b : Nat} {r : Int64} {q : Nat → Bool} {H' : Nat → Int32} (he : e ≤ d) (hb : b < 3) (hW : bb_W n r) (hq : ∀ w, w < 2 ^ n → bb_t r w = q w) (hSt : bb_St n b H H' q) :
    nI (bb_cn q (2 ^ n)) = nI (bb_cn (bb_t r) 64) ∧ i_Rel (k + 4) (nI n, nI e, nI (2 ^ n), al, vp_updL B b r, S, Z, A, C) (nI n, nI (2 ^ n), nI e, H', F, R, G) := by
  refine ⟨?_, bb_rel (bb_R_st h he hb hW hSt hq)⟩
  rw [bb_cn_ext (bb_64 h.2.1) hW, bb_cn_congr hq]
/-! constructors -/
theorem bb_al5 : ∀ n, n < 6 → ∀ w, w < 64 → bb_t (((1 : Int64) <<< ((nI (2 ^ n)).toInt64 &&& 63)) - 1) w = decide (w < 2 ^ n) := by decide +kernel
theorem bb_z6 : ∀ v, v < 6 → ∀ w, w < 64 → bb_t (vp_updL (vp_updL (vp_updL (vp_updL (vp_updL (vp_updL (fun _ => 0) 0 6148914691236517205) 1 3689348814741910323) 2 1085102592571150095) 3 71777214294589695) 4 281470681808895) 5 4294967295 v) w = !w.testBit v := by decide +kernel
theorem bx_init106 {post : SX → Prop} {z : Int64} {fa : Int64} (h : ∀ B' Z', (∀ b, b < 3 → B' b = z) → bb_Z Z' → post (nI n, nI 0, nI (2 ^ n), z, B', (fun _ => 0), Z', (fun _ => 0), (fun _ => 0))) : wX_init_106 post z (nI n) 0 (nI (2 ^ n)) fa (fun _ => 0) (fun _ => 0) (fun _ => 0) (fun _ => 0) (fun _ => 0) := by
  unfold wX_init_106
  refine nm_e (nm_e (nm_e (nm_e (nm_e (nm_e ?_)))))
  refine loop_0 (fun m i s => wX_init_165 post (nI n) 0 (nI (2 ^ n)) z m (nI i) s _ _ _ _) (fun i s => ∀ b, b < i → s b = z) 3 (fun _ => 0) (fun w hw => absurd hw (Nat.not_lt_zero w)) ?_ ?_
  · intro m s hI
    exact br_t (Int32.le_refl _) (h s _ hI bb_z6)
  · intro m i s hi hI K
    refine br_f (nI_ge (b := 3) hi (by decide)) ⟨vp_in_nI hi (by omega), ?_⟩
    rw [nI_clamp (by omega)]
    refine nm_e (nm_r (nI_1 i) (K _ fun b hb => ?_))
    by_cases c : b = i
    · subst c
      rw [pk_uLs]
    · rw [pk_uLn c]
      exact hI b (by omega)
theorem bx_init72 {post : SX → Prop} {fw : Int32} {fa : Int64} (h6 : n ≤ 6) (h : ∀ al B' Z', bb_A n al → (∀ b, b < 3 → B' b = al) → bb_Z Z' → post (nI n, nI 0, nI (2 ^ n), al, B', (fun _ => 0), Z', (fun _ => 0), (fun _ => 0))) : wX_init_72 post (nI n) 0 fw fa (fun _ => 0) (fun _ => 0) (fun _ => 0) (fun _ => 0) (fun _ => 0) := by
  unfold wX_init_72
  refine nm_r (bb_1v n (by omega)) ?_
  by_cases c : n = 6
  · subst c
    exact br_t rfl (bx_init106 fun B' Z' hB hZ => h (-1) B' Z' (fun w hw => by rw [bb_t_m1 w hw, decide_eq_true hw]) hB hZ)
  · exact br_f (fun z => c ((nI_eq (b := 6) (by omega) (by decide)).mp z)) (bx_init106 fun B' Z' hB hZ => h _ B' Z' (bb_al5 n (by omega)) hB hZ)
theorem by_init82 {post : SY → Prop} {J : Int32 → (Nat → Int32) → (Nat → Int32) → (Nat → Int32) → (Nat → Int32) → Prop} (hn : n ≤ 6) {b : Nat} (hb : b < 3) (hH : ∀ k, k < b → ∀ w, w < 2 ^ n → H (64 * k + w) = bb_i true)
    (h : ∀ H', (∀ k, k < b + 1 → ∀ w, w < 2 ^ n → H' (64 * k + w) = bb_i true) → J (nI (b + 1)) H' F R G) : ∃ m, wY_init_82 post J (nI b) (nI n) (nI (2 ^ n)) (nI d) m 0 H F R G := by
  have h64 := bb_64 hn
  refine loop_0 (fun m i s => wY_init_82 post J (nI b) (nI n) (nI (2 ^ n)) (nI d) m (nI i) s F R G) (fun i s => bb_O (64 * b) i H s (fun _ => bb_i true)) (2 ^ n) H bb_O_0 ?_ ?_
  · intro m s hI
    refine br_t (Int32.le_refl _) (nm_r (nI_1 b) (h s fun k hk w hw => ?_))
    by_cases c : k = b
    · subst c
      exact hI.1 w hw
    · rw [hI.2 (64 * k + w) (Or.inl (by omega))]
      exact hH k (by omega) w hw
  · intro m i s hi hI K
    refine br_f (nI_ge hi (by omega)) (br_f (nI_ge (b := 64) (by omega) (by decide)) ?_)
    rw [by_ix, nI_clamp (n := 64 * b + i) (by omega)]
    exact ⟨vp_in_nI (by omega) (by omega), nm_e (nm_r (nI_1 i) (K _ (bb_O_s hI rfl)))⟩
theorem by_init60 {post : SY → Prop} {fv fw : Int32} (hn : n ≤ 6) (h : ∀ H', (∀ k, k < 3 → ∀ w, w < 2 ^ n → H' (64 * k + w) = bb_i true) → post (nI n, nI (2 ^ n), nI 0, H', (fun _ => 0), (fun _ => 0), (fun _ => 0))) : wY_init_60 post (nI n) fv fw 0 (fun _ => 0) (fun _ => 0) (fun _ => 0) (fun _ => 0) := by
  unfold wY_init_60
  refine nm_r (bb_1v n (by omega)) ?_
  refine loop_0 (fun m i s => wY_init_75 post (nI n) (nI (2 ^ n)) (nI 0) m (nI i) s (fun _ => 0) (fun _ => 0) (fun _ => 0)) (fun i s => ∀ k, k < i → ∀ w, w < 2 ^ n → s (64 * k + w) = bb_i true) 3 (fun _ => 0) (fun w hw => absurd hw (Nat.not_lt_zero w)) ?_ ?_
  · intro m s hI
    exact br_t (Int32.le_refl _) (h s hI)
  · intro m i s hi hI K
    exact br_f (nI_ge (b := 3) hi (by decide)) (by_init82 hn hi hI K)
end
end
section
/-! the owed statements, first half -/
theorem bb_O_congr {o i : Nat} {F s v v' : Nat → Int32} (h : ∀ w, w < i → v w = v' w) (hO : bb_O o i F s v) : bb_O o i F s v' := ⟨fun w hw => by rw [hO.1 w hw, h w hw], hO.2⟩
theorem bb_kin (x : Int32) : (x < 0 ∨ (¬ x < 0 ∧ ¬ x ≤ 4)) ∨ ∃ j : Nat, j < 5 ∧ x = nI j := by
  by_cases h : x < 0
  · exact Or.inl (Or.inl h)
  · obtain ⟨j, hj, rfl⟩ := nI_of h
    by_cases c : j < 5
    · exact Or.inr ⟨j, c, rfl⟩
    · exact Or.inl (Or.inr ⟨h, nI_ge (a := 4) (by omega) hj⟩)
theorem by_64 {e : Nat} (h : e < 8) : (64 : Int32) * (nI e &&& 7) = nI (64 * e) := by
  rw [by_7 e h]
  exact pk_mul 64 e
theorem i_up {k : Nat} {u : SX} {v : SY} (h : i_Rel k u v) : i_Rel (k + 4) u v := h
theorem bb_vc0 {n : Nat} {k0 : Int32} (h2 : 2 ≤ n) (h6 : n ≤ 6) {fw fw2 fv2 : Int32} {fa : Int64}
    (hy : ∀ post : SY → Prop, wY_init_60 post (nI n) 0 0 0 (fun _ => 0) (fun _ => 0) (fun _ => 0) (fun _ => 0) → wpY_init post k0) : wX_init_72 (fun u => wpY_init (fun v => i_Rel 1 u v) k0) (nI n) 0 fw fa (fun _ => 0) (fun _ => 0) (fun _ => 0) (fun _ => 0) (fun _ => 0) := by
  have h64 := bb_64 h6
  refine bx_init72 h6 fun al B' Z' hA hB hZ => hy _ (by_init60 h6 fun H' hH => bb_rel ⟨h2, h6, by omega, hA, hZ, fun b hb => ?_, fun k hk => absurd hk (Nat.not_lt_zero k), fun b hb w hw => ?_, fun k hk => absurd hk (Nat.not_lt_zero k)⟩)
  · rw [hB b hb]
    exact bb_A_W hA
  · rw [hH b hb w hw, hB b hb, hA w (by omega), decide_eq_true hw]
theorem i_vc0 (k0 : Int32) : wpX_init (fun u => wpY_init (fun v => i_Rel 1 u v) k0) k0 := by
  unfold wpX_init
  by_cases c : 2 ≤ k0
  · refine br_t c ?_
    unfold wX_init_54
    by_cases c6 : k0 ≤ 6
    · obtain ⟨n, hn, rfl⟩ := nI_of2 (x := k0) (M := 6) (n := 6) (by decide) (Int32.not_lt.mpr (Int32.le_trans (by decide) c)) c6
      have h2 : 2 ≤ n := (nI_leI (a := 2) (by decide) (by omega)).mp c
      exact br_t c6 (bb_vc0 (fw2 := 0) (fv2 := 0) h2 hn fun post hp => br_t c (br_t c6 hp))
    · exact br_f c6 (bb_vc0 (n := 6) (fw2 := 0) (fv2 := 0) (by omega) (by omega) fun post hp => br_t c (br_f c6 hp))
  · refine br_f c ?_
    unfold wX_init_54
    exact br_t (by decide) (bb_vc0 (n := 2) (fw2 := 0) (fv2 := 0) (by omega) (by omega) fun post hp => br_f c hp)
theorem i_vc_depth {k : Nat} {u : SX} {v : SY} (I : i_Rel k u v) (hk : k + 4 ≤ 2049) : wpX_depth (fun r => wpY_depth (fun r' => r' = r ∧ i_Rel (k + 4) u v) v) u := by
  obtain ⟨n, d, al, B, S, Z, A, C, H, F, R, G, hR, rfl, rfl⟩ := I
  exact ⟨rfl, bb_rel hR⟩
theorem i_vc_atom {k : Nat} {u : SX} {v : SY} (I : i_Rel k u v) (hk : k + 4 ≤ 2049) (v1 : Int32) : wpX_atom (fun r u' => wpY_atom (fun r' v' => r' = r ∧ i_Rel (k + 4) u' v') v v1) u v1 := by
  obtain ⟨n, d, al, B, S, Z, A, C, H, F, R, G, hR, rfl, rfl⟩ := I
  have ⟨h2, h6, h8, hA, hZ, hB, hW, hH, hF⟩ := hR
  have h64 := bb_64 h6
  unfold wpX_atom
  dsimp only
  rcases bb_dic v1 (N := n) (by omega) with hv | ⟨v, hv, rfl⟩
  · refine bx_isV_bad hv (br_t rfl ?_)
    unfold wpY_atom
    dsimp only
    exact by_badV hv (br_f (by decide) ⟨rfl, bb_rel hR⟩)
  · refine bx_isV h6 hv (br_f (by decide) ?_)
    by_cases c : d = 8
    · subst c
      refine br_t rfl ?_
      unfold wpY_atom
      dsimp only
      exact by_goodV h6 hv (br_t rfl (br_t rfl ⟨rfl, bb_rel hR⟩))
    · have c8 : ¬ nI d = 8 := fun z => c ((nI_eq (b := 8) (by omega) (by decide)).mp z)
      refine br_f c8 ⟨vp_in_nI (by omega) (by omega), vp_in_nI (by omega) (by omega), ?_⟩
      rw [nI_clamp (n := d) (by omega), nI_clamp (n := v) (by omega)]
      refine nm_e (nm_r (nI_1 d) ?_)
      unfold wpY_atom
      dsimp only
      refine by_goodV h6 hv (br_t rfl (br_f c8 (by_atom24 h6 (by omega) hv fun F' hO => ⟨rfl, bb_rel (bb_R_put hR (Nat.le_refl d) (by omega) (bb_W_all hA) (bb_O_congr (fun w hw => ?_) hO))⟩)))
      rw [bb_t_and, bb_t_not _ (by omega), hA w (by omega), hZ v (by omega) w (by omega), decide_eq_true hw, Bool.true_and, Bool.not_not]
theorem i_vc_quote {k : Nat} {u : SX} {v : SY} (I : i_Rel k u v) (hk : k + 4 ≤ 2049) (v1 : Int32) : wpX_quote (fun r u' => wpY_quote (fun r' v' => r' = r ∧ i_Rel (k + 4) u' v') v v1) u v1 := by
  obtain ⟨n, d, al, B, S, Z, A, C, H, F, R, G, hR, rfl, rfl⟩ := I
  have ⟨h2, h6, h8, hA, hZ, hB, hW, hH, hF⟩ := hR
  have h64 := bb_64 h6
  unfold wpX_quote
  dsimp only
  rcases bb_bel v1 with hb | ⟨b, hb, rfl⟩
  · refine bx_isB_bad hb (br_t rfl ?_)
    unfold wpY_quote
    dsimp only
    exact by_bad hb (br_f (by decide) ⟨rfl, bb_rel hR⟩)
  · refine bx_isB hb (br_f (by decide) ?_)
    by_cases c : d = 8
    · subst c
      refine br_t rfl ?_
      unfold wpY_quote
      dsimp only
      exact by_good hb (br_t rfl (br_t rfl ⟨rfl, bb_rel hR⟩))
    · have c8 : ¬ nI d = 8 := fun z => c ((nI_eq (b := 8) (by omega) (by decide)).mp z)
      refine br_f c8 ⟨vp_in_nI (by omega) (by omega), vp_in_nI (by omega) (by omega), ?_⟩
      rw [nI_clamp (n := d) (by omega), nI_clamp (n := b) (by omega)]
      refine nm_e (nm_r (nI_1 d) ?_)
      unfold wpY_quote
      dsimp only
      exact by_good hb (br_t rfl (br_f c8 (by_quote24 h6 (by omega) hb (hH b hb) fun F' hO => ⟨rfl, bb_rel (bb_R_put hR (Nat.le_refl d) (by omega) (hB b hb) hO)⟩)))
section
variable {n d : Nat} {al : Int64} {B S Z A C : Nat → Int64} {H F R G : Nat → Int32}
theorem bx_con149 {post : Int32 → SX → Prop} {x : Int64} (h0 : 0 < d) (h8 : d ≤ 8) (h : post (nI d) (nI n, nI d, nI (2 ^ n), al, B, vp_updL S (d - 1) x, Z, A, C)) : wX_connect_149 post x (nI n) (nI d) (nI (2 ^ n)) al B S Z A C := by
  unfold wX_connect_149
  rw [bb_pred h0, nI_clamp (by omega)]
  exact ⟨vp_in_nI (by omega) (by omega), nm_e h⟩
theorem bx_con24 {post : Int32 → SX → Prop} {k : Nat} (hn : n ≤ 6) (hk1 : 1 ≤ k) (hk4 : k ≤ 4) (hd : 2 ≤ d) (h8 : d ≤ 8) (hA : bb_A n al) (hW : ∀ k, k < d → bb_W n (S k))
    (h : ∀ x, bb_W n x → (∀ w, w < 2 ^ n → bb_t x w = bb_j k (bb_t (S (d - 1 - 1)) w) (bb_t (S (d - 1)) w)) → post (nI (d - 1)) (nI n, nI (d - 1), nI (2 ^ n), al, B, vp_updL S (d - 1 - 1) x, Z, A, C)) : wX_connect_24 post (nI k) 2 (nI d) (nI n) (nI d) (nI (2 ^ n)) al B S Z A C := by
  have h64 := bb_64 hn
  unfold wX_connect_24
  refine br_t (nI_le (a := 2) hd (by omega)) ?_
  rw [bb_pred (by omega)]
  refine ⟨vp_in_nI (by omega) (by omega), ?_⟩
  rw [nI_clamp (n := d - 1) (by omega)]
  refine nm_e (br_f (nI_ne0 hk1 (by omega)) (nm_e ?_))
  rw [bb_pred (d := d - 1) (by omega)]
  refine ⟨vp_in_nI (by omega) (by omega), ?_⟩
  rw [nI_clamp (n := d - 1 - 1) (by omega)]
  refine nm_e (nm_e ?_)
  have hk : k = 1 ∨ k = 2 ∨ k = 3 ∨ k = 4 := by omega
  rcases hk with rfl | rfl | rfl | rfl
  · refine br_f (by decide) (br_f (by decide) (br_f (by decide) (bx_con149 (by omega) (by omega) (h _ (bb_W_and (hW _ (by omega))) fun w hw => ?_))))
    exact bb_t_and _ _ _
  · refine br_t rfl (nm_e (bx_con149 (by omega) (by omega) (h _ (bb_W_or (hW _ (by omega)) (hW _ (by omega))) fun w hw => ?_)))
    exact bb_t_or _ _ _
  · refine br_f (by decide) (br_t rfl (nm_e (bx_con149 (by omega) (by omega) (h _ (fun w hw => ?_) fun w hw => ?_))))
    · rw [bb_t_xor, hW (d - 1 - 1) (by omega) w hw, hW (d - 1) (by omega) w hw]
      rfl
    · exact bb_t_xor _ _ _
  · refine br_f (by decide) (br_f (by decide) (br_t rfl (nm_e (bx_con149 (by omega) (by omega) (h _ (bb_W_all hA) fun w hw => ?_)))))
    rw [bb_t_and, bb_t_or, bb_t_not _ (by omega), hA w (by omega), decide_eq_true hw]
    exact Bool.true_and _
end
theorem i_vc_connect {k : Nat} {u : SX} {v : SY} (I : i_Rel k u v) (hk : k + 4 ≤ 2049) (v1 : Int32) : wpX_connect (fun r u' => wpY_connect (fun r' v' => r' = r ∧ i_Rel (k + 4) u' v') v v1) u v1 := by
  obtain ⟨n, d, al, B, S, Z, A, C, H, F, R, G, hR, rfl, rfl⟩ := I
  have ⟨h2, h6, h8, hA, hZ, hB, hW, hH, hF⟩ := hR
  have h64 := bb_64 h6
  unfold wpX_connect
  dsimp only
  rcases bb_kin v1 with (hv | hv) | ⟨j, hj, rfl⟩
  · refine br_t hv ?_
    unfold wpY_connect
    dsimp only
    exact br_t hv ⟨rfl, bb_rel hR⟩
  · refine br_f hv.1 (br_f hv.2 ?_)
    unfold wpY_connect
    dsimp only
    exact br_f hv.1 (br_f hv.2 ⟨rfl, bb_rel hR⟩)
  · have p0 : ¬ nI j < 0 := nI_pos (by omega)
    have p4 : nI j ≤ 4 := nI_le (b := 4) (by omega) (by decide)
    refine br_f p0 (br_t p4 ?_)
    by_cases c0 : j = 0
    · subst c0
      refine br_t rfl ?_
      unfold wX_connect_24
      by_cases cd : d = 0
      · subst cd
        refine br_f (by decide) ?_
        unfold wpY_connect
        dsimp only
        refine br_f p0 (br_t p4 (br_t rfl ?_))
        unfold wY_connect_24
        exact br_f (by decide) ⟨rfl, bb_rel hR⟩
      · have z1 : (1 : Int32) ≤ nI d := nI_le (a := 1) (by omega) (by omega)
        refine br_t z1 ?_
        have hin : vp_in (nI (d - 1)) 8 := vp_in_nI (by omega) (by omega)
        rw [bb_pred (by omega)]
        refine ⟨hin, ?_⟩
        rw [nI_clamp (n := d - 1) (by omega)]
        refine nm_e (br_t rfl ⟨hin, nm_e ?_⟩)
        unfold wpY_connect
        dsimp only
        refine br_f p0 (br_t p4 (br_t rfl ?_))
        unfold wY_connect_24
        refine br_t z1 ?_
        rw [bb_pred (by omega), by_64 (by omega)]
        refine nm_e (br_t rfl (by_con49 h6 (by omega) (hF (d - 1) (by omega)) fun F' hO => ⟨rfl, ?_⟩))
        have q := bb_R_put hR (e := d - 1) (by omega) (by omega) (bb_W_all (x := S (d - 1) ^^^ (-1)) hA) (bb_O_congr (fun w hw => by
          rw [bb_t_and, bb_t_not _ (by omega), hA w (by omega), decide_eq_true hw, Bool.true_and]) hO)
        rw [show d - 1 + 1 = d by omega] at q
        exact bb_rel q
    · have n0 : ¬ nI j = 0 := nI_ne0 (by omega) (by omega)
      refine br_f n0 ?_
      by_cases cd : d < 2
      · have z2 : ¬ (2 : Int32) ≤ nI d := nI_ge (b := 2) cd (by decide)
        unfold wX_connect_24
        refine br_f z2 ?_
        unfold wpY_connect
        dsimp only
        refine br_f p0 (br_t p4 (br_f n0 ?_))
        unfold wY_connect_24
        exact br_f z2 ⟨rfl, bb_rel hR⟩
      · have z2 : (2 : Int32) ≤ nI d := nI_le (a := 2) (by omega) (by omega)
        refine bx_con24 h6 (by omega) (by omega) (by omega) h8 hA hW fun x hx hb => ?_
        unfold wpY_connect
        dsimp only
        refine br_f p0 (br_t p4 (br_f n0 ?_))
        unfold wY_connect_24
        refine br_t z2 ?_
        have e2 : nI d - 2 = nI (d - 1 - 1) := by
          have q := pk_sub (a := d) (b := 2) (by omega)
          exact q.trans (congrArg nI (by omega))
        rw [bb_pred (by omega), by_64 (e := d - 1) (by omega), e2, by_64 (e := d - 1 - 1) (by omega)]
        refine nm_e (br_f n0 (nm_e (by_con114 h6 (by omega) (by omega) (by omega) (by omega) (by omega) (hF (d - 1) (by omega)) (hF (d - 1 - 1) (by omega)) fun F' hO => ⟨rfl, ?_⟩)))
        have q := bb_R_put hR (e := d - 1 - 1) (by omega) (by omega) hx (bb_O_congr (fun w hw => by rw [hb w hw]) hO)
        rw [show d - 1 - 1 + 1 = d - 1 by omega] at q
        exact bb_rel q
theorem i_vc_truth {k : Nat} {u : SX} {v : SY} (I : i_Rel k u v) (hk : k + 4 ≤ 2049) (v1 : Int32) : wpX_truth (fun r => wpY_truth (fun r' => r' = r ∧ i_Rel (k + 4) u v) v v1) u v1 := by
  obtain ⟨n, d, al, B, S, Z, A, C, H, F, R, G, hR, rfl, rfl⟩ := I
  have ⟨h2, h6, h8, hA, hZ, hB, hW, hH, hF⟩ := hR
  have h64 := bb_64 h6
  have hrel : i_Rel (k + 4) (nI n, nI d, nI (2 ^ n), al, B, S, Z, A, C) (nI n, nI (2 ^ n), nI d, H, F, R, G) := bb_rel hR
  unfold wpX_truth wpY_truth
  dsimp only
  by_cases cd : d = 0
  · subst cd
    exact br_t rfl (br_t rfl ⟨rfl, hrel⟩)
  · have nd : ¬ nI d = 0 := nI_ne0 (by omega) (by omega)
    refine br_f nd ?_
    rcases bb_dic v1 (N := 2 ^ n) (by omega) with hv | ⟨w, hw, rfl⟩
    · exact bx_isW_bad hv (br_t rfl (br_f nd (by_badW hv (br_f (by decide) ⟨rfl, hrel⟩))))
    · refine bx_isW h6 hw (br_f (by decide) ?_)
      rw [bb_pred (by omega)]
      refine ⟨vp_in_nI (by omega) (by omega), ?_⟩
      rw [nI_clamp (n := d - 1) (by omega)]
      refine bx_has (by omega) ?_
      have e := hF (d - 1) (by omega) w hw
      cases c : bb_t (S (d - 1)) w with
      | false =>
        rw [c] at e
        exact br_t rfl (br_f nd (by_goodW h6 hw (br_t rfl (by_top (by omega) h8 (by omega) e (br_t rfl ⟨rfl, hrel⟩)))))
      | true =>
        rw [c] at e
        exact br_f (by decide) (br_f nd (by_goodW h6 hw (br_t rfl (by_top (by omega) h8 (by omega) e (br_f (by decide) ⟨rfl, hrel⟩)))))
end
section
/-! the owed statements: methods that store -/
theorem i_vc_expand {k : Nat} {u : SX} {v : SY} (I : i_Rel k u v) (hk : k + 4 ≤ 2049) (v1 : Int32) : wpX_expand (fun r u' => wpY_expand (fun r' v' => r' = r ∧ i_Rel (k + 4) u' v') v v1) u v1 := by
  obtain ⟨n, d, al, B, S, Z, A, C, H, F, R, G, hR, rfl, rfl⟩ := I
  have ⟨h2, h6, h8, hA, hZ, hB, hW, hH, hF⟩ := hR
  unfold wpX_expand wpY_expand
  dsimp only
  rcases bb_bel v1 with hb | ⟨b, hb, rfl⟩
  · exact bx_isB_bad hb (br_t rfl (by_bad hb (br_f (by decide) ⟨rfl, bb_rel hR⟩)))
  · refine bx_isB hb (br_f (by decide) ?_)
    by_cases cd : d = 0
    · subst cd
      exact br_t rfl (by_good hb (br_t rfl (br_t rfl ⟨rfl, bb_rel hR⟩)))
    · have nd : ¬ nI d = 0 := nI_ne0 (by omega) (by omega)
      refine br_f nd (bx_pop (by omega) h8 ?_)
      dsimp only
      refine ⟨vp_in_nI hb (by omega), ?_⟩
      rw [nI_clamp (n := b) (by omega)]
      refine bx_become hb ?_
      exact by_good hb (br_t rfl (br_f nd (by_expand22 h6 (by omega) h8 hb (hH b hb) (hF (d - 1) (by omega)) fun H' R' hS => bb_fin hR (Nat.sub_le _ _) hb (bb_W_and (hW _ (by omega))) (fun w _ => bb_t_and _ _ w) hS)))
theorem i_vc_revise {k : Nat} {u : SX} {v : SY} (I : i_Rel k u v) (hk : k + 4 ≤ 2049) (v1 : Int32) : wpX_revise (fun r u' => wpY_revise (fun r' v' => r' = r ∧ i_Rel (k + 4) u' v') v v1) u v1 := by
  obtain ⟨n, d, al, B, S, Z, A, C, H, F, R, G, hR, rfl, rfl⟩ := I
  have ⟨h2, h6, h8, hA, hZ, hB, hW, hH, hF⟩ := hR
  have h64 := bb_64 h6
  unfold wpX_revise wpY_revise
  dsimp only
  rcases bb_bel v1 with hb | ⟨b, hb, rfl⟩
  · exact bx_isB_bad hb (br_t rfl (by_bad hb (br_f (by decide) ⟨rfl, bb_rel hR⟩)))
  · refine bx_isB hb (br_f (by decide) ?_)
    by_cases cd : d = 0
    · subst cd
      exact br_t rfl (by_good hb (br_t rfl (br_t rfl ⟨rfl, bb_rel hR⟩)))
    · have nd : ¬ nI d = 0 := nI_ne0 (by omega) (by omega)
      have hWs := hW (d - 1) (by omega)
      refine br_f nd (bx_pop (by omega) h8 ?_)
      dsimp only
      refine ⟨vp_in_nI hb (by omega), ?_⟩
      rw [nI_clamp (n := b) (by omega)]
      refine bx_nearest hZ h6 (hB b hb) hWs fun r hr => bx_become hb ?_
      refine by_good hb (br_t rfl (br_f nd (by_revise h6 (by omega) h8 hb (hH b hb) (hF (d - 1) (by omega)) fun H' R' G' hS => bb_fin hR (Nat.sub_le _ _) hb (bb_W_of fun w hw h2n => ?_) (fun w hw => hr w (by omega)) hS)))
      rw [hr w hw, hWs w h2n]
      rfl
theorem i_vc_update {k : Nat} {u : SX} {v : SY} (I : i_Rel k u v) (hk : k + 4 ≤ 2049) (v1 : Int32) : wpX_update (fun r u' => wpY_update (fun r' v' => r' = r ∧ i_Rel (k + 4) u' v') v v1) u v1 := by
  obtain ⟨n, d, al, B, S, Z, A, C, H, F, R, G, hR, rfl, rfl⟩ := I
  have ⟨h2, h6, h8, hA, hZ, hB, hW, hH, hF⟩ := hR
  unfold wpX_update wpY_update
  dsimp only
  rcases bb_bel v1 with hb | ⟨b, hb, rfl⟩
  · exact bx_isB_bad hb (br_t rfl (by_bad hb (br_f (by decide) ⟨rfl, bb_rel hR⟩)))
  · refine bx_isB hb (br_f (by decide) ?_)
    by_cases cd : d = 0
    · subst cd
      exact br_t rfl (by_good hb (br_t rfl (br_t rfl ⟨rfl, bb_rel hR⟩)))
    · have nd : ¬ nI d = 0 := nI_ne0 (by omega) (by omega)
      refine br_f nd (bx_pop (by omega) h8 ?_)
      dsimp only
      refine ⟨vp_in_nI hb (by omega), ?_⟩
      rw [nI_clamp (n := b) (by omega)]
      refine nm_e (bx_upd38 hZ h6 hb (hW (d - 1) (by omega)) fun r hrW hr => ?_)
      exact by_good hb (br_t rfl (br_f nd (by_upd22 h6 (by omega) h8 hb (hH b hb) (hF (d - 1) (by omega)) fun H' R' hS => bb_fin hR (Nat.sub_le _ _) hb hrW hr hS)))
theorem i_vc_giveUp {k : Nat} {u : SX} {v : SY} (I : i_Rel k u v) (hk : k + 4 ≤ 2049) (v1 : Int32) : wpX_giveUp (fun r u' => wpY_giveUp (fun r' v' => r' = r ∧ i_Rel (k + 4) u' v') v v1) u v1 := by
  obtain ⟨n, d, al, B, S, Z, A, C, H, F, R, G, hR, rfl, rfl⟩ := I
  have ⟨h2, h6, h8, hA, hZ, hB, hW, hH, hF⟩ := hR
  have h64 := bb_64 h6
  unfold wpX_giveUp wpY_giveUp
  dsimp only
  rcases bb_bel v1 with hb | ⟨b, hb, rfl⟩
  · exact bx_isB_bad hb (br_t rfl (by_bad hb (br_f (by decide) ⟨rfl, bb_rel hR⟩)))
  · refine bx_isB hb (br_f (by decide) ?_)
    by_cases cd : d = 0
    · subst cd
      exact br_t rfl (by_good hb (br_t rfl (br_t rfl ⟨rfl, bb_rel hR⟩)))
    · have nd : ¬ nI d = 0 := nI_ne0 (by omega) (by omega)
      have hBb := hB b hb
      refine br_f nd (bx_pop (by omega) h8 ?_)
      dsimp only
      refine ⟨vp_in_nI hb (by omega), ?_⟩
      rw [nI_clamp (n := b) (by omega)]
      have e0 : ∀ w, w < 2 ^ n → bb_t (al &&& (S (d - 1) ^^^ (-1))) w = !bb_t (S (d - 1)) w := fun w hw => by
        rw [bb_t_and, bb_t_not _ (by omega), hA w (by omega), decide_eq_true hw, Bool.true_and]
      have fin : ∀ x : Int64, bb_W n x → (∀ w, w < 2 ^ n → bb_t x w = (!bb_ex (fun w => bb_t (B b) w && !bb_t (S (d - 1)) w) (2 ^ n) && (!bb_t (S (d - 1)) w && decide (bb_D n (bb_t (B b)) w = bb_mn 1000 (fun w => bb_t (S (d - 1)) w == false) (bb_D n (bb_t (B b))) (2 ^ n))))) →
          wX_giveUp_66 (fun r u' => wpY_badBelief (fun r_1 => (r_1 = 0 → (nI d = 0 → -2 = r ∧ i_Rel (k + 4) u' (nI n, nI (2 ^ n), nI d, H, F, R, G)) ∧ (¬ nI d = 0 → ∃ n24, wY_giveUp_24 (fun r' v' => r' = r ∧ i_Rel (k + 4) u' v') (nI b) (nI n) (nI (2 ^ n)) (nI d) n24 1 0 H F R G)) ∧ (¬ r_1 = 0 → -1 = r ∧ i_Rel (k + 4) u' (nI n, nI (2 ^ n), nI d, H, F, R, G))) (nI n, nI (2 ^ n), nI d, H, F, R, G) (nI b)) (nI b) (B b) x (nI n) (nI (d - 1)) (nI (2 ^ n)) al B S Z A C := by
        intro x hx hq
        unfold wX_giveUp_66
        refine bx_become hb ?_
        refine by_good hb (br_t rfl (br_f nd (by_giveUp h6 (by omega) h8 hb (hH b hb) (hF (d - 1) (by omega)) fun H' R' G' hS => bb_fin hR (Nat.sub_le _ _) hb (bb_W_or hBb hx) (fun w hw => ?_) hS)))
        rw [bb_t_or, hq w hw]
        rfl
      refine nm_e (br_c (fun c => ?_) (fun c => ?_))
      · have c2 : bb_ex (fun w => bb_t (B b) w && !bb_t (S (d - 1)) w) (2 ^ n) = false := by
          apply bb_ex_f.mpr
          intro w hw
          have q := bb_t_z.mp c w (by omega)
          rw [bb_t_and, bb_t_not _ (by omega)] at q
          exact q
        refine bx_nearest hZ h6 hBb (bb_W_all hA) fun r hr => fin r (bb_W_of fun w hw h2n => ?_) (fun w hw => ?_)
        · rw [hr w hw, bb_W_all hA w h2n]
          rfl
        · rw [hr w (by omega), c2, e0 w hw, Bool.not_false, Bool.true_and]
          have e1 : bb_mn 1000 (bb_t (al &&& (S (d - 1) ^^^ (-1)))) (bb_D n (bb_t (B b))) (2 ^ n) = bb_mn 1000 (fun w => bb_t (S (d - 1)) w == false) (bb_D n (bb_t (B b))) (2 ^ n) := bb_mn_congr (fun w hw => by rw [e0 w hw]; cases bb_t (S (d - 1)) w <;> rfl) (fun _ _ => rfl)
          rw [e1]
      · have c2 : bb_ex (fun w => bb_t (B b) w && !bb_t (S (d - 1)) w) (2 ^ n) = true := by
          cases e : bb_ex (fun w => bb_t (B b) w && !bb_t (S (d - 1)) w) (2 ^ n) with
          | true => rfl
          | false =>
            refine absurd (bb_t_z.mpr fun i hi => ?_) c
            rw [bb_t_and, bb_t_not _ hi]
            rcases Nat.lt_or_ge i (2 ^ n) with q | q
            · exact bb_ex_f.mp e i q
            · rw [hBb i q]
              rfl
        refine fin 0 (fun w _ => bb_t_0 w) (fun w hw => ?_)
        rw [c2, bb_t_0]
        rfl
theorem i_vc_forget {k : Nat} {u : SX} {v : SY} (I : i_Rel k u v) (hk : k + 4 ≤ 2049) (v1 : Int32) (v2 : Int32) : wpX_forget (fun r u' => wpY_forget (fun r' v' => r' = r ∧ i_Rel (k + 4) u' v') v v1 v2) u v1 v2 := by
  obtain ⟨n, d, al, B, S, Z, A, C, H, F, R, G, hR, rfl, rfl⟩ := I
  have ⟨h2, h6, h8, hA, hZ, hB, hW, hH, hF⟩ := hR
  have h64 := bb_64 h6
  unfold wpX_forget wpY_forget
  dsimp only
  rcases bb_bel v1 with hb | ⟨b, hb, rfl⟩
  · exact bx_isB_bad hb (br_t rfl (by_bad hb (br_f (by decide) ⟨rfl, bb_rel hR⟩)))
  · refine bx_isB hb (br_f (by decide) ?_)
    rcases bb_dic v2 (N := n) (by omega) with hv | ⟨v, hv, rfl⟩
    · exact bx_isV_bad hv (br_t rfl (by_good hb (br_t rfl (by_badV hv (br_f (by decide) ⟨rfl, bb_rel hR⟩)))))
    · refine bx_isV h6 hv (br_f (by decide) ⟨vp_in_nI hb (by omega), ?_⟩)
      rw [nI_clamp (n := b) (by omega)]
      refine bx_swapped hZ (by omega) fun r hr => ⟨vp_in_nI hb (by omega), bx_become hb ?_⟩
      refine by_good hb (br_t rfl (by_goodV h6 hv (br_t rfl (by_forget23 h6 hb hv (hH b hb) fun H' R' hS => bb_fin hR (Nat.le_refl d) hb (bb_W_or (hB b hb) (bb_W_sw hv (hB b hb) hr)) (fun w hw => ?_) hS))))
      rw [bb_t_or, hr w (by omega)]
theorem i_vc_merge {k : Nat} {u : SX} {v : SY} (I : i_Rel k u v) (hk : k + 4 ≤ 2049) (v1 : Int32) (v2 : Int32) : wpX_merge (fun r u' => wpY_merge (fun r' v' => r' = r ∧ i_Rel (k + 4) u' v') v v1 v2) u v1 v2 := by
  obtain ⟨n, d, al, B, S, Z, A, C, H, F, R, G, hR, rfl, rfl⟩ := I
  have ⟨h2, h6, h8, hA, hZ, hB, hW, hH, hF⟩ := hR
  have h64 := bb_64 h6
  unfold wpX_merge wpY_merge
  dsimp only
  rcases bb_bel v1 with ha | ⟨a, ha, rfl⟩
  · exact bx_isB_bad ha (br_t rfl (by_bad ha (br_f (by decide) ⟨rfl, bb_rel hR⟩)))
  · refine bx_isB ha (br_f (by decide) ?_)
    rcases bb_bel v2 with hb | ⟨b, hb, rfl⟩
    · exact bx_isB_bad hb (br_t rfl (by_good ha (br_t rfl (by_bad hb (br_f (by decide) ⟨rfl, bb_rel hR⟩)))))
    · refine bx_isB hb (br_f (by decide) ?_)
      by_cases cd : d = 0
      · subst cd
        exact br_t rfl (by_good ha (br_t rfl (by_good hb (br_t rfl (br_t rfl ⟨rfl, bb_rel hR⟩)))))
      · have nd : ¬ nI d = 0 := nI_ne0 (by omega) (by omega)
        have hWs := hW (d - 1) (by omega)
        refine br_f nd (bx_pop (by omega) h8 ?_)
        dsimp only
        refine ⟨vp_in_nI ha (by omega), vp_in_nI hb (by omega), ?_⟩
        rw [nI_clamp (n := a) (by omega), nI_clamp (n := b) (by omega)]
        refine bx_fill hZ h6 hA fun A' C' hA' hC' => ?_
        refine bx_mg53 h6 hb hA' hC' hWs fun r hr => ?_
        refine by_good ha (br_t rfl (by_good hb (br_t rfl (br_f nd (by_merge h6 (by omega) h8 ha hb (hH a ha) (hH b hb) (hF (d - 1) (by omega)) fun H' R' G' hS => bb_fin hR (Nat.sub_le _ _) hb (bb_W_of fun w hw h2n => ?_) (fun w hw => hr w (by omega)) hS)))))
        rw [hr w hw, hWs w h2n]
        rfl
theorem i_vc_copy {k : Nat} {u : SX} {v : SY} (I : i_Rel k u v) (hk : k + 4 ≤ 2049) (v1 : Int32) (v2 : Int32) : wpX_copy (fun r u' => wpY_copy (fun r' v' => r' = r ∧ i_Rel (k + 4) u' v') v v1 v2) u v1 v2 := by
  obtain ⟨n, d, al, B, S, Z, A, C, H, F, R, G, hR, rfl, rfl⟩ := I
  have ⟨h2, h6, h8, hA, hZ, hB, hW, hH, hF⟩ := hR
  unfold wpX_copy wpY_copy
  dsimp only
  rcases bb_bel v1 with ha | ⟨a, ha, rfl⟩
  · exact bx_isB_bad ha (br_t rfl (by_bad ha (br_f (by decide) ⟨rfl, bb_rel hR⟩)))
  · refine bx_isB ha (br_f (by decide) ?_)
    rcases bb_bel v2 with hb | ⟨b, hb, rfl⟩
    · exact bx_isB_bad hb (br_t rfl (by_good ha (br_t rfl (by_bad hb (br_f (by decide) ⟨rfl, bb_rel hR⟩)))))
    · refine bx_isB hb (br_f (by decide) ⟨vp_in_nI ha (by omega), ?_⟩)
      rw [nI_clamp (n := a) (by omega)]
      refine bx_become hb ?_
      exact by_good ha (br_t rfl (by_good hb (br_t rfl (by_copy20 h6 ha hb (hH a ha) fun H' R' hS => bb_fin hR (Nat.le_refl d) hb (hB a ha) (fun w _ => rfl) hS))))
end
section
/-! the owed statements: methods that only read -/
theorem bb_emp {n : Nat} {x : Int64} (hx : bb_W n x) : x = 0 ↔ bb_cn (bb_t x) (2 ^ n) = 0 := by
  rw [bb_t_z, bb_cn_zero]
  constructor
  · intro h w _
    rcases Nat.lt_or_ge w 64 with c | c
    · exact h w c
    · exact bb_t_big c
  · intro h i _
    rcases Nat.lt_or_ge i (2 ^ n) with c | c
    · exact h i c
    · exact hx i c
theorem bb_agS {n s y z : Nat} (hy : y < 2 ^ n) (hz : z < 2 ^ n) : z &&& s = y &&& s ↔ bb_E (fun j => !s.testBit j) n y z := by
  constructor
  · intro h
    refine ⟨fun j hj hoj => ?_, fun j hj => ?_⟩
    · have hoj2 : (!s.testBit j) = false := hoj
      rw [Bool.not_eq_false'] at hoj2
      have q : (z &&& s).testBit j = (y &&& s).testBit j := by rw [h]
      rw [Nat.testBit_and, Nat.testBit_and, hoj2, Bool.and_true, Bool.and_true] at q
      exact q
    · rw [bb_hi hz hj, bb_hi hy hj]
  · intro h
    apply Nat.eq_of_testBit_eq
    intro j
    rw [Nat.testBit_and, Nat.testBit_and]
    rcases Nat.lt_or_ge j n with hj | hj
    · cases e : s.testBit j with
      | false => rw [Bool.and_false, Bool.and_false]
      | true =>
        have e2 : (!s.testBit j) = false := by rw [e]; rfl
        rw [h.1 j hj e2]
    · rw [h.2 j hj]
theorem bb_df_iff {P : Nat → Bool} {s v u w : Nat} : bb_df P s v u w = true ↔ P u = true ∧ P w = true ∧ u &&& s = w &&& s ∧ u.testBit v ≠ w.testBit v := by
  unfold bb_df
  rw [Bool.and_eq_true, Bool.and_eq_true, Bool.and_eq_true, decide_eq_true_eq]
  cases u.testBit v <;> cases w.testBit v <;> simp
theorem bb_df_no {n s v : Nat} {P : Nat → Bool} (hs : s.testBit v = true) : bb_ex (fun u => bb_ex (bb_df P s v u) (2 ^ n)) (2 ^ n) = false := by
  apply bb_ex_f.mpr
  intro u _
  apply bb_ex_f.mpr
  intro w _
  cases e : bb_df P s v u w with
  | false => rfl
  | true =>
    obtain ⟨_, _, h3, h4⟩ := bb_df_iff.mp e
    have q : (u &&& s).testBit v = (w &&& s).testBit v := by rw [h3]
    rw [Nat.testBit_and, Nat.testBit_and, hs, Bool.and_true, Bool.and_true] at q
    exact absurd q h4
theorem bb_df_x {n s v : Nat} {x z r0 r1 : Int64} (h6 : n ≤ 6) (hz : ∀ w, w < 64 → bb_t z w = !w.testBit v) (hW0 : bb_W n r0)
    (h0 : ∀ y, y < 2 ^ n → (bb_t r0 y = true ↔ ∃ q, q < 2 ^ n ∧ bb_t (x &&& z) q = true ∧ bb_E (fun j => !s.testBit j) n y q))
    (h1 : ∀ y, y < 2 ^ n → (bb_t r1 y = true ↔ ∃ q, q < 2 ^ n ∧ bb_t (x &&& (z ^^^ (-1))) q = true ∧ bb_E (fun j => !s.testBit j) n y q)) :
    (r0 &&& r1) = 0 ↔ bb_ex (fun u => bb_ex (bb_df (bb_t x) s v u) (2 ^ n)) (2 ^ n) = false := by
  have h64 := bb_64 h6
  have b0 : ∀ q, q < 2 ^ n → (bb_t (x &&& z) q = true ↔ bb_t x q = true ∧ q.testBit v = false) := fun q hq => by
    rw [bb_t_and, hz q (by omega), Bool.and_eq_true, Bool.not_eq_true']
  have b1 : ∀ q, q < 2 ^ n → (bb_t (x &&& (z ^^^ (-1))) q = true ↔ bb_t x q = true ∧ q.testBit v = true) := fun q hq => by
    rw [bb_t_and, bb_t_not _ (by omega), hz q (by omega), Bool.and_eq_true, Bool.not_not]
  constructor
  · intro h
    apply bb_ex_f.mpr
    intro u hu
    apply bb_ex_f.mpr
    intro w hw
    cases e : bb_df (bb_t x) s v u w with
    | false => rfl
    | true =>
      obtain ⟨e1, e2, e3, e4⟩ := bb_df_iff.mp e
      have key : ∀ p q, p < 2 ^ n → q < 2 ^ n → bb_t x p = true → bb_t x q = true → p &&& s = q &&& s → p.testBit v = false → q.testBit v = true → False := by
        intro p q hp hq g1 g2 g3 g4 g5
        have z0 := (h0 p hp).mpr ⟨p, hp, (b0 p hp).mpr ⟨g1, g4⟩, (bb_agS hp hp).mp rfl⟩
        have z1 := (h1 p hp).mpr ⟨q, hq, (b1 q hq).mpr ⟨g2, g5⟩, (bb_agS hp hq).mp g3.symm⟩
        have z2 := bb_t_z.mp h p (by omega)
        rw [bb_t_and, z0, z1] at z2
        cases z2
      cases c : u.testBit v with
      | false =>
        cases c2 : w.testBit v with
        | false => exact absurd (c.trans c2.symm) e4
        | true => exact (key u w hu hw e1 e2 e3 c c2).elim
      | true =>
        cases c2 : w.testBit v with
        | true => exact absurd (c.trans c2.symm) e4
        | false => exact (key w u hw hu e2 e1 e3.symm c2 c).elim
  · intro h
    apply bb_t_z.mpr
    intro y _
    cases e : bb_t (r0 &&& r1) y with
    | false => rfl
    | true =>
      rw [bb_t_and, Bool.and_eq_true] at e
      have hy := bb_W_lt hW0 e.1
      obtain ⟨p, hp, g1, g2⟩ := (h0 y hy).mp e.1
      obtain ⟨q, hq, g3, g4⟩ := (h1 y hy).mp e.2
      have f0 := (b0 p hp).mp g1
      have f1 := (b1 q hq).mp g3
      have f2 : p &&& s = q &&& s := ((bb_agS hy hp).mpr g2).trans ((bb_agS hy hq).mpr g4).symm
      have t := bb_ex_f.mp (bb_ex_f.mp h p hp) q hq
      have t2 := bb_df_iff.mpr ⟨f0.1, f1.1, f2, by rw [f0.2, f1.2]; decide⟩
      rw [t] at t2
      cases t2
theorem i_vc_holds {k : Nat} {u : SX} {v : SY} (I : i_Rel k u v) (hk : k + 4 ≤ 2049) (v1 : Int32) (v2 : Int32) : wpX_holds (fun r => wpY_holds (fun r' => r' = r ∧ i_Rel (k + 4) u v) v v1 v2) u v1 v2 := by
  obtain ⟨n, d, al, B, S, Z, A, C, H, F, R, G, hR, rfl, rfl⟩ := I
  have ⟨h2, h6, h8, hA, hZ, hB, hW, hH, hF⟩ := hR
  have h64 := bb_64 h6
  have hrel : i_Rel (k + 4) (nI n, nI d, nI (2 ^ n), al, B, S, Z, A, C) (nI n, nI (2 ^ n), nI d, H, F, R, G) := bb_rel hR
  unfold wpX_holds wpY_holds
  dsimp only
  rcases bb_bel v1 with hb | ⟨b, hb, rfl⟩
  · exact bx_isB_bad hb (br_t rfl (by_bad hb (br_f (by decide) ⟨rfl, hrel⟩)))
  · refine bx_isB hb (br_f (by decide) ?_)
    rcases bb_dic v2 (N := 2 ^ n) (by omega) with hv | ⟨w, hw, rfl⟩
    · exact bx_isW_bad hv (br_t rfl (by_good hb (br_t rfl (by_badW hv (br_f (by decide) ⟨rfl, hrel⟩)))))
    · refine bx_isW h6 hw (br_f (by decide) ⟨vp_in_nI hb (by omega), ?_⟩)
      rw [nI_clamp (n := b) (by omega)]
      refine bx_has (by omega) ?_
      have e := hH b hb w hw
      cases c : bb_t (B b) w with
      | false =>
        rw [c] at e
        exact br_t rfl (by_good hb (br_t rfl (by_goodW h6 hw (br_t rfl (by_in hb (by omega) e (br_t rfl ⟨rfl, hrel⟩))))))
      | true =>
        rw [c] at e
        exact br_f (by decide) (by_good hb (br_t rfl (by_goodW h6 hw (br_t rfl (by_in hb (by omega) e (br_f (by decide) ⟨rfl, hrel⟩))))))
theorem i_vc_count {k : Nat} {u : SX} {v : SY} (I : i_Rel k u v) (hk : k + 4 ≤ 2049) (v1 : Int32) : wpX_count (fun r => wpY_count (fun r' => r' = r ∧ i_Rel (k + 4) u v) v v1) u v1 := by
  obtain ⟨n, d, al, B, S, Z, A, C, H, F, R, G, hR, rfl, rfl⟩ := I
  have ⟨h2, h6, h8, hA, hZ, hB, hW, hH, hF⟩ := hR
  have hrel : i_Rel (k + 4) (nI n, nI d, nI (2 ^ n), al, B, S, Z, A, C) (nI n, nI (2 ^ n), nI d, H, F, R, G) := bb_rel hR
  unfold wpX_count
  dsimp only
  rcases bb_bel v1 with hb | ⟨b, hb, rfl⟩
  · refine bx_isB_bad hb (br_t rfl ?_)
    unfold wpY_count
    dsimp only
    exact by_bad hb (br_f (by decide) ⟨rfl, hrel⟩)
  · refine bx_isB hb (br_f (by decide) ⟨vp_in_nI hb (by omega), ?_⟩)
    rw [nI_clamp (n := b) (by omega)]
    refine bx_ones (by_count h6 hb (hH b hb) ⟨?_, hrel⟩)
    rw [bb_cn_ext (bb_64 h6) (hB b hb)]
theorem i_vc_next {k : Nat} {u : SX} {v : SY} (I : i_Rel k u v) (hk : k + 4 ≤ 2049) (v1 : Int32) (v2 : Int32) : wpX_next (fun r => wpY_next (fun r' => r' = r ∧ i_Rel (k + 4) u v) v v1 v2) u v1 v2 := by
  obtain ⟨n, d, al, B, S, Z, A, C, H, F, R, G, hR, rfl, rfl⟩ := I
  have ⟨h2, h6, h8, hA, hZ, hB, hW, hH, hF⟩ := hR
  have h64 := bb_64 h6
  have hp2 : 0 < 2 ^ n := Nat.two_pow_pos n
  have hrel : i_Rel (k + 4) (nI n, nI d, nI (2 ^ n), al, B, S, Z, A, C) (nI n, nI (2 ^ n), nI d, H, F, R, G) := bb_rel hR
  unfold wpX_next wpY_next
  dsimp only
  rcases bb_bel v1 with hb | ⟨b, hb, rfl⟩
  · exact bx_isB_bad hb (br_t rfl (by_bad hb (br_f (by decide) ⟨rfl, hrel⟩)))
  · refine bx_isB hb (br_f (by decide) ?_)
    rw [bb_pred hp2]
    have go : ∀ j, j < 64 → (∀ w, w < 2 ^ n → (nI w ≤ v2 ↔ w < j)) → wX_next_33 (fun r => wpY_badBelief (fun r_1 => (r_1 = 0 → ∃ n12, wY_next_12 (fun r' => r' = r ∧ i_Rel (k + 4) (nI n, nI d, nI (2 ^ n), al, B, S, Z, A, C) (nI n, nI (2 ^ n), nI d, H, F, R, G)) (nI b) v2 (nI n) (nI (2 ^ n)) (nI d) H F R G n12 0) ∧ (¬ r_1 = 0 → -1 = r ∧ i_Rel (k + 4) (nI n, nI d, nI (2 ^ n), al, B, S, Z, A, C) (nI n, nI (2 ^ n), nI d, H, F, R, G))) (nI n, nI (2 ^ n), nI d, H, F, R, G) (nI b)) (nI b) (nI j) (nI n) (nI d) (nI (2 ^ n)) al B S Z A C := by
      intro j hj hle
      refine bx_next33 hb hj (fun hno => by_good hb (br_t rfl (by_next12 h6 hb (hH b hb) (fun t ht e hn hl => ?_) (fun hl => ⟨rfl, hrel⟩)))) (fun t hjt e hl => by_good hb (br_t rfl (by_next12 h6 hb (hH b hb) (fun t2 ht2 e2 hn2 hl2 => ⟨?_, hrel⟩) (fun hl2 => ?_))))
      · have q := hno t (Nat.le_of_not_lt (fun z => hn ((hle t ht).mpr z)))
        rw [q] at e
        cases e
      · have ht := bb_W_lt (hB b hb) e
        rcases Nat.lt_trichotomy t2 t with c | c | c
        · have q := hl t2 (Nat.le_of_not_lt (fun z => hn2 ((hle t2 ht2).mpr z))) c
          rw [q] at e2
          cases e2
        · rw [c]
        · rcases hl2 t c with q | q
          · exact absurd ((hle t ht).mp q) (Nat.not_lt.mpr hjt)
          · rw [q] at e
            cases e
      · have ht := bb_W_lt (hB b hb) e
        rcases hl2 t ht with q | q
        · exact absurd ((hle t ht).mp q) (Nat.not_lt.mpr hjt)
        · rw [q] at e
          cases e
    by_cases c : v2 < 0
    · have c2 : ¬ (0 : Int32) ≤ v2 := Int32.not_le.mpr c
      have c1 : v2 < nI (2 ^ n - 1) := by
        have q := nI_pos' (n := 2 ^ n - 1) (by omega)
        exact Int32.lt_of_lt_of_le c q
      refine br_t c1 (br_f c2 (go 0 (by omega) fun w hw => ?_))
      constructor
      · intro z
        exact absurd (Int32.le_trans (nI_pos' (n := w) (by omega)) z) c2
      · intro z
        exact absurd z (Nat.not_lt_zero w)
    · obtain ⟨a, ha, rfl⟩ := nI_of c
      by_cases c1 : a < 2 ^ n - 1
      · refine br_t (nI_lt c1 (by omega)) (br_t (nI_pos' ha) ?_)
        rw [nI_1 a]
        refine go (a + 1) (by omega) fun w hw => ?_
        rw [nI_leI (by omega) (by omega)]
        omega
      · refine br_f (nI_nlt (by omega) (by omega)) (by_good hb (br_t rfl (by_next12 h6 hb (hH b hb) (fun t ht e hn hl => ?_) (fun hl => ⟨rfl, hrel⟩))))
        exact absurd (nI_le (by omega) (by omega)) hn
theorem i_vc_entails {k : Nat} {u : SX} {v : SY} (I : i_Rel k u v) (hk : k + 4 ≤ 2049) (v1 : Int32) : wpX_entails (fun r => wpY_entails (fun r' => r' = r ∧ i_Rel (k + 4) u v) v v1) u v1 := by
  obtain ⟨n, d, al, B, S, Z, A, C, H, F, R, G, hR, rfl, rfl⟩ := I
  have ⟨h2, h6, h8, hA, hZ, hB, hW, hH, hF⟩ := hR
  have h64 := bb_64 h6
  have hrel : i_Rel (k + 4) (nI n, nI d, nI (2 ^ n), al, B, S, Z, A, C) (nI n, nI (2 ^ n), nI d, H, F, R, G) := bb_rel hR
  unfold wpX_entails wpY_entails
  dsimp only
  rcases bb_bel v1 with hb | ⟨b, hb, rfl⟩
  · exact bx_isB_bad hb (br_t rfl (by_bad hb (br_f (by decide) ⟨rfl, hrel⟩)))
  · refine bx_isB hb (br_f (by decide) ?_)
    by_cases cd : d = 0
    · subst cd
      exact br_t rfl (by_good hb (br_t rfl (br_t rfl ⟨rfl, hrel⟩)))
    · have nd : ¬ nI d = 0 := nI_ne0 (by omega) (by omega)
      refine br_f nd ⟨vp_in_nI hb (by omega), ?_⟩
      rw [bb_pred (d := d) (by omega), nI_clamp (n := b) (by omega), nI_clamp (n := d - 1) (by omega)]
      refine ⟨vp_in_nI (by omega) (by omega), br_c (fun c => ?_) (fun c => ?_)⟩
      · have c2 : bb_ex (fun w => bb_t (B b) w && !bb_t (S (d - 1)) w) (2 ^ n) = false := by
          apply bb_ex_f.mpr
          intro w hw
          have q := bb_t_z.mp c w (by omega)
          rw [bb_t_and, bb_t_not _ (by omega)] at q
          exact q
        refine by_good hb (br_t rfl (br_f nd (by_entails22 h6 (by omega) h8 hb (hH b hb) (hF (d - 1) (by omega)) ⟨?_, hrel⟩)))
        rw [c2]
        rfl
      · have c2 : bb_ex (fun w => bb_t (B b) w && !bb_t (S (d - 1)) w) (2 ^ n) = true := by
          cases e : bb_ex (fun w => bb_t (B b) w && !bb_t (S (d - 1)) w) (2 ^ n) with
          | true => rfl
          | false =>
            refine absurd (bb_t_z.mpr fun i hi => ?_) c
            rw [bb_t_and, bb_t_not _ hi]
            rcases Nat.lt_or_ge i (2 ^ n) with q | q
            · exact bb_ex_f.mp e i q
            · rw [hB b hb i q]
              rfl
        refine by_good hb (br_t rfl (br_f nd (by_entails22 h6 (by omega) h8 hb (hH b hb) (hF (d - 1) (by omega)) ⟨?_, hrel⟩)))
        rw [c2]
        rfl
theorem i_vc_distance {k : Nat} {u : SX} {v : SY} (I : i_Rel k u v) (hk : k + 4 ≤ 2049) (v1 : Int32) (v2 : Int32) : wpX_distance (fun r => wpY_distance (fun r' => r' = r ∧ i_Rel (k + 4) u v) v v1 v2) u v1 v2 := by
  obtain ⟨n, d, al, B, S, Z, A, C, H, F, R, G, hR, rfl, rfl⟩ := I
  have ⟨h2, h6, h8, hA, hZ, hB, hW, hH, hF⟩ := hR
  have hrel : i_Rel (k + 4) (nI n, nI d, nI (2 ^ n), al, B, S, Z, A, C) (nI n, nI (2 ^ n), nI d, H, F, R, G) := bb_rel hR
  unfold wpX_distance wpY_distance
  dsimp only
  rcases bb_bel v1 with ha | ⟨a, ha, rfl⟩
  · exact bx_isB_bad ha (br_t rfl (by_bad ha (br_f (by decide) ⟨rfl, hrel⟩)))
  · refine bx_isB ha (br_f (by decide) ?_)
    rcases bb_bel v2 with hb | ⟨b, hb, rfl⟩
    · exact bx_isB_bad hb (br_t rfl (by_good ha (br_t rfl (by_bad hb (br_f (by decide) ⟨rfl, hrel⟩)))))
    · refine bx_isB hb (br_f (by decide) ⟨vp_in_nI ha (by omega), ?_⟩)
      rw [nI_clamp (n := a) (by omega), nI_clamp (n := b) (by omega)]
      have ea := bb_emp (hB a ha)
      have eb := bb_emp (hB b hb)
      refine br_c (fun c => ?_) (fun c => ⟨vp_in_nI hb (by omega), br_c (fun c2 => ?_) (fun c2 => ⟨vp_in_nI ha (by omega), nm_e ?_⟩)⟩)
      · exact by_good ha (br_t rfl (by_good hb (br_t rfl (by_empty h6 ha (hH a ha) (fun _ => br_f (by decide) ⟨rfl, hrel⟩) (fun z => absurd (ea.mp c) z)))))
      · exact by_good ha (br_t rfl (by_good hb (br_t rfl (by_empty h6 ha (hH a ha) (fun z => absurd (ea.mpr z) c) (fun _ => br_t rfl (by_empty h6 hb (hH b hb) (fun _ => br_f (by decide) ⟨rfl, hrel⟩) (fun z => absurd (eb.mp c2) z)))))))
      · refine bx_dist54 hZ h6 hb (hB a ha) (hB b hb) c c2 ?_
        exact by_good ha (br_t rfl (by_good hb (br_t rfl (by_empty h6 ha (hH a ha) (fun z => absurd (ea.mpr z) c) (fun _ => br_t rfl (by_empty h6 hb (hH b hb) (fun z => absurd (eb.mpr z) c2) (fun _ => br_t rfl (nm_r (nI_1 n) (by_dist47 h6 ha hb (hH a ha) (hH b hb) ⟨rfl, hrel⟩)))))))))
theorem i_vc_reach {k : Nat} {u : SX} {v : SY} (I : i_Rel k u v) (hk : k + 4 ≤ 2049) (v1 : Int32) (v2 : Int32) : wpX_reach (fun r => wpY_reach (fun r' => r' = r ∧ i_Rel (k + 4) u v) v v1 v2) u v1 v2 := by
  obtain ⟨n, d, al, B, S, Z, A, C, H, F, R, G, hR, rfl, rfl⟩ := I
  have ⟨h2, h6, h8, hA, hZ, hB, hW, hH, hF⟩ := hR
  have hrel : i_Rel (k + 4) (nI n, nI d, nI (2 ^ n), al, B, S, Z, A, C) (nI n, nI (2 ^ n), nI d, H, F, R, G) := bb_rel hR
  unfold wpX_reach wpY_reach
  dsimp only
  rcases bb_bel v1 with ha | ⟨a, ha, rfl⟩
  · exact bx_isB_bad ha (br_t rfl (by_bad ha (br_f (by decide) ⟨rfl, hrel⟩)))
  · refine bx_isB ha (br_f (by decide) ?_)
    rcases bb_bel v2 with hb | ⟨b, hb, rfl⟩
    · exact bx_isB_bad hb (br_t rfl (by_good ha (br_t rfl (by_bad hb (br_f (by decide) ⟨rfl, hrel⟩)))))
    · refine bx_isB hb (br_f (by decide) ⟨vp_in_nI ha (by omega), ?_⟩)
      rw [nI_clamp (n := a) (by omega), nI_clamp (n := b) (by omega)]
      have ea := bb_emp (hB a ha)
      have eb := bb_emp (hB b hb)
      refine br_c (fun c => ?_) (fun c => ⟨vp_in_nI hb (by omega), br_c (fun c2 => ?_) (fun c2 => ⟨vp_in_nI ha (by omega), nm_e ?_⟩)⟩)
      · exact by_good ha (br_t rfl (by_good hb (br_t rfl (by_empty h6 ha (hH a ha) (fun _ => br_f (by decide) ⟨rfl, hrel⟩) (fun z => absurd (ea.mp c) z)))))
      · exact by_good ha (br_t rfl (by_good hb (br_t rfl (by_empty h6 ha (hH a ha) (fun z => absurd (ea.mpr z) c) (fun _ => br_t rfl (by_empty h6 hb (hH b hb) (fun _ => br_f (by decide) ⟨rfl, hrel⟩) (fun z => absurd (eb.mp c2) z)))))))
      · refine bx_reach54 hZ h6 hb (hB a ha) (hB b hb) c ?_
        exact by_good ha (br_t rfl (by_good hb (br_t rfl (by_empty h6 ha (hH a ha) (fun z => absurd (ea.mpr z) c) (fun _ => br_t rfl (by_empty h6 hb (hH b hb) (fun z => absurd (eb.mpr z) c2) (fun _ => br_t rfl (by_reach42 h6 ha hb (hH a ha) (hH b hb) ⟨rfl, hrel⟩))))))))
theorem i_vc_matters {k : Nat} {u : SX} {v : SY} (I : i_Rel k u v) (hk : k + 4 ≤ 2049) (v1 : Int32) (v2 : Int32) : wpX_matters (fun r => wpY_matters (fun r' => r' = r ∧ i_Rel (k + 4) u v) v v1 v2) u v1 v2 := by
  obtain ⟨n, d, al, B, S, Z, A, C, H, F, R, G, hR, rfl, rfl⟩ := I
  have ⟨h2, h6, h8, hA, hZ, hB, hW, hH, hF⟩ := hR
  have h64 := bb_64 h6
  have hrel : i_Rel (k + 4) (nI n, nI d, nI (2 ^ n), al, B, S, Z, A, C) (nI n, nI (2 ^ n), nI d, H, F, R, G) := bb_rel hR
  unfold wpX_matters wpY_matters
  dsimp only
  rcases bb_bel v1 with hb | ⟨b, hb, rfl⟩
  · exact bx_isB_bad hb (br_t rfl (by_bad hb (br_f (by decide) ⟨rfl, hrel⟩)))
  · refine bx_isB hb (br_f (by decide) ?_)
    rcases bb_dic v2 (N := n) (by omega) with hv | ⟨v, hv, rfl⟩
    · exact bx_isV_bad hv (br_t rfl (by_good hb (br_t rfl (by_badV hv (br_f (by decide) ⟨rfl, hrel⟩)))))
    · refine bx_isV h6 hv (br_f (by decide) ⟨vp_in_nI hb (by omega), ?_⟩)
      rw [nI_clamp (n := b) (by omega)]
      refine bx_swapped hZ (by omega) fun r hr => ⟨vp_in_nI hb (by omega), br_c (fun c => ?_) (fun c => ?_)⟩
      · have c2 : bb_ex (fun w => bb_t (B b) w && !bb_t (B b) (w ^^^ 2 ^ v)) (2 ^ n) = false := by
          apply bb_ex_f.mpr
          intro w hw
          rw [← hr w (by omega), c]
          cases bb_t (B b) w <;> rfl
        refine by_good hb (br_t rfl (by_goodV h6 hv (br_t rfl (by_mat23 h6 hb hv (hH b hb) ⟨?_, hrel⟩))))
        rw [c2]
        rfl
      · have c2 : bb_ex (fun w => bb_t (B b) w && !bb_t (B b) (w ^^^ 2 ^ v)) (2 ^ n) = true := by
          cases e : bb_ex (fun w => bb_t (B b) w && !bb_t (B b) (w ^^^ 2 ^ v)) (2 ^ n) with
          | true => rfl
          | false =>
            refine absurd (bb_t_ext fun i hi => ?_) c
            have key : ∀ w, w < 2 ^ n → bb_t (B b) w = true → bb_t (B b) (w ^^^ 2 ^ v) = true := by
              intro w hw e2
              have q := bb_ex_f.mp e w hw
              rw [e2, Bool.true_and, Bool.not_eq_false'] at q
              exact q
            rw [hr i hi]
            rcases Nat.lt_or_ge i (2 ^ n) with q | q
            · apply bb_beq
              constructor
              · intro z
                have t := key _ (bb_fx q hv) z
                rw [bb_xx] at t
                exact t
              · exact key i q
            · rw [hB b hb i q, hB b hb _ (bb_xge hv q)]
        refine by_good hb (br_t rfl (by_goodV h6 hv (br_t rfl (by_mat23 h6 hb hv (hH b hb) ⟨?_, hrel⟩))))
        rw [c2]
        rfl
theorem i_vc_defined {k : Nat} {u : SX} {v : SY} (I : i_Rel k u v) (hk : k + 4 ≤ 2049) (v1 : Int32) (v2 : Int32) (v3 : Int32) : wpX_defined (fun r => wpY_defined (fun r' => r' = r ∧ i_Rel (k + 4) u v) v v1 v2 v3) u v1 v2 v3 := by
  obtain ⟨n, d, al, B, S, Z, A, C, H, F, R, G, hR, rfl, rfl⟩ := I
  have ⟨h2, h6, h8, hA, hZ, hB, hW, hH, hF⟩ := hR
  have h64 := bb_64 h6
  have hrel : i_Rel (k + 4) (nI n, nI d, nI (2 ^ n), al, B, S, Z, A, C) (nI n, nI (2 ^ n), nI d, H, F, R, G) := bb_rel hR
  unfold wpX_defined wpY_defined
  dsimp only
  rcases bb_bel v1 with hb | ⟨b, hb, rfl⟩
  · exact bx_isB_bad hb (br_t rfl (by_bad hb (br_f (by decide) ⟨rfl, hrel⟩)))
  · refine bx_isB hb (br_f (by decide) ?_)
    rcases bb_dic v2 (N := n) (by omega) with hv | ⟨v, hv, rfl⟩
    · exact bx_isV_bad hv (br_t rfl (by_good hb (br_t rfl (by_badV hv (br_f (by decide) ⟨rfl, hrel⟩)))))
    · refine bx_isV h6 hv (br_f (by decide) ?_)
      rcases bb_dic v3 (N := 2 ^ n) (by omega) with (hs | hs) | ⟨s, hs, rfl⟩
      · exact br_t hs (by_good hb (br_t rfl (by_goodV h6 hv (br_t rfl (br_t hs ⟨rfl, hrel⟩)))))
      · exact br_f hs.1 (br_f hs.2.2 (by_good hb (br_t rfl (by_goodV h6 hv (br_t rfl (br_f hs.1 (br_f hs.2.2 ⟨rfl, hrel⟩)))))))
      · have p0 : ¬ nI s < 0 := nI_pos (by omega)
        have pw : nI s < nI (2 ^ n) := nI_lt hs (by omega)
        have hbit := bb_bit s (by omega) v (by omega)
        refine br_f p0 (br_t pw ?_)
        cases c : s.testBit v with
        | true =>
          rw [c] at hbit
          refine br_t hbit (by_good hb (br_t rfl (by_goodV h6 hv (br_t rfl (br_f p0 (br_t pw (by_def39 h6 hb hv hs (hH b hb) ⟨?_, hrel⟩)))))))
          rw [bb_df_no c]
          rfl
        | false =>
          rw [c] at hbit
          refine br_f (by rw [hbit]; decide) ⟨vp_in_nI hb (by omega), vp_in_nI (by omega) (by omega), ?_⟩
          rw [nI_clamp (n := b) (by omega), nI_clamp (n := v) (by omega)]
          have w0 : bb_W n (B b &&& Z v) := fun w hw => by rw [bb_t_and, hB b hb w hw]; rfl
          have w1 : bb_W n (B b &&& (Z v ^^^ (-1))) := fun w hw => by rw [bb_t_and, hB b hb w hw]; rfl
          refine bx_smeared hZ h6 (by omega) w0 fun r0 hr0 h0 => ⟨vp_in_nI hb (by omega), vp_in_nI (by omega) (by omega), bx_smeared hZ h6 (by omega) w1 fun r1 hr1 h1 => ?_⟩
          have key := bb_df_x h6 (hZ v (by omega)) hr0 h0 h1
          refine br_c (fun c2 => ?_) (fun c2 => ?_)
          · refine by_good hb (br_t rfl (by_goodV h6 hv (br_t rfl (br_f p0 (br_t pw (by_def39 h6 hb hv hs (hH b hb) ⟨?_, hrel⟩))))))
            rw [key.mp c2]
            rfl
          · refine by_good hb (br_t rfl (by_goodV h6 hv (br_t rfl (br_f p0 (br_t pw (by_def39 h6 hb hv hs (hH b hb) ⟨?_, hrel⟩))))))
            cases e : bb_ex (fun u => bb_ex (bb_df (bb_t (B b)) s v u) (2 ^ n)) (2 ^ n) with
            | true => rfl
            | false => exact absurd (key.mpr e) c2
theorem i_vc_primes {k : Nat} {u : SX} {v : SY} (I : i_Rel k u v) (hk : k + 4 ≤ 2049) (v1 : Int32) : wpX_primes (fun r => wpY_primes (fun r' => r' = r ∧ i_Rel (k + 4) u v) v v1) u v1 := by
  obtain ⟨n, d, al, B, S, Z, A, C, H, F, R, G, hR, rfl, rfl⟩ := I
  have ⟨h2, h6, h8, hA, hZ, hB, hW, hH, hF⟩ := hR
  have hrel : i_Rel (k + 4) (nI n, nI d, nI (2 ^ n), al, B, S, Z, A, C) (nI n, nI (2 ^ n), nI d, H, F, R, G) := bb_rel hR
  unfold wpX_primes wpY_primes
  dsimp only
  rcases bb_bel v1 with hb | ⟨b, hb, rfl⟩
  · exact bx_isB_bad hb (br_t rfl (by_bad hb (br_f (by decide) ⟨rfl, hrel⟩)))
  · refine bx_isB hb (br_f (by decide) (bx_primes13 hZ h6 hb (hB b hb) (by_good hb (br_t rfl (by_primes14 h6 hb (hH b hb) ⟨?_, hrel⟩)))))
    exact congrArg nI (bb_sm_rev (fun f => bb_T n (bb_t (B b)) f) (2 ^ n)).symm
end

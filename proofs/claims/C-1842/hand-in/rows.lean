section
/-! pure rows to paste: stores, nI and lN arithmetic, masks, shifts, narrowing, branches by naturals (pk_le, pk_lt, pk_eq), loops (lp1 .. lp16: the measure of the state; rp1 ..: recursion), negatives. Take what you need -/
theorem pk_us {f : Nat → Int32} {k : Nat} {x : Int32} : upd f k x k = x := if_pos rfl
theorem pk_un {f : Nat → Int32} {k j : Nat} {x : Int32} (h : j ≠ k) : upd f k x j = f j := if_neg h
theorem pk_uLs {f : Nat → Int64} {k : Nat} {x : Int64} : vp_updL f k x k = x := if_pos rfl
theorem pk_uLn {f : Nat → Int64} {k j : Nat} {x : Int64} (h : j ≠ k) : vp_updL f k x j = f j := if_neg h
theorem pk_sub {a b : Nat} (h : b ≤ a) : nI a - nI b = nI (a - b) := by
  obtain ⟨c, rfl⟩ : ∃ c, a = c + b := ⟨a - b, by omega⟩
  rw [← nI_add, Int32.add_sub_cancel, Nat.add_sub_cancel]
theorem pk_m1 (n : Nat) : nI (n + 1) + (-1) = nI n := by
  rw [← nI_1, Int32.add_assoc, show (1 : Int32) + (-1) = 0 from rfl, Int32.add_zero]
theorem pk_mul (a b : Nat) : nI a * nI b = nI (a * b) := (Int32.ofNat_mul a b).symm
theorem pk_div {a d : Nat} (ha : a < 2 ^ 31) (h0 : 0 < d) (hd : d < 2 ^ 31) : nI a / nI d = nI (a / d) := by
  apply Int32.toInt_inj.mp
  rw [lg_idiv_nonneg (by rw [nI_toInt ha]; omega) (by rw [nI_toInt hd]; omega), nI_toInt ha, nI_toInt hd, nI_toInt (Nat.lt_of_le_of_lt (Nat.div_le_self a d) ha)]
  first | rfl | exact (Int.natCast_ediv _ _).symm
theorem pk_rem {a d : Nat} (ha : a < 2 ^ 31) (h0 : 0 < d) (hd : d < 2 ^ 31) : nI a - nI a / nI d * nI d = nI (a % d) := by
  rw [pk_div ha h0 hd, pk_mul, pk_sub (Nat.div_mul_le_self a d)]
  exact congrArg nI (by have := Nat.div_add_mod' a d; omega)
theorem pk_sub_toInt {a b : Nat} (ha : a < 2 ^ 30) (hb : b < 2 ^ 30) : (nI a - nI b).toInt = (a : Int) - b := by
  rw [Int32.toInt_sub, nI_toInt (by omega), nI_toInt (by omega)]
  exact Int.bmod_eq_of_le (by omega) (by omega)
theorem pk_sneg {a b : Nat} (hb : b < 2 ^ 30) (h : a < b) : nI a - nI b < 0 := by
  rw [Int32.lt_iff_toInt_lt, pk_sub_toInt (by omega) hb, show (0 : Int32).toInt = 0 from by decide]
  omega
theorem pk_ix (x : Int32) {n : Nat} (hn : n < 2 ^ 31) : x < 0 ∨ nI n ≤ x ∨ ∃ j : Nat, j < n ∧ x = nI j := by
  by_cases h : x < 0
  · exact Or.inl h
  · obtain ⟨j, hj, rfl⟩ := nI_of h
    by_cases h2 : j < n
    · exact Or.inr (Or.inr ⟨j, h2, rfl⟩)
    · exact Or.inr (Or.inl (nI_le (by omega) hj))
theorem pk_le {x y : Int32} {A B : Prop} (a b : Nat) (f : a ≤ b → A) (g : b < a → B) (hx : x = nI a := by rfl) (hy : y = nI b := by rfl) (ha : a < 2 ^ 31 := by omega) (hb : b < 2 ^ 31 := by omega) : (x ≤ y → A) ∧ (¬ x ≤ y → B) := by
  subst hx hy
  rw [nI_leI ha hb]
  exact ⟨f, fun z => g (by omega)⟩
theorem pk_lt {x y : Int32} {A B : Prop} (a b : Nat) (f : a < b → A) (g : b ≤ a → B) (hx : x = nI a := by rfl) (hy : y = nI b := by rfl) (ha : a < 2 ^ 31 := by omega) (hb : b < 2 ^ 31 := by omega) : (x < y → A) ∧ (¬ x < y → B) := by
  subst hx hy
  rw [nI_ltI ha hb]
  exact ⟨f, fun z => g (by omega)⟩
theorem pk_eq {x y : Int32} {A B : Prop} (a b : Nat) (f : a = b → A) (g : a ≠ b → B) (hx : x = nI a := by rfl) (hy : y = nI b := by rfl) (ha : a < 2 ^ 31 := by omega) (hb : b < 2 ^ 31 := by omega) : (x = y → A) ∧ (¬ x = y → B) := by
  subst hx hy
  rw [nI_eq ha hb]
  exact ⟨f, g⟩
theorem pk_in {x : Int32} (n N : Nat) (h : n < N) (hx : x = nI n := by rfl) (hN : N < 2 ^ 31 := by omega) : vp_in x N := by
  subst hx
  exact vp_in_nI h hN
theorem pk_cl {x : Int32} (n : Nat) (hx : x = nI n := by rfl) (h : n < 2 ^ 31 := by omega) : x.toNatClampNeg = n := by
  subst hx
  exact nI_clamp h
theorem pk_tn {n : Nat} (h : n < 2 ^ 32) : (nI n).toBitVec.toNat = n := Nat.mod_eq_of_lt h
theorem pk_and (x : Int32) {m : Int32} (k : Nat) (hm : m.toBitVec.toNat = 2 ^ k - 1) : x &&& m = nI (x.toBitVec.toNat % 2 ^ k) := by
  apply Int32.toBitVec_inj.mp
  apply BitVec.eq_of_toNat_eq
  rw [Int32.toBitVec_and, BitVec.toNat_and, hm, Nat.and_two_pow_sub_one_eq_mod]
  show _ = (BitVec.ofNat 32 _).toNat
  rw [BitVec.toNat_ofNat]
  exact (Nat.mod_eq_of_lt (Nat.lt_of_le_of_lt (Nat.mod_le _ _) x.toBitVec.isLt)).symm
theorem pk_andN {n : Nat} (h : n < 2 ^ 32) {m : Int32} (k : Nat) (hm : m.toBitVec.toNat = 2 ^ k - 1) : nI n &&& m = nI (n % 2 ^ k) := by
  rw [pk_and _ k hm, pk_tn h]
theorem pk_andE (x : Int32) {m : Int32} (k : Nat) (hm : m.toBitVec.toNat = 2 ^ k - 1) : ∃ j : Nat, j < 2 ^ k ∧ x &&& m = nI j := ⟨_, Nat.mod_lt _ (Nat.two_pow_pos k), pk_and x k hm⟩
theorem pk_andIn (x : Int32) {m : Int32} (k : Nat) (hm : m.toBitVec.toNat = 2 ^ k - 1) (hk : k ≤ 30) : vp_in (x &&& m) (2 ^ k) := by
  obtain ⟨j, hj, e⟩ := pk_andE x k hm
  rw [e]
  exact vp_in_nI hj (Nat.lt_of_le_of_lt (Nat.pow_le_pow_right (by decide) hk) (by decide))
theorem pk_shl (a s : Int32) (k : Nat) (hs : (s.toBitVec.smod 32).toNat = k) : (a <<< s).toBitVec.toNat = a.toBitVec.toNat * 2 ^ k % 2 ^ 32 := by
  show (a.toBitVec <<< (s.toBitVec.smod 32).toNat).toNat = _
  rw [hs, BitVec.toNat_shiftLeft, Nat.shiftLeft_eq]
theorem pk_shlN {n : Nat} (s : Int32) (k : Nat) (hs : (s.toBitVec.smod 32).toNat = k) (h : n * 2 ^ k < 2 ^ 32) : nI n <<< s = nI (n * 2 ^ k) := by
  apply Int32.toBitVec_inj.mp
  apply BitVec.eq_of_toNat_eq
  have hn : n < 2 ^ 32 := Nat.lt_of_le_of_lt (Nat.le_mul_of_pos_right n (Nat.two_pow_pos k)) h
  rw [pk_shl _ _ k hs, pk_tn hn, pk_tn h, Nat.mod_eq_of_lt h]
theorem pk_shr (a s : Int32) (k : Nat) (hs : (s.toBitVec.smod 32).toNat = k) : (a >>> s).toInt = a.toInt >>> k := by
  show (a.toBitVec.sshiftRight (s.toBitVec.smod 32).toNat).toInt = _
  rw [hs, BitVec.toInt_sshiftRight]
  rfl
theorem pk_shrN {n : Nat} (h : n < 2 ^ 31) (s : Int32) (k : Nat) (hs : (s.toBitVec.smod 32).toNat = k) : nI n >>> s = nI (n / 2 ^ k) := by
  apply Int32.toInt_inj.mp
  have h2 : n / 2 ^ k ≤ n := Nat.div_le_self _ _
  rw [pk_shr _ _ k hs, nI_toInt h, nI_toInt (by omega), Int.shiftRight_eq_div_pow]
  rfl
theorem pk_ushr (x s : Int32) (k : Nat) (hs : ((s.toUInt32 &&& Int32.toUInt32 31).toBitVec % 32).toNat = k) : (x.toUInt32 >>> (s.toUInt32 &&& Int32.toUInt32 31)).toInt32.toBitVec.toNat = x.toBitVec.toNat / 2 ^ k := by
  have e : (x.toUInt32 >>> (s.toUInt32 &&& Int32.toUInt32 31)).toInt32.toBitVec = x.toBitVec >>> k := by
    rw [← hs]
    exact UInt32.toBitVec_shiftRight _ _
  rw [e, BitVec.toNat_ushiftRight, Nat.shiftRight_eq_div_pow]
theorem pk_ushrN {n : Nat} (hn : n < 2 ^ 32) (s : Int32) (k : Nat) (hs : ((s.toUInt32 &&& Int32.toUInt32 31).toBitVec % 32).toNat = k) : ((nI n).toUInt32 >>> (s.toUInt32 &&& Int32.toUInt32 31)).toInt32 = nI (n / 2 ^ k) := by
  apply Int32.toBitVec_inj.mp
  apply BitVec.eq_of_toNat_eq
  rw [pk_ushr _ s k hs, pk_tn hn, pk_tn (Nat.lt_of_le_of_lt (Nat.div_le_self _ _) hn)]
theorem pk_nb (z : Int32) : narrow .byte (.int z.toInt8.toInt32) = .int z.toInt8.toInt32 := congrArg Value.int (by simp)
theorem pk_ns (z : Int32) : narrow .short (.int z.toInt16.toInt32) = .int z.toInt16.toInt32 := congrArg Value.int (by simp)
theorem pk_fb (r : Int32) : fits .byte (.int r.toInt8.toInt32) = true := by
  have ⟨a, b⟩ := lg_i2b_range r
  have h1 : (-128 : Int32).toInt = -128 := by decide
  have h2 : (127 : Int32).toInt = 127 := by decide
  simp only [fits, Bool.and_eq_true, decide_eq_true_eq, Int32.le_iff_toInt_le, h1, h2]
  omega
theorem pk_fs (r : Int32) : fits .short (.int r.toInt16.toInt32) = true := by
  have ⟨a, b⟩ := lg_i2s_range r
  have h1 : (-32768 : Int32).toInt = -32768 := by decide
  have h2 : (32767 : Int32).toInt = 32767 := by decide
  simp only [fits, Bool.and_eq_true, decide_eq_true_eq, Int32.le_iff_toInt_le, h1, h2]
  omega
theorem pk_charN {q : Nat} (hq : q < 65536) : narrow .char (.int (nI q)) = .int (nI q) ∧ fits .char (.int (nI q)) = true := by
  constructor
  · have e : (nI q).toUInt32.toUInt16.toUInt32.toInt32 = nI q := by
      apply Int32.toBitVec_inj.mp
      apply BitVec.eq_of_toNat_eq
      show (nI q).toUInt32.toUInt16.toUInt32.toNat = q % 2 ^ 32
      rw [UInt16.toNat_toUInt32, UInt32.toNat_toUInt16, show (nI q).toUInt32.toNat = q % 2 ^ 32 from rfl]
      omega
    exact congrArg Value.int e
  · have a : (0 : Int32) ≤ nI q := nI_pos' (by omega)
    have b : nI q ≤ 65535 := nI_le (b := 65535) (by omega) (by decide)
    show (decide ((0 : Int32) ≤ nI q) && decide (nI q ≤ 65535)) = true
    rw [decide_eq_true a, decide_eq_true b]
    rfl
theorem pk_char (x : Int32) : (x.toUInt32 % 65536).toInt32 = nI (x.toBitVec.toNat % 65536) := by
  apply Int32.toBitVec_inj.mp
  apply BitVec.eq_of_toNat_eq
  rw [pk_tn (by omega)]
  show (x.toUInt32 % 65536).toNat = _
  rw [UInt32.toNat_mod]
  rfl
theorem pk_nc (x : Int32) : narrow .char (.int (x.toUInt32 % 65536).toInt32) = .int (x.toUInt32 % 65536).toInt32 := by
  rw [pk_char]
  exact (pk_charN (Nat.mod_lt _ (by decide))).1
theorem pk_fc (x : Int32) : fits .char (.int (x.toUInt32 % 65536).toInt32) = true := by
  rw [pk_char]
  exact (pk_charN (Nat.mod_lt _ (by decide))).2
theorem pk_vb (z : Int32) : vp_nar .byte z.toInt8.toInt32 = z.toInt8.toInt32 := by rw [vp_nar_byte]; simp
theorem pk_vs (z : Int32) : vp_nar .short z.toInt16.toInt32 = z.toInt16.toInt32 := by rw [vp_nar_short]; simp
theorem pk_vc (z : Int32) : vp_nar .char (z.toUInt32 % 65536).toInt32 = (z.toUInt32 % 65536).toInt32 := Value.int.inj (pk_nc z)
theorem pk_lT {n : Nat} (h : n < 2 ^ 63) : (lN n).toInt = (n : Int) := lg_ofNat_toInt h
theorem pk_lLT {a b : Nat} (ha : a < 2 ^ 63) (hb : b < 2 ^ 63) : lN a < lN b ↔ a < b := by
  rw [Int64.lt_iff_toInt_lt, pk_lT ha, pk_lT hb]; omega
theorem pk_lLE {a b : Nat} (ha : a < 2 ^ 63) (hb : b < 2 ^ 63) : lN a ≤ lN b ↔ a ≤ b := by
  rw [Int64.le_iff_toInt_le, pk_lT ha, pk_lT hb]; omega
theorem pk_lEQ {a b : Nat} (ha : a < 2 ^ 63) (hb : b < 2 ^ 63) : lN a = lN b ↔ a = b := by
  rw [← Int64.toInt_inj, pk_lT ha, pk_lT hb]; omega
theorem pk_lOf {x : Int64} (h : ¬ x < 0) : ∃ k : Nat, k < 2 ^ 63 ∧ x = lN k := by
  rw [Int64.lt_iff_toInt_lt] at h
  have h0 : (0 : Int64).toInt = 0 := by decide
  have hx := Int64.toInt_lt x
  refine ⟨x.toInt.toNat, by omega, Int64.toInt_inj.mp ?_⟩
  rw [pk_lT (by omega)]
  omega
theorem pk_lDiv {a b : Nat} (ha : a < 2 ^ 63) (h0 : 0 < b) (hb : b < 2 ^ 63) : lN a / lN b = lN (a / b) := by
  apply Int64.toInt_inj.mp
  rw [lg_ldiv_nonneg (by rw [pk_lT ha]; omega) (by rw [pk_lT hb]; omega), pk_lT ha, pk_lT hb, pk_lT (Nat.lt_of_le_of_lt (Nat.div_le_self a b) ha)]
  rfl
theorem pk_lRem {a b : Nat} (ha : a < 2 ^ 63) (h0 : 0 < b) (hb : b < 2 ^ 63) : lN a - lN a / lN b * lN b = lN (a % b) := by
  rw [pk_lDiv ha h0 hb, lN_mul, lN_sub (Nat.div_mul_le_self a b)]
  exact congrArg lN (by have := Nat.div_add_mod' a b; omega)
theorem pk_loop {σ : Type} (W : Nat → Nat → σ → Prop) (I : Nat → σ → Prop) (e i0 : Nat) (s : σ) (hi : i0 ≤ e) (h0 : I i0 s) (hx : ∀ n s, I e s → W (n + 1) e s)
    (hs : ∀ n i s, i < e → I i s → (∀ s', I (i + 1) s' → W n (i + 1) s') → W (n + 1) i s) : ∃ n, W n i0 s :=
  ⟨e + 1, loop_i W I e hx hs (e + 1) i0 s hi (by omega) h0⟩
theorem pk_loopD {σ : Type} (W : Nat → Nat → σ → Prop) (I : Nat → σ → Prop) (hx : ∀ n s, I 0 s → W (n + 1) 0 s)
    (hs : ∀ n i s, I (i + 1) s → (∀ s', I i s' → W n i s') → W (n + 1) (i + 1) s) : ∀ (e : Nat) (s : σ), I e s → W (e + 1) e s := by
  intro e
  induction e with
  | zero => exact fun s h => hx 0 s h
  | succ e ih => exact fun s h => hs (e + 1) e s h (fun s' h' => ih s' h')
theorem lp1 {A1 : Type} (W : Nat → A1 → Prop) (I : A1 → Prop) (μ : A1 → Nat) (hs : ∀ (n : Nat) (a1 : A1), I a1 → (∀ (b1 : A1), I b1 → μ b1 < μ a1 → W n b1) → W (n + 1) a1) (a1 : A1) (h : I a1) : ∃ n, W n a1 :=
  loop_m (σ := A1) (fun n s => W n s) (fun s => I s) (fun s => μ s) (fun n s hI hk => hs n s hI (fun b1 h9 hm => hk b1 h9 hm)) a1 h
theorem lp2 {A1 A2 : Type} (W : Nat → A1 → A2 → Prop) (I : A1 → A2 → Prop) (μ : A1 → A2 → Nat) (hs : ∀ (n : Nat) (a1 : A1) (a2 : A2), I a1 a2 → (∀ (b1 : A1) (b2 : A2), I b1 b2 → μ b1 b2 < μ a1 a2 → W n b1 b2) → W (n + 1) a1 a2) (a1 : A1) (a2 : A2) (h : I a1 a2) : ∃ n, W n a1 a2 :=
  loop_m (σ := A1 × A2) (fun n s => W n s.1 s.2) (fun s => I s.1 s.2) (fun s => μ s.1 s.2) (fun n s hI hk => hs n s.1 s.2 hI (fun b1 b2 h9 hm => hk (b1, b2) h9 hm)) (a1, a2) h
theorem lp3 {A1 A2 A3 : Type} (W : Nat → A1 → A2 → A3 → Prop) (I : A1 → A2 → A3 → Prop) (μ : A1 → A2 → A3 → Nat) (hs : ∀ (n : Nat) (a1 : A1) (a2 : A2) (a3 : A3), I a1 a2 a3 → (∀ (b1 : A1) (b2 : A2) (b3 : A3), I b1 b2 b3 → μ b1 b2 b3 < μ a1 a2 a3 → W n b1 b2 b3) → W (n + 1) a1 a2 a3) (a1 : A1) (a2 : A2) (a3 : A3) (h : I a1 a2 a3) : ∃ n, W n a1 a2 a3 :=
  loop_m (σ := A1 × A2 × A3) (fun n s => W n s.1 s.2.1 s.2.2) (fun s => I s.1 s.2.1 s.2.2) (fun s => μ s.1 s.2.1 s.2.2) (fun n s hI hk => hs n s.1 s.2.1 s.2.2 hI (fun b1 b2 b3 h9 hm => hk (b1, b2, b3) h9 hm)) (a1, a2, a3) h
theorem lp4 {A1 A2 A3 A4 : Type} (W : Nat → A1 → A2 → A3 → A4 → Prop) (I : A1 → A2 → A3 → A4 → Prop) (μ : A1 → A2 → A3 → A4 → Nat) (hs : ∀ (n : Nat) (a1 : A1) (a2 : A2) (a3 : A3) (a4 : A4), I a1 a2 a3 a4 → (∀ (b1 : A1) (b2 : A2) (b3 : A3) (b4 : A4), I b1 b2 b3 b4 → μ b1 b2 b3 b4 < μ a1 a2 a3 a4 → W n b1 b2 b3 b4) → W (n + 1) a1 a2 a3 a4) (a1 : A1) (a2 : A2) (a3 : A3) (a4 : A4) (h : I a1 a2 a3 a4) : ∃ n, W n a1 a2 a3 a4 :=
  loop_m (σ := A1 × A2 × A3 × A4) (fun n s => W n s.1 s.2.1 s.2.2.1 s.2.2.2) (fun s => I s.1 s.2.1 s.2.2.1 s.2.2.2) (fun s => μ s.1 s.2.1 s.2.2.1 s.2.2.2) (fun n s hI hk => hs n s.1 s.2.1 s.2.2.1 s.2.2.2 hI (fun b1 b2 b3 b4 h9 hm => hk (b1, b2, b3, b4) h9 hm)) (a1, a2, a3, a4) h
theorem lp5 {A1 A2 A3 A4 A5 : Type} (W : Nat → A1 → A2 → A3 → A4 → A5 → Prop) (I : A1 → A2 → A3 → A4 → A5 → Prop) (μ : A1 → A2 → A3 → A4 → A5 → Nat) (hs : ∀ (n : Nat) (a1 : A1) (a2 : A2) (a3 : A3) (a4 : A4) (a5 : A5), I a1 a2 a3 a4 a5 → (∀ (b1 : A1) (b2 : A2) (b3 : A3) (b4 : A4) (b5 : A5), I b1 b2 b3 b4 b5 → μ b1 b2 b3 b4 b5 < μ a1 a2 a3 a4 a5 → W n b1 b2 b3 b4 b5) → W (n + 1) a1 a2 a3 a4 a5) (a1 : A1) (a2 : A2) (a3 : A3) (a4 : A4) (a5 : A5) (h : I a1 a2 a3 a4 a5) : ∃ n, W n a1 a2 a3 a4 a5 :=
  loop_m (σ := A1 × A2 × A3 × A4 × A5) (fun n s => W n s.1 s.2.1 s.2.2.1 s.2.2.2.1 s.2.2.2.2) (fun s => I s.1 s.2.1 s.2.2.1 s.2.2.2.1 s.2.2.2.2) (fun s => μ s.1 s.2.1 s.2.2.1 s.2.2.2.1 s.2.2.2.2) (fun n s hI hk => hs n s.1 s.2.1 s.2.2.1 s.2.2.2.1 s.2.2.2.2 hI (fun b1 b2 b3 b4 b5 h9 hm => hk (b1, b2, b3, b4, b5) h9 hm)) (a1, a2, a3, a4, a5) h
theorem lp6 {A1 A2 A3 A4 A5 A6 : Type} (W : Nat → A1 → A2 → A3 → A4 → A5 → A6 → Prop) (I : A1 → A2 → A3 → A4 → A5 → A6 → Prop) (μ : A1 → A2 → A3 → A4 → A5 → A6 → Nat) (hs : ∀ (n : Nat) (a1 : A1) (a2 : A2) (a3 : A3) (a4 : A4) (a5 : A5) (a6 : A6), I a1 a2 a3 a4 a5 a6 → (∀ (b1 : A1) (b2 : A2) (b3 : A3) (b4 : A4) (b5 : A5) (b6 : A6), I b1 b2 b3 b4 b5 b6 → μ b1 b2 b3 b4 b5 b6 < μ a1 a2 a3 a4 a5 a6 → W n b1 b2 b3 b4 b5 b6) → W (n + 1) a1 a2 a3 a4 a5 a6) (a1 : A1) (a2 : A2) (a3 : A3) (a4 : A4) (a5 : A5) (a6 : A6) (h : I a1 a2 a3 a4 a5 a6) : ∃ n, W n a1 a2 a3 a4 a5 a6 :=
  loop_m (σ := A1 × A2 × A3 × A4 × A5 × A6) (fun n s => W n s.1 s.2.1 s.2.2.1 s.2.2.2.1 s.2.2.2.2.1 s.2.2.2.2.2) (fun s => I s.1 s.2.1 s.2.2.1 s.2.2.2.1 s.2.2.2.2.1 s.2.2.2.2.2) (fun s => μ s.1 s.2.1 s.2.2.1 s.2.2.2.1 s.2.2.2.2.1 s.2.2.2.2.2) (fun n s hI hk => hs n s.1 s.2.1 s.2.2.1 s.2.2.2.1 s.2.2.2.2.1 s.2.2.2.2.2 hI (fun b1 b2 b3 b4 b5 b6 h9 hm => hk (b1, b2, b3, b4, b5, b6) h9 hm)) (a1, a2, a3, a4, a5, a6) h
theorem lp7 {A1 A2 A3 A4 A5 A6 A7 : Type} (W : Nat → A1 → A2 → A3 → A4 → A5 → A6 → A7 → Prop) (I : A1 → A2 → A3 → A4 → A5 → A6 → A7 → Prop) (μ : A1 → A2 → A3 → A4 → A5 → A6 → A7 → Nat) (hs : ∀ (n : Nat) (a1 : A1) (a2 : A2) (a3 : A3) (a4 : A4) (a5 : A5) (a6 : A6) (a7 : A7), I a1 a2 a3 a4 a5 a6 a7 → (∀ (b1 : A1) (b2 : A2) (b3 : A3) (b4 : A4) (b5 : A5) (b6 : A6) (b7 : A7), I b1 b2 b3 b4 b5 b6 b7 → μ b1 b2 b3 b4 b5 b6 b7 < μ a1 a2 a3 a4 a5 a6 a7 → W n b1 b2 b3 b4 b5 b6 b7) → W (n + 1) a1 a2 a3 a4 a5 a6 a7) (a1 : A1) (a2 : A2) (a3 : A3) (a4 : A4) (a5 : A5) (a6 : A6) (a7 : A7) (h : I a1 a2 a3 a4 a5 a6 a7) : ∃ n, W n a1 a2 a3 a4 a5 a6 a7 :=
  loop_m (σ := A1 × A2 × A3 × A4 × A5 × A6 × A7) (fun n s => W n s.1 s.2.1 s.2.2.1 s.2.2.2.1 s.2.2.2.2.1 s.2.2.2.2.2.1 s.2.2.2.2.2.2) (fun s => I s.1 s.2.1 s.2.2.1 s.2.2.2.1 s.2.2.2.2.1 s.2.2.2.2.2.1 s.2.2.2.2.2.2) (fun s => μ s.1 s.2.1 s.2.2.1 s.2.2.2.1 s.2.2.2.2.1 s.2.2.2.2.2.1 s.2.2.2.2.2.2) (fun n s hI hk => hs n s.1 s.2.1 s.2.2.1 s.2.2.2.1 s.2.2.2.2.1 s.2.2.2.2.2.1 s.2.2.2.2.2.2 hI (fun b1 b2 b3 b4 b5 b6 b7 h9 hm => hk (b1, b2, b3, b4, b5, b6, b7) h9 hm)) (a1, a2, a3, a4, a5, a6, a7) h
theorem lp8 {A1 A2 A3 A4 A5 A6 A7 A8 : Type} (W : Nat → A1 → A2 → A3 → A4 → A5 → A6 → A7 → A8 → Prop) (I : A1 → A2 → A3 → A4 → A5 → A6 → A7 → A8 → Prop) (μ : A1 → A2 → A3 → A4 → A5 → A6 → A7 → A8 → Nat) (hs : ∀ (n : Nat) (a1 : A1) (a2 : A2) (a3 : A3) (a4 : A4) (a5 : A5) (a6 : A6) (a7 : A7) (a8 : A8), I a1 a2 a3 a4 a5 a6 a7 a8 → (∀ (b1 : A1) (b2 : A2) (b3 : A3) (b4 : A4) (b5 : A5) (b6 : A6) (b7 : A7) (b8 : A8), I b1 b2 b3 b4 b5 b6 b7 b8 → μ b1 b2 b3 b4 b5 b6 b7 b8 < μ a1 a2 a3 a4 a5 a6 a7 a8 → W n b1 b2 b3 b4 b5 b6 b7 b8) → W (n + 1) a1 a2 a3 a4 a5 a6 a7 a8) (a1 : A1) (a2 : A2) (a3 : A3) (a4 : A4) (a5 : A5) (a6 : A6) (a7 : A7) (a8 : A8) (h : I a1 a2 a3 a4 a5 a6 a7 a8) : ∃ n, W n a1 a2 a3 a4 a5 a6 a7 a8 :=
  loop_m (σ := A1 × A2 × A3 × A4 × A5 × A6 × A7 × A8) (fun n s => W n s.1 s.2.1 s.2.2.1 s.2.2.2.1 s.2.2.2.2.1 s.2.2.2.2.2.1 s.2.2.2.2.2.2.1 s.2.2.2.2.2.2.2) (fun s => I s.1 s.2.1 s.2.2.1 s.2.2.2.1 s.2.2.2.2.1 s.2.2.2.2.2.1 s.2.2.2.2.2.2.1 s.2.2.2.2.2.2.2) (fun s => μ s.1 s.2.1 s.2.2.1 s.2.2.2.1 s.2.2.2.2.1 s.2.2.2.2.2.1 s.2.2.2.2.2.2.1 s.2.2.2.2.2.2.2) (fun n s hI hk => hs n s.1 s.2.1 s.2.2.1 s.2.2.2.1 s.2.2.2.2.1 s.2.2.2.2.2.1 s.2.2.2.2.2.2.1 s.2.2.2.2.2.2.2 hI (fun b1 b2 b3 b4 b5 b6 b7 b8 h9 hm => hk (b1, b2, b3, b4, b5, b6, b7, b8) h9 hm)) (a1, a2, a3, a4, a5, a6, a7, a8) h
theorem lp9 {A1 A2 A3 A4 A5 A6 A7 A8 A9 : Type} (W : Nat → A1 → A2 → A3 → A4 → A5 → A6 → A7 → A8 → A9 → Prop) (I : A1 → A2 → A3 → A4 → A5 → A6 → A7 → A8 → A9 → Prop) (μ : A1 → A2 → A3 → A4 → A5 → A6 → A7 → A8 → A9 → Nat) (hs : ∀ (n : Nat) (a1 : A1) (a2 : A2) (a3 : A3) (a4 : A4) (a5 : A5) (a6 : A6) (a7 : A7) (a8 : A8) (a9 : A9), I a1 a2 a3 a4 a5 a6 a7 a8 a9 → (∀ (b1 : A1) (b2 : A2) (b3 : A3) (b4 : A4) (b5 : A5) (b6 : A6) (b7 : A7) (b8 : A8) (b9 : A9), I b1 b2 b3 b4 b5 b6 b7 b8 b9 → μ b1 b2 b3 b4 b5 b6 b7 b8 b9 < μ a1 a2 a3 a4 a5 a6 a7 a8 a9 → W n b1 b2 b3 b4 b5 b6 b7 b8 b9) → W (n + 1) a1 a2 a3 a4 a5 a6 a7 a8 a9) (a1 : A1) (a2 : A2) (a3 : A3) (a4 : A4) (a5 : A5) (a6 : A6) (a7 : A7) (a8 : A8) (a9 : A9) (h : I a1 a2 a3 a4 a5 a6 a7 a8 a9) : ∃ n, W n a1 a2 a3 a4 a5 a6 a7 a8 a9 :=
  loop_m (σ := A1 × A2 × A3 × A4 × A5 × A6 × A7 × A8 × A9) (fun n s => W n s.1 s.2.1 s.2.2.1 s.2.2.2.1 s.2.2.2.2.1 s.2.2.2.2.2.1 s.2.2.2.2.2.2.1 s.2.2.2.2.2.2.2.1 s.2.2.2.2.2.2.2.2) (fun s => I s.1 s.2.1 s.2.2.1 s.2.2.2.1 s.2.2.2.2.1 s.2.2.2.2.2.1 s.2.2.2.2.2.2.1 s.2.2.2.2.2.2.2.1 s.2.2.2.2.2.2.2.2) (fun s => μ s.1 s.2.1 s.2.2.1 s.2.2.2.1 s.2.2.2.2.1 s.2.2.2.2.2.1 s.2.2.2.2.2.2.1 s.2.2.2.2.2.2.2.1 s.2.2.2.2.2.2.2.2) (fun n s hI hk => hs n s.1 s.2.1 s.2.2.1 s.2.2.2.1 s.2.2.2.2.1 s.2.2.2.2.2.1 s.2.2.2.2.2.2.1 s.2.2.2.2.2.2.2.1 s.2.2.2.2.2.2.2.2 hI (fun b1 b2 b3 b4 b5 b6 b7 b8 b9 h9 hm => hk (b1, b2, b3, b4, b5, b6, b7, b8, b9) h9 hm)) (a1, a2, a3, a4, a5, a6, a7, a8, a9) h
theorem lp10 {A1 A2 A3 A4 A5 A6 A7 A8 A9 A10 : Type} (W : Nat → A1 → A2 → A3 → A4 → A5 → A6 → A7 → A8 → A9 → A10 → Prop) (I : A1 → A2 → A3 → A4 → A5 → A6 → A7 → A8 → A9 → A10 → Prop) (μ : A1 → A2 → A3 → A4 → A5 → A6 → A7 → A8 → A9 → A10 → Nat) (hs : ∀ (n : Nat) (a1 : A1) (a2 : A2) (a3 : A3) (a4 : A4) (a5 : A5) (a6 : A6) (a7 : A7) (a8 : A8) (a9 : A9) (a10 : A10), I a1 a2 a3 a4 a5 a6 a7 a8 a9 a10 → (∀ (b1 : A1) (b2 : A2) (b3 : A3) (b4 : A4) (b5 : A5) (b6 : A6) (b7 : A7) (b8 : A8) (b9 : A9) (b10 : A10), I b1 b2 b3 b4 b5 b6 b7 b8 b9 b10 → μ b1 b2 b3 b4 b5 b6 b7 b8 b9 b10 < μ a1 a2 a3 a4 a5 a6 a7 a8 a9 a10 → W n b1 b2 b3 b4 b5 b6 b7 b8 b9 b10) → W (n + 1) a1 a2 a3 a4 a5 a6 a7 a8 a9 a10) (a1 : A1) (a2 : A2) (a3 : A3) (a4 : A4) (a5 : A5) (a6 : A6) (a7 : A7) (a8 : A8) (a9 : A9) (a10 : A10) (h : I a1 a2 a3 a4 a5 a6 a7 a8 a9 a10) : ∃ n, W n a1 a2 a3 a4 a5 a6 a7 a8 a9 a10 :=
  loop_m (σ := A1 × A2 × A3 × A4 × A5 × A6 × A7 × A8 × A9 × A10) (fun n s => W n s.1 s.2.1 s.2.2.1 s.2.2.2.1 s.2.2.2.2.1 s.2.2.2.2.2.1 s.2.2.2.2.2.2.1 s.2.2.2.2.2.2.2.1 s.2.2.2.2.2.2.2.2.1 s.2.2.2.2.2.2.2.2.2) (fun s => I s.1 s.2.1 s.2.2.1 s.2.2.2.1 s.2.2.2.2.1 s.2.2.2.2.2.1 s.2.2.2.2.2.2.1 s.2.2.2.2.2.2.2.1 s.2.2.2.2.2.2.2.2.1 s.2.2.2.2.2.2.2.2.2) (fun s => μ s.1 s.2.1 s.2.2.1 s.2.2.2.1 s.2.2.2.2.1 s.2.2.2.2.2.1 s.2.2.2.2.2.2.1 s.2.2.2.2.2.2.2.1 s.2.2.2.2.2.2.2.2.1 s.2.2.2.2.2.2.2.2.2) (fun n s hI hk => hs n s.1 s.2.1 s.2.2.1 s.2.2.2.1 s.2.2.2.2.1 s.2.2.2.2.2.1 s.2.2.2.2.2.2.1 s.2.2.2.2.2.2.2.1 s.2.2.2.2.2.2.2.2.1 s.2.2.2.2.2.2.2.2.2 hI (fun b1 b2 b3 b4 b5 b6 b7 b8 b9 b10 h9 hm => hk (b1, b2, b3, b4, b5, b6, b7, b8, b9, b10) h9 hm)) (a1, a2, a3, a4, a5, a6, a7, a8, a9, a10) h
theorem lp11 {A1 A2 A3 A4 A5 A6 A7 A8 A9 A10 A11 : Type} (W : Nat → A1 → A2 → A3 → A4 → A5 → A6 → A7 → A8 → A9 → A10 → A11 → Prop) (I : A1 → A2 → A3 → A4 → A5 → A6 → A7 → A8 → A9 → A10 → A11 → Prop) (μ : A1 → A2 → A3 → A4 → A5 → A6 → A7 → A8 → A9 → A10 → A11 → Nat) (hs : ∀ (n : Nat) (a1 : A1) (a2 : A2) (a3 : A3) (a4 : A4) (a5 : A5) (a6 : A6) (a7 : A7) (a8 : A8) (a9 : A9) (a10 : A10) (a11 : A11), I a1 a2 a3 a4 a5 a6 a7 a8 a9 a10 a11 → (∀ (b1 : A1) (b2 : A2) (b3 : A3) (b4 : A4) (b5 : A5) (b6 : A6) (b7 : A7) (b8 : A8) (b9 : A9) (b10 : A10) (b11 : A11), I b1 b2 b3 b4 b5 b6 b7 b8 b9 b10 b11 → μ b1 b2 b3 b4 b5 b6 b7 b8 b9 b10 b11 < μ a1 a2 a3 a4 a5 a6 a7 a8 a9 a10 a11 → W n b1 b2 b3 b4 b5 b6 b7 b8 b9 b10 b11) → W (n + 1) a1 a2 a3 a4 a5 a6 a7 a8 a9 a10 a11) (a1 : A1) (a2 : A2) (a3 : A3) (a4 : A4) (a5 : A5) (a6 : A6) (a7 : A7) (a8 : A8) (a9 : A9) (a10 : A10) (a11 : A11) (h : I a1 a2 a3 a4 a5 a6 a7 a8 a9 a10 a11) : ∃ n, W n a1 a2 a3 a4 a5 a6 a7 a8 a9 a10 a11 :=
  loop_m (σ := A1 × A2 × A3 × A4 × A5 × A6 × A7 × A8 × A9 × A10 × A11) (fun n s => W n s.1 s.2.1 s.2.2.1 s.2.2.2.1 s.2.2.2.2.1 s.2.2.2.2.2.1 s.2.2.2.2.2.2.1 s.2.2.2.2.2.2.2.1 s.2.2.2.2.2.2.2.2.1 s.2.2.2.2.2.2.2.2.2.1 s.2.2.2.2.2.2.2.2.2.2) (fun s => I s.1 s.2.1 s.2.2.1 s.2.2.2.1 s.2.2.2.2.1 s.2.2.2.2.2.1 s.2.2.2.2.2.2.1 s.2.2.2.2.2.2.2.1 s.2.2.2.2.2.2.2.2.1 s.2.2.2.2.2.2.2.2.2.1 s.2.2.2.2.2.2.2.2.2.2) (fun s => μ s.1 s.2.1 s.2.2.1 s.2.2.2.1 s.2.2.2.2.1 s.2.2.2.2.2.1 s.2.2.2.2.2.2.1 s.2.2.2.2.2.2.2.1 s.2.2.2.2.2.2.2.2.1 s.2.2.2.2.2.2.2.2.2.1 s.2.2.2.2.2.2.2.2.2.2) (fun n s hI hk => hs n s.1 s.2.1 s.2.2.1 s.2.2.2.1 s.2.2.2.2.1 s.2.2.2.2.2.1 s.2.2.2.2.2.2.1 s.2.2.2.2.2.2.2.1 s.2.2.2.2.2.2.2.2.1 s.2.2.2.2.2.2.2.2.2.1 s.2.2.2.2.2.2.2.2.2.2 hI (fun b1 b2 b3 b4 b5 b6 b7 b8 b9 b10 b11 h9 hm => hk (b1, b2, b3, b4, b5, b6, b7, b8, b9, b10, b11) h9 hm)) (a1, a2, a3, a4, a5, a6, a7, a8, a9, a10, a11) h
theorem lp12 {A1 A2 A3 A4 A5 A6 A7 A8 A9 A10 A11 A12 : Type} (W : Nat → A1 → A2 → A3 → A4 → A5 → A6 → A7 → A8 → A9 → A10 → A11 → A12 → Prop) (I : A1 → A2 → A3 → A4 → A5 → A6 → A7 → A8 → A9 → A10 → A11 → A12 → Prop) (μ : A1 → A2 → A3 → A4 → A5 → A6 → A7 → A8 → A9 → A10 → A11 → A12 → Nat) (hs : ∀ (n : Nat) (a1 : A1) (a2 : A2) (a3 : A3) (a4 : A4) (a5 : A5) (a6 : A6) (a7 : A7) (a8 : A8) (a9 : A9) (a10 : A10) (a11 : A11) (a12 : A12), I a1 a2 a3 a4 a5 a6 a7 a8 a9 a10 a11 a12 → (∀ (b1 : A1) (b2 : A2) (b3 : A3) (b4 : A4) (b5 : A5) (b6 : A6) (b7 : A7) (b8 : A8) (b9 : A9) (b10 : A10) (b11 : A11) (b12 : A12), I b1 b2 b3 b4 b5 b6 b7 b8 b9 b10 b11 b12 → μ b1 b2 b3 b4 b5 b6 b7 b8 b9 b10 b11 b12 < μ a1 a2 a3 a4 a5 a6 a7 a8 a9 a10 a11 a12 → W n b1 b2 b3 b4 b5 b6 b7 b8 b9 b10 b11 b12) → W (n + 1) a1 a2 a3 a4 a5 a6 a7 a8 a9 a10 a11 a12) (a1 : A1) (a2 : A2) (a3 : A3) (a4 : A4) (a5 : A5) (a6 : A6) (a7 : A7) (a8 : A8) (a9 : A9) (a10 : A10) (a11 : A11) (a12 : A12) (h : I a1 a2 a3 a4 a5 a6 a7 a8 a9 a10 a11 a12) : ∃ n, W n a1 a2 a3 a4 a5 a6 a7 a8 a9 a10 a11 a12 :=
  loop_m (σ := A1 × A2 × A3 × A4 × A5 × A6 × A7 × A8 × A9 × A10 × A11 × A12) (fun n s => W n s.1 s.2.1 s.2.2.1 s.2.2.2.1 s.2.2.2.2.1 s.2.2.2.2.2.1 s.2.2.2.2.2.2.1 s.2.2.2.2.2.2.2.1 s.2.2.2.2.2.2.2.2.1 s.2.2.2.2.2.2.2.2.2.1 s.2.2.2.2.2.2.2.2.2.2.1 s.2.2.2.2.2.2.2.2.2.2.2) (fun s => I s.1 s.2.1 s.2.2.1 s.2.2.2.1 s.2.2.2.2.1 s.2.2.2.2.2.1 s.2.2.2.2.2.2.1 s.2.2.2.2.2.2.2.1 s.2.2.2.2.2.2.2.2.1 s.2.2.2.2.2.2.2.2.2.1 s.2.2.2.2.2.2.2.2.2.2.1 s.2.2.2.2.2.2.2.2.2.2.2) (fun s => μ s.1 s.2.1 s.2.2.1 s.2.2.2.1 s.2.2.2.2.1 s.2.2.2.2.2.1 s.2.2.2.2.2.2.1 s.2.2.2.2.2.2.2.1 s.2.2.2.2.2.2.2.2.1 s.2.2.2.2.2.2.2.2.2.1 s.2.2.2.2.2.2.2.2.2.2.1 s.2.2.2.2.2.2.2.2.2.2.2) (fun n s hI hk => hs n s.1 s.2.1 s.2.2.1 s.2.2.2.1 s.2.2.2.2.1 s.2.2.2.2.2.1 s.2.2.2.2.2.2.1 s.2.2.2.2.2.2.2.1 s.2.2.2.2.2.2.2.2.1 s.2.2.2.2.2.2.2.2.2.1 s.2.2.2.2.2.2.2.2.2.2.1 s.2.2.2.2.2.2.2.2.2.2.2 hI (fun b1 b2 b3 b4 b5 b6 b7 b8 b9 b10 b11 b12 h9 hm => hk (b1, b2, b3, b4, b5, b6, b7, b8, b9, b10, b11, b12) h9 hm)) (a1, a2, a3, a4, a5, a6, a7, a8, a9, a10, a11, a12) h
theorem lp13 {A1 A2 A3 A4 A5 A6 A7 A8 A9 A10 A11 A12 A13 : Type} (W : Nat → A1 → A2 → A3 → A4 → A5 → A6 → A7 → A8 → A9 → A10 → A11 → A12 → A13 → Prop) (I : A1 → A2 → A3 → A4 → A5 → A6 → A7 → A8 → A9 → A10 → A11 → A12 → A13 → Prop) (μ : A1 → A2 → A3 → A4 → A5 → A6 → A7 → A8 → A9 → A10 → A11 → A12 → A13 → Nat) (hs : ∀ (n : Nat) (a1 : A1) (a2 : A2) (a3 : A3) (a4 : A4) (a5 : A5) (a6 : A6) (a7 : A7) (a8 : A8) (a9 : A9) (a10 : A10) (a11 : A11) (a12 : A12) (a13 : A13), I a1 a2 a3 a4 a5 a6 a7 a8 a9 a10 a11 a12 a13 → (∀ (b1 : A1) (b2 : A2) (b3 : A3) (b4 : A4) (b5 : A5) (b6 : A6) (b7 : A7) (b8 : A8) (b9 : A9) (b10 : A10) (b11 : A11) (b12 : A12) (b13 : A13), I b1 b2 b3 b4 b5 b6 b7 b8 b9 b10 b11 b12 b13 → μ b1 b2 b3 b4 b5 b6 b7 b8 b9 b10 b11 b12 b13 < μ a1 a2 a3 a4 a5 a6 a7 a8 a9 a10 a11 a12 a13 → W n b1 b2 b3 b4 b5 b6 b7 b8 b9 b10 b11 b12 b13) → W (n + 1) a1 a2 a3 a4 a5 a6 a7 a8 a9 a10 a11 a12 a13) (a1 : A1) (a2 : A2) (a3 : A3) (a4 : A4) (a5 : A5) (a6 : A6) (a7 : A7) (a8 : A8) (a9 : A9) (a10 : A10) (a11 : A11) (a12 : A12) (a13 : A13) (h : I a1 a2 a3 a4 a5 a6 a7 a8 a9 a10 a11 a12 a13) : ∃ n, W n a1 a2 a3 a4 a5 a6 a7 a8 a9 a10 a11 a12 a13 :=
  loop_m (σ := A1 × A2 × A3 × A4 × A5 × A6 × A7 × A8 × A9 × A10 × A11 × A12 × A13) (fun n s => W n s.1 s.2.1 s.2.2.1 s.2.2.2.1 s.2.2.2.2.1 s.2.2.2.2.2.1 s.2.2.2.2.2.2.1 s.2.2.2.2.2.2.2.1 s.2.2.2.2.2.2.2.2.1 s.2.2.2.2.2.2.2.2.2.1 s.2.2.2.2.2.2.2.2.2.2.1 s.2.2.2.2.2.2.2.2.2.2.2.1 s.2.2.2.2.2.2.2.2.2.2.2.2) (fun s => I s.1 s.2.1 s.2.2.1 s.2.2.2.1 s.2.2.2.2.1 s.2.2.2.2.2.1 s.2.2.2.2.2.2.1 s.2.2.2.2.2.2.2.1 s.2.2.2.2.2.2.2.2.1 s.2.2.2.2.2.2.2.2.2.1 s.2.2.2.2.2.2.2.2.2.2.1 s.2.2.2.2.2.2.2.2.2.2.2.1 s.2.2.2.2.2.2.2.2.2.2.2.2) (fun s => μ s.1 s.2.1 s.2.2.1 s.2.2.2.1 s.2.2.2.2.1 s.2.2.2.2.2.1 s.2.2.2.2.2.2.1 s.2.2.2.2.2.2.2.1 s.2.2.2.2.2.2.2.2.1 s.2.2.2.2.2.2.2.2.2.1 s.2.2.2.2.2.2.2.2.2.2.1 s.2.2.2.2.2.2.2.2.2.2.2.1 s.2.2.2.2.2.2.2.2.2.2.2.2) (fun n s hI hk => hs n s.1 s.2.1 s.2.2.1 s.2.2.2.1 s.2.2.2.2.1 s.2.2.2.2.2.1 s.2.2.2.2.2.2.1 s.2.2.2.2.2.2.2.1 s.2.2.2.2.2.2.2.2.1 s.2.2.2.2.2.2.2.2.2.1 s.2.2.2.2.2.2.2.2.2.2.1 s.2.2.2.2.2.2.2.2.2.2.2.1 s.2.2.2.2.2.2.2.2.2.2.2.2 hI (fun b1 b2 b3 b4 b5 b6 b7 b8 b9 b10 b11 b12 b13 h9 hm => hk (b1, b2, b3, b4, b5, b6, b7, b8, b9, b10, b11, b12, b13) h9 hm)) (a1, a2, a3, a4, a5, a6, a7, a8, a9, a10, a11, a12, a13) h
theorem lp14 {A1 A2 A3 A4 A5 A6 A7 A8 A9 A10 A11 A12 A13 A14 : Type} (W : Nat → A1 → A2 → A3 → A4 → A5 → A6 → A7 → A8 → A9 → A10 → A11 → A12 → A13 → A14 → Prop) (I : A1 → A2 → A3 → A4 → A5 → A6 → A7 → A8 → A9 → A10 → A11 → A12 → A13 → A14 → Prop) (μ : A1 → A2 → A3 → A4 → A5 → A6 → A7 → A8 → A9 → A10 → A11 → A12 → A13 → A14 → Nat) (hs : ∀ (n : Nat) (a1 : A1) (a2 : A2) (a3 : A3) (a4 : A4) (a5 : A5) (a6 : A6) (a7 : A7) (a8 : A8) (a9 : A9) (a10 : A10) (a11 : A11) (a12 : A12) (a13 : A13) (a14 : A14), I a1 a2 a3 a4 a5 a6 a7 a8 a9 a10 a11 a12 a13 a14 → (∀ (b1 : A1) (b2 : A2) (b3 : A3) (b4 : A4) (b5 : A5) (b6 : A6) (b7 : A7) (b8 : A8) (b9 : A9) (b10 : A10) (b11 : A11) (b12 : A12) (b13 : A13) (b14 : A14), I b1 b2 b3 b4 b5 b6 b7 b8 b9 b10 b11 b12 b13 b14 → μ b1 b2 b3 b4 b5 b6 b7 b8 b9 b10 b11 b12 b13 b14 < μ a1 a2 a3 a4 a5 a6 a7 a8 a9 a10 a11 a12 a13 a14 → W n b1 b2 b3 b4 b5 b6 b7 b8 b9 b10 b11 b12 b13 b14) → W (n + 1) a1 a2 a3 a4 a5 a6 a7 a8 a9 a10 a11 a12 a13 a14) (a1 : A1) (a2 : A2) (a3 : A3) (a4 : A4) (a5 : A5) (a6 : A6) (a7 : A7) (a8 : A8) (a9 : A9) (a10 : A10) (a11 : A11) (a12 : A12) (a13 : A13) (a14 : A14) (h : I a1 a2 a3 a4 a5 a6 a7 a8 a9 a10 a11 a12 a13 a14) : ∃ n, W n a1 a2 a3 a4 a5 a6 a7 a8 a9 a10 a11 a12 a13 a14 :=
  loop_m (σ := A1 × A2 × A3 × A4 × A5 × A6 × A7 × A8 × A9 × A10 × A11 × A12 × A13 × A14) (fun n s => W n s.1 s.2.1 s.2.2.1 s.2.2.2.1 s.2.2.2.2.1 s.2.2.2.2.2.1 s.2.2.2.2.2.2.1 s.2.2.2.2.2.2.2.1 s.2.2.2.2.2.2.2.2.1 s.2.2.2.2.2.2.2.2.2.1 s.2.2.2.2.2.2.2.2.2.2.1 s.2.2.2.2.2.2.2.2.2.2.2.1 s.2.2.2.2.2.2.2.2.2.2.2.2.1 s.2.2.2.2.2.2.2.2.2.2.2.2.2) (fun s => I s.1 s.2.1 s.2.2.1 s.2.2.2.1 s.2.2.2.2.1 s.2.2.2.2.2.1 s.2.2.2.2.2.2.1 s.2.2.2.2.2.2.2.1 s.2.2.2.2.2.2.2.2.1 s.2.2.2.2.2.2.2.2.2.1 s.2.2.2.2.2.2.2.2.2.2.1 s.2.2.2.2.2.2.2.2.2.2.2.1 s.2.2.2.2.2.2.2.2.2.2.2.2.1 s.2.2.2.2.2.2.2.2.2.2.2.2.2) (fun s => μ s.1 s.2.1 s.2.2.1 s.2.2.2.1 s.2.2.2.2.1 s.2.2.2.2.2.1 s.2.2.2.2.2.2.1 s.2.2.2.2.2.2.2.1 s.2.2.2.2.2.2.2.2.1 s.2.2.2.2.2.2.2.2.2.1 s.2.2.2.2.2.2.2.2.2.2.1 s.2.2.2.2.2.2.2.2.2.2.2.1 s.2.2.2.2.2.2.2.2.2.2.2.2.1 s.2.2.2.2.2.2.2.2.2.2.2.2.2) (fun n s hI hk => hs n s.1 s.2.1 s.2.2.1 s.2.2.2.1 s.2.2.2.2.1 s.2.2.2.2.2.1 s.2.2.2.2.2.2.1 s.2.2.2.2.2.2.2.1 s.2.2.2.2.2.2.2.2.1 s.2.2.2.2.2.2.2.2.2.1 s.2.2.2.2.2.2.2.2.2.2.1 s.2.2.2.2.2.2.2.2.2.2.2.1 s.2.2.2.2.2.2.2.2.2.2.2.2.1 s.2.2.2.2.2.2.2.2.2.2.2.2.2 hI (fun b1 b2 b3 b4 b5 b6 b7 b8 b9 b10 b11 b12 b13 b14 h9 hm => hk (b1, b2, b3, b4, b5, b6, b7, b8, b9, b10, b11, b12, b13, b14) h9 hm)) (a1, a2, a3, a4, a5, a6, a7, a8, a9, a10, a11, a12, a13, a14) h
theorem lp15 {A1 A2 A3 A4 A5 A6 A7 A8 A9 A10 A11 A12 A13 A14 A15 : Type} (W : Nat → A1 → A2 → A3 → A4 → A5 → A6 → A7 → A8 → A9 → A10 → A11 → A12 → A13 → A14 → A15 → Prop) (I : A1 → A2 → A3 → A4 → A5 → A6 → A7 → A8 → A9 → A10 → A11 → A12 → A13 → A14 → A15 → Prop) (μ : A1 → A2 → A3 → A4 → A5 → A6 → A7 → A8 → A9 → A10 → A11 → A12 → A13 → A14 → A15 → Nat) (hs : ∀ (n : Nat) (a1 : A1) (a2 : A2) (a3 : A3) (a4 : A4) (a5 : A5) (a6 : A6) (a7 : A7) (a8 : A8) (a9 : A9) (a10 : A10) (a11 : A11) (a12 : A12) (a13 : A13) (a14 : A14) (a15 : A15), I a1 a2 a3 a4 a5 a6 a7 a8 a9 a10 a11 a12 a13 a14 a15 → (∀ (b1 : A1) (b2 : A2) (b3 : A3) (b4 : A4) (b5 : A5) (b6 : A6) (b7 : A7) (b8 : A8) (b9 : A9) (b10 : A10) (b11 : A11) (b12 : A12) (b13 : A13) (b14 : A14) (b15 : A15), I b1 b2 b3 b4 b5 b6 b7 b8 b9 b10 b11 b12 b13 b14 b15 → μ b1 b2 b3 b4 b5 b6 b7 b8 b9 b10 b11 b12 b13 b14 b15 < μ a1 a2 a3 a4 a5 a6 a7 a8 a9 a10 a11 a12 a13 a14 a15 → W n b1 b2 b3 b4 b5 b6 b7 b8 b9 b10 b11 b12 b13 b14 b15) → W (n + 1) a1 a2 a3 a4 a5 a6 a7 a8 a9 a10 a11 a12 a13 a14 a15) (a1 : A1) (a2 : A2) (a3 : A3) (a4 : A4) (a5 : A5) (a6 : A6) (a7 : A7) (a8 : A8) (a9 : A9) (a10 : A10) (a11 : A11) (a12 : A12) (a13 : A13) (a14 : A14) (a15 : A15) (h : I a1 a2 a3 a4 a5 a6 a7 a8 a9 a10 a11 a12 a13 a14 a15) : ∃ n, W n a1 a2 a3 a4 a5 a6 a7 a8 a9 a10 a11 a12 a13 a14 a15 :=
  loop_m (σ := A1 × A2 × A3 × A4 × A5 × A6 × A7 × A8 × A9 × A10 × A11 × A12 × A13 × A14 × A15) (fun n s => W n s.1 s.2.1 s.2.2.1 s.2.2.2.1 s.2.2.2.2.1 s.2.2.2.2.2.1 s.2.2.2.2.2.2.1 s.2.2.2.2.2.2.2.1 s.2.2.2.2.2.2.2.2.1 s.2.2.2.2.2.2.2.2.2.1 s.2.2.2.2.2.2.2.2.2.2.1 s.2.2.2.2.2.2.2.2.2.2.2.1 s.2.2.2.2.2.2.2.2.2.2.2.2.1 s.2.2.2.2.2.2.2.2.2.2.2.2.2.1 s.2.2.2.2.2.2.2.2.2.2.2.2.2.2) (fun s => I s.1 s.2.1 s.2.2.1 s.2.2.2.1 s.2.2.2.2.1 s.2.2.2.2.2.1 s.2.2.2.2.2.2.1 s.2.2.2.2.2.2.2.1 s.2.2.2.2.2.2.2.2.1 s.2.2.2.2.2.2.2.2.2.1 s.2.2.2.2.2.2.2.2.2.2.1 s.2.2.2.2.2.2.2.2.2.2.2.1 s.2.2.2.2.2.2.2.2.2.2.2.2.1 s.2.2.2.2.2.2.2.2.2.2.2.2.2.1 s.2.2.2.2.2.2.2.2.2.2.2.2.2.2) (fun s => μ s.1 s.2.1 s.2.2.1 s.2.2.2.1 s.2.2.2.2.1 s.2.2.2.2.2.1 s.2.2.2.2.2.2.1 s.2.2.2.2.2.2.2.1 s.2.2.2.2.2.2.2.2.1 s.2.2.2.2.2.2.2.2.2.1 s.2.2.2.2.2.2.2.2.2.2.1 s.2.2.2.2.2.2.2.2.2.2.2.1 s.2.2.2.2.2.2.2.2.2.2.2.2.1 s.2.2.2.2.2.2.2.2.2.2.2.2.2.1 s.2.2.2.2.2.2.2.2.2.2.2.2.2.2) (fun n s hI hk => hs n s.1 s.2.1 s.2.2.1 s.2.2.2.1 s.2.2.2.2.1 s.2.2.2.2.2.1 s.2.2.2.2.2.2.1 s.2.2.2.2.2.2.2.1 s.2.2.2.2.2.2.2.2.1 s.2.2.2.2.2.2.2.2.2.1 s.2.2.2.2.2.2.2.2.2.2.1 s.2.2.2.2.2.2.2.2.2.2.2.1 s.2.2.2.2.2.2.2.2.2.2.2.2.1 s.2.2.2.2.2.2.2.2.2.2.2.2.2.1 s.2.2.2.2.2.2.2.2.2.2.2.2.2.2 hI (fun b1 b2 b3 b4 b5 b6 b7 b8 b9 b10 b11 b12 b13 b14 b15 h9 hm => hk (b1, b2, b3, b4, b5, b6, b7, b8, b9, b10, b11, b12, b13, b14, b15) h9 hm)) (a1, a2, a3, a4, a5, a6, a7, a8, a9, a10, a11, a12, a13, a14, a15) h
theorem lp16 {A1 A2 A3 A4 A5 A6 A7 A8 A9 A10 A11 A12 A13 A14 A15 A16 : Type} (W : Nat → A1 → A2 → A3 → A4 → A5 → A6 → A7 → A8 → A9 → A10 → A11 → A12 → A13 → A14 → A15 → A16 → Prop) (I : A1 → A2 → A3 → A4 → A5 → A6 → A7 → A8 → A9 → A10 → A11 → A12 → A13 → A14 → A15 → A16 → Prop) (μ : A1 → A2 → A3 → A4 → A5 → A6 → A7 → A8 → A9 → A10 → A11 → A12 → A13 → A14 → A15 → A16 → Nat) (hs : ∀ (n : Nat) (a1 : A1) (a2 : A2) (a3 : A3) (a4 : A4) (a5 : A5) (a6 : A6) (a7 : A7) (a8 : A8) (a9 : A9) (a10 : A10) (a11 : A11) (a12 : A12) (a13 : A13) (a14 : A14) (a15 : A15) (a16 : A16), I a1 a2 a3 a4 a5 a6 a7 a8 a9 a10 a11 a12 a13 a14 a15 a16 → (∀ (b1 : A1) (b2 : A2) (b3 : A3) (b4 : A4) (b5 : A5) (b6 : A6) (b7 : A7) (b8 : A8) (b9 : A9) (b10 : A10) (b11 : A11) (b12 : A12) (b13 : A13) (b14 : A14) (b15 : A15) (b16 : A16), I b1 b2 b3 b4 b5 b6 b7 b8 b9 b10 b11 b12 b13 b14 b15 b16 → μ b1 b2 b3 b4 b5 b6 b7 b8 b9 b10 b11 b12 b13 b14 b15 b16 < μ a1 a2 a3 a4 a5 a6 a7 a8 a9 a10 a11 a12 a13 a14 a15 a16 → W n b1 b2 b3 b4 b5 b6 b7 b8 b9 b10 b11 b12 b13 b14 b15 b16) → W (n + 1) a1 a2 a3 a4 a5 a6 a7 a8 a9 a10 a11 a12 a13 a14 a15 a16) (a1 : A1) (a2 : A2) (a3 : A3) (a4 : A4) (a5 : A5) (a6 : A6) (a7 : A7) (a8 : A8) (a9 : A9) (a10 : A10) (a11 : A11) (a12 : A12) (a13 : A13) (a14 : A14) (a15 : A15) (a16 : A16) (h : I a1 a2 a3 a4 a5 a6 a7 a8 a9 a10 a11 a12 a13 a14 a15 a16) : ∃ n, W n a1 a2 a3 a4 a5 a6 a7 a8 a9 a10 a11 a12 a13 a14 a15 a16 :=
  loop_m (σ := A1 × A2 × A3 × A4 × A5 × A6 × A7 × A8 × A9 × A10 × A11 × A12 × A13 × A14 × A15 × A16) (fun n s => W n s.1 s.2.1 s.2.2.1 s.2.2.2.1 s.2.2.2.2.1 s.2.2.2.2.2.1 s.2.2.2.2.2.2.1 s.2.2.2.2.2.2.2.1 s.2.2.2.2.2.2.2.2.1 s.2.2.2.2.2.2.2.2.2.1 s.2.2.2.2.2.2.2.2.2.2.1 s.2.2.2.2.2.2.2.2.2.2.2.1 s.2.2.2.2.2.2.2.2.2.2.2.2.1 s.2.2.2.2.2.2.2.2.2.2.2.2.2.1 s.2.2.2.2.2.2.2.2.2.2.2.2.2.2.1 s.2.2.2.2.2.2.2.2.2.2.2.2.2.2.2) (fun s => I s.1 s.2.1 s.2.2.1 s.2.2.2.1 s.2.2.2.2.1 s.2.2.2.2.2.1 s.2.2.2.2.2.2.1 s.2.2.2.2.2.2.2.1 s.2.2.2.2.2.2.2.2.1 s.2.2.2.2.2.2.2.2.2.1 s.2.2.2.2.2.2.2.2.2.2.1 s.2.2.2.2.2.2.2.2.2.2.2.1 s.2.2.2.2.2.2.2.2.2.2.2.2.1 s.2.2.2.2.2.2.2.2.2.2.2.2.2.1 s.2.2.2.2.2.2.2.2.2.2.2.2.2.2.1 s.2.2.2.2.2.2.2.2.2.2.2.2.2.2.2) (fun s => μ s.1 s.2.1 s.2.2.1 s.2.2.2.1 s.2.2.2.2.1 s.2.2.2.2.2.1 s.2.2.2.2.2.2.1 s.2.2.2.2.2.2.2.1 s.2.2.2.2.2.2.2.2.1 s.2.2.2.2.2.2.2.2.2.1 s.2.2.2.2.2.2.2.2.2.2.1 s.2.2.2.2.2.2.2.2.2.2.2.1 s.2.2.2.2.2.2.2.2.2.2.2.2.1 s.2.2.2.2.2.2.2.2.2.2.2.2.2.1 s.2.2.2.2.2.2.2.2.2.2.2.2.2.2.1 s.2.2.2.2.2.2.2.2.2.2.2.2.2.2.2) (fun n s hI hk => hs n s.1 s.2.1 s.2.2.1 s.2.2.2.1 s.2.2.2.2.1 s.2.2.2.2.2.1 s.2.2.2.2.2.2.1 s.2.2.2.2.2.2.2.1 s.2.2.2.2.2.2.2.2.1 s.2.2.2.2.2.2.2.2.2.1 s.2.2.2.2.2.2.2.2.2.2.1 s.2.2.2.2.2.2.2.2.2.2.2.1 s.2.2.2.2.2.2.2.2.2.2.2.2.1 s.2.2.2.2.2.2.2.2.2.2.2.2.2.1 s.2.2.2.2.2.2.2.2.2.2.2.2.2.2.1 s.2.2.2.2.2.2.2.2.2.2.2.2.2.2.2 hI (fun b1 b2 b3 b4 b5 b6 b7 b8 b9 b10 b11 b12 b13 b14 b15 b16 h9 hm => hk (b1, b2, b3, b4, b5, b6, b7, b8, b9, b10, b11, b12, b13, b14, b15, b16) h9 hm)) (a1, a2, a3, a4, a5, a6, a7, a8, a9, a10, a11, a12, a13, a14, a15, a16) h
theorem pk_least (P : Nat → Prop) (h : ∃ k, P k) : ∃ k, P k ∧ ∀ j, j < k → ¬ P j := by
  obtain ⟨k, hk⟩ := h
  induction k using Nat.strongRecOn with
  | ind k ih =>
    by_cases e : ∃ j, j < k ∧ P j
    · obtain ⟨j, hj, pj⟩ := e
      exact ih j hj pj
    · exact ⟨k, hk, fun j hj pj => e ⟨j, hj, pj⟩⟩
theorem rp1 {ρ A1 : Type} (W : Nat → (ρ → Prop) → A1 → Prop) (ok : A1 → Prop) (μ : A1 → Nat) (val : A1 → ρ)
    (hs : ∀ (d : Nat) (post : ρ → Prop) (a1 : A1), ok a1 → post (val a1) → (∀ (post' : ρ → Prop) (b1 : A1), ok b1 → μ b1 < μ a1 → post' (val b1) → W d post' b1) → W (d + 1) post a1) :
    ∀ (d : Nat) (post : ρ → Prop) (a1 : A1), ok a1 → μ a1 < d → post (val a1) → W d post a1 := by
  intro d
  induction d with
  | zero => intro post a1 _ h; omega
  | succ d ih =>
    intro post a1 ho hm hp
    exact hs d post a1 ho hp (fun post' b1 ho' hm' hp' => ih post' b1 ho' (by omega) hp')
theorem rp2 {ρ A1 A2 : Type} (W : Nat → (ρ → Prop) → A1 → A2 → Prop) (ok : A1 → A2 → Prop) (μ : A1 → A2 → Nat) (val : A1 → A2 → ρ)
    (hs : ∀ (d : Nat) (post : ρ → Prop) (a1 : A1) (a2 : A2), ok a1 a2 → post (val a1 a2) → (∀ (post' : ρ → Prop) (b1 : A1) (b2 : A2), ok b1 b2 → μ b1 b2 < μ a1 a2 → post' (val b1 b2) → W d post' b1 b2) → W (d + 1) post a1 a2) :
    ∀ (d : Nat) (post : ρ → Prop) (a1 : A1) (a2 : A2), ok a1 a2 → μ a1 a2 < d → post (val a1 a2) → W d post a1 a2 := by
  intro d
  induction d with
  | zero => intro post a1 a2 _ h; omega
  | succ d ih =>
    intro post a1 a2 ho hm hp
    exact hs d post a1 a2 ho hp (fun post' b1 b2 ho' hm' hp' => ih post' b1 b2 ho' (by omega) hp')
theorem rp3 {ρ A1 A2 A3 : Type} (W : Nat → (ρ → Prop) → A1 → A2 → A3 → Prop) (ok : A1 → A2 → A3 → Prop) (μ : A1 → A2 → A3 → Nat) (val : A1 → A2 → A3 → ρ)
    (hs : ∀ (d : Nat) (post : ρ → Prop) (a1 : A1) (a2 : A2) (a3 : A3), ok a1 a2 a3 → post (val a1 a2 a3) → (∀ (post' : ρ → Prop) (b1 : A1) (b2 : A2) (b3 : A3), ok b1 b2 b3 → μ b1 b2 b3 < μ a1 a2 a3 → post' (val b1 b2 b3) → W d post' b1 b2 b3) → W (d + 1) post a1 a2 a3) :
    ∀ (d : Nat) (post : ρ → Prop) (a1 : A1) (a2 : A2) (a3 : A3), ok a1 a2 a3 → μ a1 a2 a3 < d → post (val a1 a2 a3) → W d post a1 a2 a3 := by
  intro d
  induction d with
  | zero => intro post a1 a2 a3 _ h; omega
  | succ d ih =>
    intro post a1 a2 a3 ho hm hp
    exact hs d post a1 a2 a3 ho hp (fun post' b1 b2 b3 ho' hm' hp' => ih post' b1 b2 b3 ho' (by omega) hp')
theorem rp4 {ρ A1 A2 A3 A4 : Type} (W : Nat → (ρ → Prop) → A1 → A2 → A3 → A4 → Prop) (ok : A1 → A2 → A3 → A4 → Prop) (μ : A1 → A2 → A3 → A4 → Nat) (val : A1 → A2 → A3 → A4 → ρ)
    (hs : ∀ (d : Nat) (post : ρ → Prop) (a1 : A1) (a2 : A2) (a3 : A3) (a4 : A4), ok a1 a2 a3 a4 → post (val a1 a2 a3 a4) → (∀ (post' : ρ → Prop) (b1 : A1) (b2 : A2) (b3 : A3) (b4 : A4), ok b1 b2 b3 b4 → μ b1 b2 b3 b4 < μ a1 a2 a3 a4 → post' (val b1 b2 b3 b4) → W d post' b1 b2 b3 b4) → W (d + 1) post a1 a2 a3 a4) :
    ∀ (d : Nat) (post : ρ → Prop) (a1 : A1) (a2 : A2) (a3 : A3) (a4 : A4), ok a1 a2 a3 a4 → μ a1 a2 a3 a4 < d → post (val a1 a2 a3 a4) → W d post a1 a2 a3 a4 := by
  intro d
  induction d with
  | zero => intro post a1 a2 a3 a4 _ h; omega
  | succ d ih =>
    intro post a1 a2 a3 a4 ho hm hp
    exact hs d post a1 a2 a3 a4 ho hp (fun post' b1 b2 b3 b4 ho' hm' hp' => ih post' b1 b2 b3 b4 ho' (by omega) hp')
theorem rp5 {ρ A1 A2 A3 A4 A5 : Type} (W : Nat → (ρ → Prop) → A1 → A2 → A3 → A4 → A5 → Prop) (ok : A1 → A2 → A3 → A4 → A5 → Prop) (μ : A1 → A2 → A3 → A4 → A5 → Nat) (val : A1 → A2 → A3 → A4 → A5 → ρ)
    (hs : ∀ (d : Nat) (post : ρ → Prop) (a1 : A1) (a2 : A2) (a3 : A3) (a4 : A4) (a5 : A5), ok a1 a2 a3 a4 a5 → post (val a1 a2 a3 a4 a5) → (∀ (post' : ρ → Prop) (b1 : A1) (b2 : A2) (b3 : A3) (b4 : A4) (b5 : A5), ok b1 b2 b3 b4 b5 → μ b1 b2 b3 b4 b5 < μ a1 a2 a3 a4 a5 → post' (val b1 b2 b3 b4 b5) → W d post' b1 b2 b3 b4 b5) → W (d + 1) post a1 a2 a3 a4 a5) :
    ∀ (d : Nat) (post : ρ → Prop) (a1 : A1) (a2 : A2) (a3 : A3) (a4 : A4) (a5 : A5), ok a1 a2 a3 a4 a5 → μ a1 a2 a3 a4 a5 < d → post (val a1 a2 a3 a4 a5) → W d post a1 a2 a3 a4 a5 := by
  intro d
  induction d with
  | zero => intro post a1 a2 a3 a4 a5 _ h; omega
  | succ d ih =>
    intro post a1 a2 a3 a4 a5 ho hm hp
    exact hs d post a1 a2 a3 a4 a5 ho hp (fun post' b1 b2 b3 b4 b5 ho' hm' hp' => ih post' b1 b2 b3 b4 b5 ho' (by omega) hp')
theorem rp6 {ρ A1 A2 A3 A4 A5 A6 : Type} (W : Nat → (ρ → Prop) → A1 → A2 → A3 → A4 → A5 → A6 → Prop) (ok : A1 → A2 → A3 → A4 → A5 → A6 → Prop) (μ : A1 → A2 → A3 → A4 → A5 → A6 → Nat) (val : A1 → A2 → A3 → A4 → A5 → A6 → ρ)
    (hs : ∀ (d : Nat) (post : ρ → Prop) (a1 : A1) (a2 : A2) (a3 : A3) (a4 : A4) (a5 : A5) (a6 : A6), ok a1 a2 a3 a4 a5 a6 → post (val a1 a2 a3 a4 a5 a6) → (∀ (post' : ρ → Prop) (b1 : A1) (b2 : A2) (b3 : A3) (b4 : A4) (b5 : A5) (b6 : A6), ok b1 b2 b3 b4 b5 b6 → μ b1 b2 b3 b4 b5 b6 < μ a1 a2 a3 a4 a5 a6 → post' (val b1 b2 b3 b4 b5 b6) → W d post' b1 b2 b3 b4 b5 b6) → W (d + 1) post a1 a2 a3 a4 a5 a6) :
    ∀ (d : Nat) (post : ρ → Prop) (a1 : A1) (a2 : A2) (a3 : A3) (a4 : A4) (a5 : A5) (a6 : A6), ok a1 a2 a3 a4 a5 a6 → μ a1 a2 a3 a4 a5 a6 < d → post (val a1 a2 a3 a4 a5 a6) → W d post a1 a2 a3 a4 a5 a6 := by
  intro d
  induction d with
  | zero => intro post a1 a2 a3 a4 a5 a6 _ h; omega
  | succ d ih =>
    intro post a1 a2 a3 a4 a5 a6 ho hm hp
    exact hs d post a1 a2 a3 a4 a5 a6 ho hp (fun post' b1 b2 b3 b4 b5 b6 ho' hm' hp' => ih post' b1 b2 b3 b4 b5 b6 ho' (by omega) hp')
theorem rec_p {σ ρ : Type} (W : Nat → (ρ → Prop) → σ → Prop) (ok : σ → Prop) (μ : σ → Nat) (val : σ → ρ)
    (hs : ∀ d s post, ok s → post (val s) → (∀ s' post', ok s' → μ s' < μ s → post' (val s') → W d post' s') → W (d + 1) post s) :
    ∀ d s post, ok s → μ s < d → post (val s) → W d post s := by
  intro d
  induction d with
  | zero => intro s post _ h; omega
  | succ d ih =>
    intro s post ho hm hp
    exact hs d s post ho hp (fun s' post' ho' hm' hp' => ih s' post' ho' (by omega) hp')
theorem rec_q {σ ρ : Type} (W : Nat → (ρ → Prop) → σ → Prop) (ok : σ → Prop) (μ : σ → Nat) (Q : σ → ρ → Prop)
    (hs : ∀ d s post, ok s → (∀ r, Q s r → post r) → (∀ s' post', ok s' → μ s' < μ s → (∀ r, Q s' r → post' r) → W d post' s') → W (d + 1) post s) :
    ∀ d s post, ok s → μ s < d → (∀ r, Q s r → post r) → W d post s := by
  intro d
  induction d with
  | zero => intro s post _ h; omega
  | succ d ih =>
    intro s post ho hm hp
    exact hs d s post ho hp (fun s' post' ho' hm' hp' => ih s' post' ho' (by omega) hp')
def bx_sum (f : Nat → Int32) : Nat → Int32
  | 0 => 0
  | n + 1 => bx_sum f n + f n
theorem ek_u {A : Prop} {B : Nat → Prop} {k N : Nat} (hk : k < N) (h : B k) : (some k = none → A) ∧ (∀ y : Nat, some k = some y → (y < N ∧ B y)) :=
  ⟨fun z => absurd z (Option.some_ne_none k), fun _ e => (by cases e; exact ⟨hk, h⟩)⟩
theorem ek_nu {A : Prop} {B : Nat → Prop} (h : A) : ((none : Option Nat) = none → A) ∧ (∀ y : Nat, (none : Option Nat) = some y → B y) :=
  ⟨fun _ => h, fun _ e => (by cases e)⟩
theorem ek_if {c d A B : Prop} (e : c ↔ d) (f : d → A) (g : ¬ d → B) : (c → A) ∧ (¬ c → B) :=
  ⟨fun z => f (e.mp z), fun z => g (fun y => z (e.mpr y))⟩
theorem ek_v {α : Sort _} {P : α → Prop} {a b : α} (e : a = b) (h : P b) : P a := e ▸ h
theorem co_some {x : Option Nat} {A : Prop} {B : Nat → Prop} (i : Nat) (h : B i) (hx : x = some i := by rfl) : (x = none → A) ∧ (∀ y : Nat, x = some y → B y) := by
  subst hx
  exact ⟨fun e => (nomatch e), fun y e => Option.some.inj e ▸ h⟩
theorem co_none {x : Option Nat} {A : Prop} {B : Nat → Prop} (h : A) (hx : x = none := by rfl) : (x = none → A) ∧ (∀ y : Nat, x = some y → B y) := by
  subst hx
  exact ⟨fun _ => h, fun y e => (nomatch e)⟩
theorem co_any {x : Option Nat} {A : Prop} {B : Nat → Prop} (hn : x = none → A) (hs : ∀ i : Nat, x = some i → B i) : (x = none → A) ∧ (∀ y : Nat, x = some y → B y) := ⟨hn, hs⟩
theorem co_2 {P : Nat → Prop} (h0 : P 0) (h1 : P 1) {i : Nat} (hi : i < 2) : P i :=
  match i, hi with
  | 0, _ => h0
  | 1, _ => h1
theorem co_3 {P : Nat → Prop} (h0 : P 0) (h1 : P 1) (h2 : P 2) {i : Nat} (hi : i < 3) : P i :=
  match i, hi with
  | 0, _ => h0
  | 1, _ => h1
  | 2, _ => h2
theorem co_4 {P : Nat → Prop} (h0 : P 0) (h1 : P 1) (h2 : P 2) (h3 : P 3) {i : Nat} (hi : i < 4) : P i :=
  match i, hi with
  | 0, _ => h0
  | 1, _ => h1
  | 2, _ => h2
  | 3, _ => h3
theorem co_dec {N : Nat} {P : Nat → Prop} [DecidablePred P] (h : (List.range N).all (fun i => decide (P i)) = true) {i : Nat} (hi : i < N) : P i := by
  have := List.all_eq_true.mp h i (List.mem_range.mpr hi)
  exact of_decide_eq_true this
theorem co_tab {α : Type} {l : List α} {d : α} {P : α → Prop} (h : ∀ a, a ∈ l → P a) {i : Nat} (hi : i < l.length) : P (l.getD i d) := by
  rw [List.getD_eq_getElem?_getD, List.getElem?_eq_getElem hi]
  exact h _ (List.getElem_mem hi)
theorem pk_mu {x : Int32} {L : Nat} (h0 : ¬ x < 0) (h : ¬ nI L ≤ x) (hL : L < 2 ^ 31) : ∃ j : Nat, j < L ∧ x = nI j ∧ x + 1 = nI (j + 1) ∧ x.toNatClampNeg = j ∧ L - (x + 1).toNatClampNeg < L - x.toNatClampNeg := by
  obtain ⟨j, hj, rfl⟩ := nI_of h0
  have hl : j < L := Nat.not_le.mp fun q => h (nI_le q hj)
  refine ⟨j, hl, rfl, nI_1 j, nI_clamp hj, ?_⟩
  rw [nI_1, nI_clamp (by omega), nI_clamp hj]
  omega
theorem op_s {α : Type} {r : Option α} {A : Prop} {B : α → Prop} {y : α} (h : r = some y) (b : B y) : (r = none → A) ∧ ∀ z, r = some z → B z :=
  ⟨fun e => (by rw [h] at e; cases e), fun z e => (by rw [h] at e; cases e; exact b)⟩
def l_holds {α : Type} (a : Nat → Option Nat) (LP : List Nat) (p : Nat → α) (c : Nat) (b : Nat → α) : Prop :=
  ∀ j, j < c → ∃ y, a j = some y ∧ y ∈ LP ∧ p y = b j
theorem l_holds_0 {α : Type} {a : Nat → Option Nat} {LP : List Nat} {p b : Nat → α} : l_holds a LP p 0 b := fun j h => absurd h (Nat.not_lt_zero j)
theorem l_in_new (LP : List Nat) (q : Nat) : q ∈ LP ++ [q] := List.mem_append.mpr (Or.inr (List.mem_singleton.mpr rfl))
def l_sum (b : Nat → Int32) : Nat → Int32
  | 0 => 0
  | k + 1 => l_sum b k + b k
theorem sb_shr0 (x : Int32) : x >>> ((0 : Int32) &&& 31) = x := by
  rw [show ((0 : Int32) &&& 31) = 0 by decide]
  simp
theorem sb_shl0 (x : Int32) : x <<< ((0 : Int32) &&& 31) = x := by
  rw [show ((0 : Int32) &&& 31) = 0 by decide]
  simp
theorem sb_cl0 : (0 : Int32).toNatClampNeg = 0 := by decide
theorem sb_m1 {p : Nat} (h : 0 < p) : nI p + (-1) = nI (p - 1) := by
  obtain ⟨q, rfl⟩ : ∃ q, p = q + 1 := ⟨p - 1, by omega⟩
  exact pk_m1 q
def sb_b (c : Nat) : Int32 := (nI c).toInt8.toInt32
theorem sb_byte : ∀ c, c < 256 → sb_b c &&& 255 = nI c ∧ ((nI c).toUInt32 % 65536).toInt32 = nI c ∧ nI c ≤ 255 := by decide +kernel
def sb_Fit (a : Nat → Int32) : Prop := ∀ j, fits .byte (.int (a j)) = true
def sb_Lat (t : Nat → Nat) (n : Nat) (a : Nat → Int32) : Prop := ∀ j, j < n → t j < 256 ∧ a j = sb_b (t j)
theorem sb_fitB (c : Nat) : fits .byte (.int (sb_b c)) = true := pk_fb _
theorem sb_fit0 : sb_Fit (fun _ => 0) := fun _ => by
  show fits .byte (.int 0) = true
  decide
theorem sb_fitU {a : Nat → Int32} {k : Nat} {x : Int32} (h : sb_Fit a) (hx : fits .byte (.int x) = true) : sb_Fit (upd a k x) := by
  intro j
  by_cases e : j = k
  · subst e
    rw [pk_us]
    exact hx
  · rw [pk_un e]
    exact h j
def sb_cat (t : Nat → Nat) (n : Nat) (s : Nat → Nat) : Nat → Nat := fun j => if j < n then t j else s (j - n)
theorem sb_cat_lo {t s : Nat → Nat} {n j : Nat} (h : j < n) : sb_cat t n s j = t j := if_pos h
theorem sb_cat_hi {t s : Nat → Nat} {n j : Nat} : sb_cat t n s (n + j) = s j := by
  show (if n + j < n then t (n + j) else s (n + j - n)) = s j
  rw [if_neg (by omega), Nat.add_sub_cancel_left]
theorem sb_latPut {t s : Nat → Nat} {n w : Nat} {a a' : Nat → Int32} (h : sb_Lat t n a) (hk : ∀ j, j < n → a' j = a j) (hs : ∀ i, i < w → s i < 256 ∧ a' (n + i) = sb_b (s i)) : sb_Lat (sb_cat t n s) (n + w) a' := by
  intro j hj
  by_cases e : j < n
  · rw [sb_cat_lo e, hk j e]
    exact h j e
  · obtain ⟨i, rfl⟩ : ∃ i, j = n + i := ⟨j - n, by omega⟩
    rw [sb_cat_hi]
    exact hs i (by omega)
theorem sb_latKeep {t : Nat → Nat} {n : Nat} {a a' : Nat → Int32} (h : sb_Lat t n a) (hk : ∀ j, j < n → a' j = a j) : sb_Lat t n a' := fun j hj => by
  rw [hk j hj]
  exact h j hj
def sb_cap (q m : Nat) : Nat := if q ≤ m then m else if 2 * m + 2 < q then q else 2 * m + 2
def sb_Room (q m mc ms : Nat) : Prop := q ≤ m ∨ (1 ≤ mc ∧ sb_cap q m ≤ ms ∧ sb_cap q m ≤ 65536)
theorem sb_cap_ge (q m : Nat) : q ≤ sb_cap q m := by
  unfold sb_cap
  split
  · omega
  · split <;> omega
theorem sb_cap_gem (q m : Nat) : m ≤ sb_cap q m := by
  unfold sb_cap
  split
  · omega
  · split <;> omega
theorem sb_cap_le {q m mc ms : Nat} (hm : m ≤ 65536) (hr : sb_Room q m mc ms) : sb_cap q m ≤ 65536 := by
  rcases hr with h | h
  · rw [sb_cap, if_pos h]
    exact hm
  · exact h.2.2
theorem sb_at {P : Int32 → Prop} {x y : Int32} (e : x = y) (h : P y) : P x := e ▸ h
def sb_dg (w : Nat) : Nat := if w < 10 then 1 else if w < 100 then 2 else if w < 1000 then 3 else if w < 10000 then 4 else if w < 100000 then 5 else if w < 1000000 then 6 else if w < 10000000 then 7 else if w < 100000000 then 8 else if w < 1000000000 then 9 else 10
def sb_dec (v : Nat) : Nat → Nat := fun i => 48 + v / 10 ^ (sb_dg v - 1 - i) % 10
theorem sb_dg_in (w : Nat) : 1 ≤ sb_dg w ∧ sb_dg w ≤ 10 := by
  unfold sb_dg
  constructor <;> (repeat' split) <;> omega
theorem sb_dg100 {w : Nat} (h : 100 ≤ w) (hw : w < 2 ^ 31) : sb_dg w = sb_dg (w / 100) + 2 := by
  rw [sb_dg, sb_dg, if_neg (show ¬ w < 10 by omega), if_neg (show ¬ w < 100 by omega)]
  by_cases h3 : w < 1000
  · rw [if_pos h3, if_pos (show w / 100 < 10 by omega)]
  rw [if_neg h3, if_neg (show ¬ w / 100 < 10 by omega)]
  by_cases h4 : w < 10000
  · rw [if_pos h4, if_pos (show w / 100 < 100 by omega)]
  rw [if_neg h4, if_neg (show ¬ w / 100 < 100 by omega)]
  by_cases h5 : w < 100000
  · rw [if_pos h5, if_pos (show w / 100 < 1000 by omega)]
  rw [if_neg h5, if_neg (show ¬ w / 100 < 1000 by omega)]
  by_cases h6 : w < 1000000
  · rw [if_pos h6, if_pos (show w / 100 < 10000 by omega)]
  rw [if_neg h6, if_neg (show ¬ w / 100 < 10000 by omega)]
  by_cases h7 : w < 10000000
  · rw [if_pos h7, if_pos (show w / 100 < 100000 by omega)]
  rw [if_neg h7, if_neg (show ¬ w / 100 < 100000 by omega)]
  by_cases h8 : w < 100000000
  · rw [if_pos h8, if_pos (show w / 100 < 1000000 by omega)]
  rw [if_neg h8, if_neg (show ¬ w / 100 < 1000000 by omega)]
  by_cases h9 : w < 1000000000
  · rw [if_pos h9, if_pos (show w / 100 < 10000000 by omega)]
  rw [if_neg h9, if_neg (show ¬ w / 100 < 10000000 by omega)]
  rw [if_pos (show w / 100 < 100000000 by omega)]
theorem sb_negT {w : Nat} (h : w < 2 ^ 31) : (-nI w).toInt = -(w : Int) := by
  rw [Int32.toInt_neg, nI_toInt h]
  exact Int.bmod_eq_of_le (by omega) (by omega)
theorem sb_nle {a b : Nat} (ha : a < 2 ^ 31) (hb : b < 2 ^ 31) : -nI a ≤ -nI b ↔ b ≤ a := by
  rw [Int32.le_iff_toInt_le, sb_negT ha, sb_negT hb]
  omega
theorem sb_nlt {a b : Nat} (ha : a < 2 ^ 31) (hb : b < 2 ^ 31) : -nI a < -nI b ↔ b < a := by
  rw [Int32.lt_iff_toInt_lt, sb_negT ha, sb_negT hb]
  omega
theorem sb_cmp {A B : Prop} {x : Int32} (v c : Nat) (f : c ≤ v → A) (g : v < c → B) (hv : v < 2 ^ 31) (hx : x = -nI c := by rfl) (hc : c < 2 ^ 31 := by omega) : (-nI v ≤ x → A) ∧ (¬ -nI v ≤ x → B) := by
  subst hx
  rw [sb_nle hv hc]
  exact ⟨f, fun z => g (by omega)⟩
theorem sb_ndiv {w : Nat} (hw : w < 2 ^ 31) : (-nI w) / 100 = -nI (w / 100) := by
  apply Int32.toInt_inj.mp
  have h100 : (100 : Int32).toInt = 100 := by decide
  rw [Int32.toInt_div, sb_negT hw, h100, sb_negT (by omega), Int.neg_tdiv, Int.tdiv_eq_ediv_of_nonneg (by omega), Int.bmod_eq_of_le (by omega) (by omega)]
  omega
theorem sb_nrem {w : Nat} (hw : w < 2 ^ 31) : (-nI (w / 100)) * 100 - (-nI w) = nI (w % 100) := by
  have h := pk_rem (a := w) (d := 100) hw (by decide) (by decide)
  rw [pk_div hw (by decide) (by decide)] at h
  rw [← h]
  show (-nI (w / 100)) * nI 100 - (-nI w) = nI w - nI (w / 100) * nI 100
  rw [Int32.neg_mul, Int32.sub_neg, Int32.add_comm, ← Int32.sub_eq_add_neg]
end
section
/-! rows on bits, shifts and unsigned numbers, to paste: each family out of a closed proof of our own, whole with what it rests on; each by itself clean at Lean in its own claim (generation 39, form 5). Take a family whole -/
/-! ===== Int32 by its bits: bt x i ===== -/
def bt (x : Int32) (i : Nat) : Bool := x.toBitVec.getLsbD i
theorem b_ext {x y : Int32} (h : ∀ i, i < 32 → bt x i = bt y i) : x = y := Int32.toBitVec_inj.mp (BitVec.eq_of_getLsbD_eq (fun i hi => h i hi))
theorem b_or (x y : Int32) (i : Nat) : bt (x ||| y) i = (bt x i || bt y i) := by unfold bt; rw [Int32.toBitVec_or, BitVec.getLsbD_or]
theorem b_and (x y : Int32) (i : Nat) : bt (x &&& y) i = (bt x i && bt y i) := by unfold bt; rw [Int32.toBitVec_and, BitVec.getLsbD_and]
theorem b_xor (x y : Int32) (i : Nat) : bt (x ^^^ y) i = (bt x i ^^ bt y i) := by unfold bt; rw [Int32.toBitVec_xor, BitVec.getLsbD_xor]
theorem b_big {x : Int32} {i : Nat} (h : 32 ≤ i) : bt x i = false := BitVec.getLsbD_of_ge _ _ h
theorem b_255 (i : Nat) : bt 255 i = decide (i < 8) := by
  rcases Nat.lt_or_ge i 32 with h | h
  · exact (by decide +kernel : ∀ i, i < 32 → bt 255 i = decide (i < 8)) i h
  · rw [b_big h, decide_eq_false (by omega)]
theorem b_65535 (i : Nat) : bt 65535 i = decide (i < 16) := by
  rcases Nat.lt_or_ge i 32 with h | h
  · exact (by decide +kernel : ∀ i, i < 32 → bt 65535 i = decide (i < 16)) i h
  · rw [b_big h, decide_eq_false (by omega)]
theorem b_m1 : ∀ i, i < 32 → bt (-1) i = true := by decide +kernel
theorem b_0 (i : Nat) : bt 0 i = false := BitVec.getLsbD_zero
theorem s_l : ∀ n, n < 32 → ((nI n &&& 31).toBitVec.smod 32).toNat = n := by decide +kernel
theorem s_u : ∀ n, n < 32 → (((nI n).toUInt32 &&& Int32.toUInt32 31).toBitVec % 32).toNat = n := by decide +kernel
theorem b_shl (n : Nat) (hn : n < 32) (x : Int32) {i : Nat} (hi : i < 32) : bt (x <<< (nI n &&& 31)) i = (decide (n ≤ i) && bt x (i - n)) := by
  unfold bt
  rw [Int32.toBitVec_shiftLeft]
  show (x.toBitVec <<< ((nI n &&& 31).toBitVec.smod 32).toNat).getLsbD i = _
  rw [s_l n hn, BitVec.getLsbD_shiftLeft]
  rcases Nat.lt_or_ge i n with h | h
  · simp [h, Nat.not_le.mpr h]
  · simp [hi, h, Nat.not_lt.mpr h]
theorem b_ushr (n : Nat) (hn : n < 32) (x : Int32) (i : Nat) : bt ((x.toUInt32 >>> ((nI n).toUInt32 &&& Int32.toUInt32 31)).toInt32) i = bt x (n + i) := by
  show (x.toUInt32 >>> ((nI n).toUInt32 &&& Int32.toUInt32 31)).toBitVec.getLsbD i = x.toUInt32.toBitVec.getLsbD (n + i)
  rw [UInt32.toBitVec_shiftRight]
  show (x.toUInt32.toBitVec >>> (((nI n).toUInt32 &&& Int32.toUInt32 31).toBitVec % 32).toNat).getLsbD i = _
  rw [s_u n hn, BitVec.getLsbD_ushiftRight]
theorem b_sshr (n : Nat) (hn : n < 32) (x : Int32) {i : Nat} (hi : i < 32) : bt (x >>> (nI n &&& 31)) i = if n + i < 32 then bt x (n + i) else bt x 31 := by
  unfold bt
  rw [Int32.toBitVec_shiftRight]
  show (x.toBitVec.sshiftRight ((nI n &&& 31).toBitVec.smod 32).toNat).getLsbD i = _
  rw [s_l n hn, BitVec.getLsbD_sshiftRight, BitVec.msb_eq_getLsbD_last]
  simp [hi]
theorem b_shl8 (x : Int32) {i : Nat} (hi : i < 32) : bt (x <<< ((8 : Int32) &&& 31)) i = (decide (8 ≤ i) && bt x (i - 8)) := b_shl 8 (by omega) x hi
theorem b_shl16 (x : Int32) {i : Nat} (hi : i < 32) : bt (x <<< ((16 : Int32) &&& 31)) i = (decide (16 ≤ i) && bt x (i - 16)) := b_shl 16 (by omega) x hi
theorem b_shl24 (x : Int32) {i : Nat} (hi : i < 32) : bt (x <<< ((24 : Int32) &&& 31)) i = (decide (24 ≤ i) && bt x (i - 24)) := b_shl 24 (by omega) x hi
theorem b_sshr8 (x : Int32) {i : Nat} (hi : i < 32) : bt (x >>> ((8 : Int32) &&& 31)) i = if 8 + i < 32 then bt x (8 + i) else bt x 31 := b_sshr 8 (by omega) x hi
/-! ===== nI under and, xor, >>>, one bit, 65535 ===== -/
theorem nx_and (a b : Nat) : nI a &&& nI b = nI (a &&& b) := by
  apply Int32.toBitVec_inj.1
  show BitVec.ofNat 32 a &&& BitVec.ofNat 32 b = BitVec.ofNat 32 (a &&& b)
  apply BitVec.eq_of_getLsbD_eq
  intro i hi
  simp [hi]
theorem nx_xor (a b : Nat) : nI a ^^^ nI b = nI (a ^^^ b) := by
  apply Int32.toBitVec_inj.1
  show BitVec.ofNat 32 a ^^^ BitVec.ofNat 32 b = BitVec.ofNat 32 (a ^^^ b)
  apply BitVec.eq_of_getLsbD_eq
  intro i hi
  simp [hi]
theorem nx_cnt : ∀ j : Fin 32, (UInt32.ofNat j.val &&& Int32.toUInt32 31).toNat % 32 = j.val := by decide +kernel
theorem nx_ush {k j : Nat} (hk : k < 65536) (hj : j < 32) : ((nI k).toUInt32 >>> ((nI j).toUInt32 &&& Int32.toUInt32 31)).toInt32 = nI (k >>> j) := by
  have hs : k >>> j ≤ k := by
    rw [Nat.shiftRight_eq_div_pow]
    exact Nat.div_le_self _ _
  have e2 : UInt32.ofNat k >>> (UInt32.ofNat j &&& Int32.toUInt32 31) = UInt32.ofNat (k >>> j) := by
    apply UInt32.toNat_inj.1
    have h1 : (UInt32.ofNat k).toNat = k := Nat.mod_eq_of_lt (by omega)
    have h2 : (UInt32.ofNat (k >>> j)).toNat = k >>> j := Nat.mod_eq_of_lt (by omega)
    rw [UInt32.toNat_shiftRight, nx_cnt ⟨j, hj⟩, h1, h2]
  show (UInt32.ofNat k >>> (UInt32.ofNat j &&& Int32.toUInt32 31)).toInt32 = _
  rw [e2]
  rfl
theorem nx_bit {k j : Nat} (hk : k < 65536) (hj : j < 16) : (((nI k).toUInt32 >>> ((nI j).toUInt32 &&& Int32.toUInt32 31)).toInt32 &&& 1) = 0 ↔ k.testBit j = false := by
  rw [nx_ush hk (by omega)]
  show nI (k >>> j) &&& nI 1 = 0 ↔ _
  rw [nx_and, Nat.and_one_is_mod, ← nI_0, nI_eq (by omega) (by omega), Nat.testBit_eq_decide_div_mod_eq, Nat.shiftRight_eq_div_pow, decide_eq_false_iff_not]
  generalize k / 2 ^ j = z
  omega
theorem nx_mod (k : Nat) : nI k &&& 65535 = nI (k % 65536) := by
  show nI k &&& nI 65535 = _
  rw [nx_and, show (65535 : Nat) = 2 ^ 16 - 1 from rfl, Nat.and_two_pow_sub_one_eq_mod]
theorem nx_m16 {k : Nat} (h : k < 65536) : nI k &&& 65535 = nI k := by rw [nx_mod, Nat.mod_eq_of_lt h]
theorem nx_mask (x : Int32) : ∃ k, k < 65536 ∧ x &&& 65535 = nI k := by
  have e : x = nI x.toBitVec.toNat := by
    apply Int32.toBitVec_inj.1
    show x.toBitVec = BitVec.ofNat 32 x.toBitVec.toNat
    simp
  refine ⟨x.toBitVec.toNat % 65536, Nat.mod_lt _ (by omega), ?_⟩
  rw [← nx_mod, ← e]
/-! ===== Int32 as a set of bits: test, set ===== -/
def nf_M (m : Int32) : Nat := 4294967296 - m.toBitVec.toNat
theorem nf_sh : ∀ l, l < 32 → ((1 : Int32) <<< (nI l &&& 31)).toBitVec = BitVec.twoPow 32 l := by decide +kernel
theorem nf_sl : ∀ l, l < 32 → (((nI l).toUInt32 &&& Int32.toUInt32 31).toBitVec % 32).toNat = l := by decide +kernel
theorem nf_tp : ∀ l, l < 32 → BitVec.twoPow 32 l ≠ 0#32 := by decide +kernel
theorem nf_bit (m : Int32) (l : Nat) (hl : l < 32) : ((m.toUInt32 >>> ((nI l).toUInt32 &&& Int32.toUInt32 31)).toInt32 &&& 1) = 0 ↔ (m &&& ((1 : Int32) <<< (nI l &&& 31))) = 0 := by
  have e : ((m.toUInt32 >>> ((nI l).toUInt32 &&& Int32.toUInt32 31)).toInt32).toBitVec = m.toBitVec >>> l := by
    show m.toBitVec >>> (((nI l).toUInt32 &&& Int32.toUInt32 31).toBitVec % 32) = m.toBitVec >>> l
    rw [BitVec.ushiftRight_eq', nf_sl l hl]
  rw [← Int32.toBitVec_inj, ← Int32.toBitVec_inj, Int32.toBitVec_and, Int32.toBitVec_and, nf_sh l hl, e, BitVec.and_twoPow]
  show (m.toBitVec >>> l &&& 1#32) = 0#32 ↔ _ = 0#32
  rw [BitVec.and_one_eq_setWidth_ofBool_getLsbD, BitVec.getLsbD_ushiftRight, Nat.add_zero]
  cases hb : m.toBitVec.getLsbD l
  · exact ⟨fun _ => by simp, fun _ => by decide⟩
  · exact ⟨fun z => absurd z (by decide), fun z => absurd ((if_pos rfl).symm.trans z) (nf_tp l hl)⟩
theorem nf_gr (m k : Int32) (h : m &&& k = 0) (hk : k ≠ 0) : nf_M (m ||| k) < nf_M m := by
  have hm := m.toBitVec.isLt
  have hm' := (m ||| k).toBitVec.isLt
  have h1 : m.toBitVec.toNat ≤ (m ||| k).toBitVec.toNat := by
    rw [Int32.toBitVec_or, BitVec.toNat_or]
    exact Nat.left_le_or
  have h2 : m.toBitVec.toNat ≠ (m ||| k).toBitVec.toNat := by
    intro e
    have e2 : m = m ||| k := Int32.toBitVec_inj.mp (BitVec.eq_of_toNat_eq e)
    apply hk
    apply Int32.toBitVec_inj.mp
    show k.toBitVec = 0#32
    apply BitVec.eq_of_getLsbD_eq
    intro i hi
    have a : m.toBitVec.getLsbD i = (m.toBitVec.getLsbD i || k.toBitVec.getLsbD i) := by rw [← BitVec.getLsbD_or, ← Int32.toBitVec_or, ← e2]
    have b : (m.toBitVec.getLsbD i && k.toBitVec.getLsbD i) = false := by
      rw [← BitVec.getLsbD_and, ← Int32.toBitVec_and, h]
      exact BitVec.getLsbD_zero
    rw [BitVec.getLsbD_zero]
    revert a b
    cases m.toBitVec.getLsbD i <;> cases k.toBitVec.getLsbD i <;> simp
  unfold nf_M
  omega
/-! ===== a byte read unsigned ===== -/
theorem bp_b (x : Int32) : x.toInt8.toInt32 &&& 255 = x &&& 255 := by
  apply Int32.toBitVec_inj.mp
  rw [Int32.toBitVec_and, Int32.toBitVec_and, Int8.toBitVec_toInt32, Int32.toBitVec_toInt8]
  apply BitVec.eq_of_getLsbD_eq
  intro i hi
  rw [BitVec.getLsbD_and, BitVec.getLsbD_and]
  have hm : ∀ i < 32, 8 ≤ i → (255 : Int32).toBitVec.getLsbD i = false := by decide
  rcases Nat.lt_or_ge i 8 with z | z
  · rw [BitVec.getLsbD_signExtend, BitVec.getLsbD_signExtend, if_pos z, if_pos hi]
    simp only [z, hi, decide_true, Bool.true_and]
  · rw [hm i hi z]; simp
/-! ===== the char cast and 65535 ===== -/
theorem em_w (v : Int32) : ∃ w : Nat, w < 65536 ∧ (v.toUInt32 % 65536).toInt32 = nI w ∧ v &&& 65535 = nI w := by
  have hr := lw_u16_r v
  have h0 : (0 : Int32).toInt = 0 := by decide
  obtain ⟨w, h1, h2⟩ := nI_of (x := lw_u16 v) (by rw [Int32.lt_iff_toInt_lt]; omega)
  have h3 : (v.toUInt32 % 65536).toInt32 = nI w := h2
  rw [h2, nI_toInt h1] at hr
  exact ⟨w, by omega, h3, by rw [← lg_i2c_mask, ← lg_i2c_nf, h3]⟩
/-! ===== Int64 as a set of bits: test, set, clear ===== -/
theorem ts_nf {x : Bool} (h : ¬ x = false) : x = true := by cases x <;> first | rfl | exact absurd rfl h
theorem ts_nt {x : Bool} (h : ¬ x = true) : x = false := by cases x <;> first | rfl | exact absurd rfl h
theorem ts_bit {w : Int64} {s : UInt64} {j : Nat} (hj : j < 64) (hs : s.toNat = j) : ((w.toUInt64 >>> s).toInt64 &&& 1) = 0 ↔ w.toBitVec.getLsbD j = false := by
  have e : (w.toUInt64 >>> s).toInt64.toBitVec = w.toBitVec >>> j := by
    apply BitVec.eq_of_toNat_eq
    show (w.toUInt64 >>> s).toNat = _
    rw [UInt64.toNat_shiftRight, hs, Nat.mod_eq_of_lt hj, BitVec.toNat_ushiftRight]
    rfl
  rw [← Int64.toBitVec_inj, Int64.toBitVec_and, e]
  show w.toBitVec >>> j &&& 1#64 = 0#64 ↔ _
  constructor
  · intro h
    have t := congrArg (fun x => x.getLsbD 0) h
    simpa using t
  · intro h
    apply BitVec.eq_of_getLsbD_eq
    intro i hi
    cases i with
    | zero => simp [h]
    | succ i => simp
theorem ts_or {w m : Int64} {j : Nat} (hj : j < 64) (hm : m.toBitVec = BitVec.twoPow 64 j) : (w ||| m) = w ↔ w.toBitVec.getLsbD j = true := by
  rw [← Int64.toBitVec_inj, Int64.toBitVec_or, hm]
  constructor
  · intro h
    have t := congrArg (fun x => x.getLsbD j) h
    simp only [BitVec.getLsbD_or, BitVec.getLsbD_twoPow] at t
    simpa [hj] using t.symm
  · intro h
    apply BitVec.eq_of_getLsbD_eq
    intro i hi
    rw [BitVec.getLsbD_or, BitVec.getLsbD_twoPow]
    by_cases e : j = i
    · subst e; rw [h, Bool.true_or]
    · simp [e]
theorem ts_and {w m : Int64} {j : Nat} (hj : j < 64) (hm : m.toBitVec = BitVec.twoPow 64 j) : (w &&& (m ^^^ (-1))) = w ↔ w.toBitVec.getLsbD j = false := by
  have ha : (-1 : Int64).toBitVec = BitVec.allOnes 64 := by decide
  rw [← Int64.toBitVec_inj, Int64.toBitVec_and, Int64.toBitVec_xor, hm, ha]
  constructor
  · intro h
    have t := congrArg (fun x => x.getLsbD j) h
    simp only [BitVec.getLsbD_and, BitVec.getLsbD_xor, BitVec.getLsbD_twoPow, BitVec.getLsbD_allOnes] at t
    simpa [hj] using t.symm
  · intro h
    apply BitVec.eq_of_getLsbD_eq
    intro i hi
    rw [BitVec.getLsbD_and, BitVec.getLsbD_xor, BitVec.getLsbD_twoPow, BitVec.getLsbD_allOnes]
    by_cases e : j = i
    · subst e; rw [h, Bool.false_and]
    · simp [e, hi]
/-! ===== lN n to 2^64: shifts, and, or, masks, one bit ===== -/
theorem wb_tb (n : Nat) : (lN n).toBitVec = BitVec.ofNat 64 n := rfl
theorem wb_inj {a b : Int64} (h : a.toBitVec = b.toBitVec) : a = b := Int64.toBitVec_inj.mp h
theorem wb_tn {n : Nat} (h : n < 2 ^ 64) : (lN n).toBitVec.toNat = n := by rw [wb_tb, BitVec.toNat_ofNat, Nat.mod_eq_of_lt h]
theorem wb_of (x : Int64) : ∃ n, n < 2 ^ 64 ∧ x = lN n := ⟨x.toBitVec.toNat, x.toBitVec.isLt, wb_inj (by rw [wb_tb]; simp)⟩
theorem wb_of32 (x : Int32) : ∃ n, n < 2 ^ 32 ∧ x = nI n := ⟨x.toBitVec.toNat, x.toBitVec.isLt, Int32.toBitVec_inj.mp (by show _ = BitVec.ofNat 32 _; simp)⟩
theorem wb_c : ∀ k, k < 64 → ((nI k).toInt64 &&& 63) = lN k := by decide +kernel
theorem wb_cu : ∀ k, k < 64 → ((nI k).toInt64.toUInt64 &&& Int64.toUInt64 63) = UInt64.ofNat k := by decide +kernel
theorem wb_sm : ∀ k, k < 64 → (BitVec.ofNat 64 k).smod 64 = BitVec.ofNat 64 k := by decide +kernel
theorem wb_pw {a b : Nat} (h : a ≤ b) : 2 ^ b = 2 ^ a * 2 ^ (b - a) := by rw [← Nat.pow_add]; congr 1; omega
theorem wb_lt2 {a b : Nat} (h : a < b) : 2 ^ a < 2 ^ b := Nat.pow_lt_pow_right (by decide) h
theorem wb_mod (n : Nat) : lN n = lN (n % 2 ^ 64) := wb_inj (by rw [wb_tb, wb_tb]; apply BitVec.eq_of_toNat_eq; rw [BitVec.toNat_ofNat, BitVec.toNat_ofNat, Nat.mod_mod])
theorem wb_shr {n k : Nat} (hn : n < 2 ^ 64) (hk : k < 64) : ((lN n).toUInt64 >>> ((nI k).toInt64.toUInt64 &&& Int64.toUInt64 63)).toInt64 = lN (n / 2 ^ k) := by
  rw [wb_cu k hk]
  apply wb_inj
  apply BitVec.eq_of_toNat_eq
  show ((lN n).toUInt64 >>> UInt64.ofNat k).toNat = (BitVec.ofNat 64 _).toNat
  have h1 : (UInt64.ofNat k).toNat = k := by
    show (BitVec.ofNat 64 k).toNat = k
    rw [BitVec.toNat_ofNat, Nat.mod_eq_of_lt (by omega)]
  have h2 : (lN n).toUInt64.toNat = n := wb_tn hn
  rw [UInt64.toNat_shiftRight, h1, h2, Nat.mod_eq_of_lt hk, Nat.shiftRight_eq_div_pow, BitVec.toNat_ofNat, Nat.mod_eq_of_lt (Nat.lt_of_le_of_lt (Nat.div_le_self _ _) hn)]
theorem wb_shl (n : Nat) {k : Nat} (hk : k < 64) : lN n <<< ((nI k).toInt64 &&& 63) = lN (n * 2 ^ k) := by
  rw [wb_c k hk]
  apply wb_inj
  rw [Int64.toBitVec_shiftLeft, wb_tb, wb_tb, wb_tb, wb_sm k hk]
  apply BitVec.eq_of_toNat_eq
  rw [BitVec.shiftLeft_eq', BitVec.toNat_shiftLeft, BitVec.toNat_ofNat, BitVec.toNat_ofNat, BitVec.toNat_ofNat, Nat.mod_eq_of_lt (show k < 2 ^ 64 by omega), Nat.shiftLeft_eq, Nat.mul_mod, Nat.mod_mod, ← Nat.mul_mod]
theorem wb_and {a b : Nat} (ha : a < 2 ^ 64) (hb : b < 2 ^ 64) : lN a &&& lN b = lN (a &&& b) := by
  apply wb_inj
  rw [Int64.toBitVec_and, wb_tb, wb_tb, wb_tb]
  apply BitVec.eq_of_toNat_eq
  rw [BitVec.toNat_and, BitVec.toNat_ofNat, BitVec.toNat_ofNat, BitVec.toNat_ofNat, Nat.mod_eq_of_lt ha, Nat.mod_eq_of_lt hb, Nat.mod_eq_of_lt (Nat.and_lt_two_pow _ hb)]
theorem wb_or {a b : Nat} (ha : a < 2 ^ 64) (hb : b < 2 ^ 64) : lN a ||| lN b = lN (a ||| b) := by
  apply wb_inj
  rw [Int64.toBitVec_or, wb_tb, wb_tb, wb_tb]
  apply BitVec.eq_of_toNat_eq
  rw [BitVec.toNat_or, BitVec.toNat_ofNat, BitVec.toNat_ofNat, BitVec.toNat_ofNat, Nat.mod_eq_of_lt ha, Nat.mod_eq_of_lt hb, Nat.mod_eq_of_lt (Nat.or_lt_two_pow ha hb)]
theorem wb_mask {n k : Nat} (hn : n < 2 ^ 64) (hk : k < 64) : lN n &&& lN (2 ^ k - 1) = lN (n % 2 ^ k) := by
  rw [wb_and hn (by have := wb_lt2 hk; omega), Nat.and_two_pow_sub_one_eq_mod]
theorem wb_a1 {n : Nat} (hn : n < 2 ^ 64) : lN n &&& 1 = lN (n % 2) := wb_mask (k := 1) hn (by decide)
theorem wb_bit {n k : Nat} (hn : n < 2 ^ 64) (hk : k < 64) : ((lN n).toUInt64 >>> ((nI k).toInt64.toUInt64 &&& Int64.toUInt64 63)).toInt64 &&& 1 = lN (n / 2 ^ k % 2) := by
  rw [wb_shr hn hk, wb_a1 (Nat.lt_of_le_of_lt (Nat.div_le_self _ _) hn)]
theorem wb_xor {q k : Nat} (hk : k < 63) (h : 2 ^ k ≤ q) (h2 : q < 2 ^ (k + 1)) : lN q ^^^ lN (2 ^ k) = lN (q - 2 ^ k) := by
  obtain ⟨r, rfl⟩ : ∃ r, q = 2 ^ k + r := ⟨q - 2 ^ k, by omega⟩
  have hr : r < 2 ^ k := by rw [Nat.pow_succ] at h2; omega
  have hx : (2 ^ k + r) ^^^ 2 ^ k = r := by
    apply Nat.eq_of_testBit_eq
    intro i
    rw [Nat.testBit_xor, Nat.testBit_two_pow]
    rcases Nat.lt_trichotomy i k with h | h | h
    · rw [Nat.testBit_two_pow_add_gt h]
      simp [show ¬ k = i by omega]
    · subst h
      rw [Nat.testBit_two_pow_add_eq]
      simp
    · have a1 : 2 ^ (k + 1) ≤ 2 ^ i := Nat.pow_le_pow_right (by decide) h
      rw [Nat.testBit_lt_two_pow (show 2 ^ k + r < 2 ^ i by omega), Nat.testBit_lt_two_pow (show r < 2 ^ i by omega)]
      simp [show ¬ k = i by omega]
  have b1 := wb_lt2 (show k + 1 < 64 by omega)
  have b2 := wb_lt2 (show k < 64 by omega)
  apply wb_inj
  rw [Int64.toBitVec_xor, wb_tb, wb_tb, wb_tb]
  apply BitVec.eq_of_toNat_eq
  rw [BitVec.toNat_xor, BitVec.toNat_ofNat, BitVec.toNat_ofNat, BitVec.toNat_ofNat, Nat.mod_eq_of_lt (by omega : 2 ^ k + r < 2 ^ 64), Nat.mod_eq_of_lt b2, hx, Nat.add_sub_cancel_left, Nat.mod_eq_of_lt (by omega)]
/-! ===== lN: masks, 'or' of parts that don't overlap is a sum ===== -/
theorem u_tn {n : Nat} (h : n < 2 ^ 64) : (UInt64.ofNat n).toNat = n := Nat.mod_eq_of_lt h
theorem g_and {a b c : Nat} (ha : a < 2 ^ 64) (hb : b < 2 ^ 64) (hc : a &&& b = c) : lN a &&& lN b = lN c := by
  subst hc
  have h : UInt64.ofNat a &&& UInt64.ofNat b = UInt64.ofNat (a &&& b) := UInt64.toNat_inj.mp (by rw [UInt64.toNat_and, u_tn ha, u_tn hb, u_tn (Nat.and_lt_two_pow a hb)])
  have h2 := congrArg UInt64.toInt64 h
  exact h2
theorem g_and1 {a : Nat} (ha : a < 2 ^ 64) : lN a &&& 1 = lN (a % 2) := g_and (b := 1) ha (by decide) (Nat.and_two_pow_sub_one_eq_mod a 1)
theorem g_mask {a s p : Nat} (hp : 2 ^ s = p) (hs : s < 64) (ha : a < 2 ^ 64) : lN a &&& lN (p - 1) = lN (a % p) := by
  subst hp
  have := Nat.pow_lt_pow_right (show 1 < 2 by decide) hs
  exact g_and ha (by omega) (Nat.and_two_pow_sub_one_eq_mod a s)
theorem g_or {k p a b : Nat} (hp : 2 ^ k = p) (ha : a < p) (h : b * p + a < 2 ^ 64) : lN (b * p) ||| lN a = lN (b * p + a) := by
  subst hp
  have h1 : b * 2 ^ k ||| a = b * 2 ^ k + a := by rw [← Nat.shiftLeft_eq, Nat.shiftLeft_add_eq_or_of_lt ha]
  have h3 : UInt64.ofNat (b * 2 ^ k) ||| UInt64.ofNat a = UInt64.ofNat (b * 2 ^ k + a) := UInt64.toNat_inj.mp (by rw [UInt64.toNat_or, u_tn (by omega), u_tn (by omega), u_tn h, h1])
  have h2 := congrArg UInt64.toInt64 h3
  exact h2
theorem g_or' {k p a b : Nat} (hp : 2 ^ k = p) (ha : a < p) (h : a + b * p < 2 ^ 64) : lN a ||| lN (b * p) = lN (a + b * p) := by
  rw [Int64.or_comm, g_or hp ha (by omega), Nat.add_comm]
theorem g_ushr {a k p : Nat} {y : UInt64} (hy : y = UInt64.ofNat k) (hk : k < 64) (hp : 2 ^ k = p) (ha : a < 2 ^ 64) : ((lN a).toUInt64 >>> y).toInt64 = lN (a / p) := by
  subst hy hp
  have h : UInt64.ofNat a >>> UInt64.ofNat k = UInt64.ofNat (a / 2 ^ k) := UInt64.toNat_inj.mp (by rw [UInt64.toNat_shiftRight, u_tn ha, u_tn (by omega), u_tn (Nat.lt_of_le_of_lt (Nat.div_le_self _ _) ha), Nat.mod_eq_of_lt hk, Nat.shiftRight_eq_div_pow])
  have h2 := congrArg UInt64.toInt64 h
  exact h2
theorem g_shl {a k p : Nat} {y : Int64} (hy : y.toBitVec.smod 64 = BitVec.ofNat 64 k) (hk : k < 64) (hp : 2 ^ k = p) (ha : a < 2 ^ 64) : lN a <<< y = lN (a * p) := by
  subst hp
  apply Int64.toBitVec_inj.mp
  rw [Int64.toBitVec_shiftLeft, hy]
  apply BitVec.eq_of_toNat_eq
  have hb : (lN a).toBitVec.toNat = a := Nat.mod_eq_of_lt ha
  have hk' : (BitVec.ofNat 64 k).toNat = k := Nat.mod_eq_of_lt (by omega)
  have h : ((lN a).toBitVec <<< BitVec.ofNat 64 k).toNat = (a * 2 ^ k) % 2 ^ 64 := by simp only [BitVec.shiftLeft_eq', BitVec.toNat_shiftLeft, hb, hk', Nat.shiftLeft_eq]
  exact h
/-! ===== lN to 2^62 under >> and >>> ===== -/
theorem pf_lI {a : Nat} (h : a < 2 ^ 63) : (lN a).toInt = (a : Int) := lg_ofNat_toInt h
theorem pf_shr {a d : Nat} {D : Int64} (hD : (D.toBitVec.smod 64).toNat = d) (h : a < 2 ^ 62) : lN a >>> D = lN (a / 2 ^ d) := by
  have hd : a / 2 ^ d ≤ a := Nat.div_le_self _ _
  apply Int64.toInt_inj.mp
  have e : (lN a >>> D).toInt = (lN a).toInt >>> d := by
    rw [← hD]
    exact BitVec.toInt_sshiftRight ..
  rw [e, Int.shiftRight_eq_div_pow, pf_lI (by omega), pf_lI (by omega)]
  rfl
theorem pf_ushr {a d : Nat} {D : UInt64} (hD : D.toNat % 64 = d) (h : a < 2 ^ 62) : ((lN a).toUInt64 >>> D).toInt64 = lN (a / 2 ^ d) := by
  have hd : a / 2 ^ d ≤ a := Nat.div_le_self _ _
  have e : (lN a).toUInt64 >>> D = UInt64.ofNat (a / 2 ^ d) := UInt64.toNat_inj.mp (by
    rw [UInt64.toNat_shiftRight, hD, Nat.shiftRight_eq_div_pow, UInt64.toNat_ofNat']
    show (UInt64.ofNat a).toNat / 2 ^ d = _
    rw [UInt64.toNat_ofNat', Nat.mod_eq_of_lt (by omega), Nat.mod_eq_of_lt (by omega)])
  rw [e]
  rfl
theorem pf_andw (x : Int64) : ∃ m, m < 2 ^ 32 ∧ x &&& 4294967295 = lN m := ⟨x.toBitVec.toNat % 2 ^ 32, Nat.mod_lt _ (by decide), Int64.toBitVec_inj.mp (BitVec.eq_of_toNat_eq (by
  show (x.toBitVec &&& 4294967295#64).toNat = (BitVec.ofNat 64 (x.toBitVec.toNat % 2 ^ 32)).toNat
  rw [BitVec.toNat_and, show (4294967295#64).toNat = 2 ^ 32 - 1 from by decide, Nat.and_two_pow_sub_one_eq_mod, BitVec.toNat_ofNat]
  omega))⟩
/-! ===== Int64 as an unsigned number: uN x ===== -/
def uN (x : Int64) : Nat := x.toUInt64.toNat
theorem uN_lt (x : Int64) : uN x < 18446744073709551616 := x.toUInt64.toNat_lt
theorem uN_inj {x y : Int64} (h : uN x = uN y) : x = y := congrArg UInt64.toInt64 (UInt64.toNat_inj.mp h)
theorem uN_add (x y : Int64) : uN (x + y) = (uN x + uN y) % 18446744073709551616 := by
  show (x.toUInt64 + y.toUInt64).toNat = _
  exact UInt64.toNat_add _ _
theorem uN_mul (x y : Int64) : uN (x * y) = (uN x * uN y) % 18446744073709551616 := by
  show (x.toUInt64 * y.toUInt64).toNat = _
  exact UInt64.toNat_mul _ _
theorem uN_shl (x : Int64) : uN (x <<< ((1 : Int32).toInt64 &&& 63)) = (2 * uN x) % 18446744073709551616 := by
  have h : (((1 : Int32).toInt64 &&& 63).toBitVec.smod 64).toNat = 1 := by decide
  show (x.toBitVec <<< (((1 : Int32).toInt64 &&& 63).toBitVec.smod 64).toNat).toNat = _
  rw [h, BitVec.toNat_shiftLeft, Nat.shiftLeft_eq, Nat.mul_comm]
  rfl
theorem uN_shr (x : Int64) (s : UInt64) : uN (x.toUInt64 >>> s).toInt64 = uN x / 2 ^ (s.toNat % 64) := by
  show (x.toUInt64 >>> s).toNat = _
  rw [UInt64.toNat_shiftRight, Nat.shiftRight_eq_div_pow]
  rfl
theorem uN_s32 (x : Int64) : uN (x.toUInt64 >>> ((32 : Int32).toInt64.toUInt64 &&& Int64.toUInt64 63)).toInt64 = uN x / 4294967296 := by
  have h : ((32 : Int32).toInt64.toUInt64 &&& Int64.toUInt64 63).toNat % 64 = 32 := by decide
  rw [uN_shr, h]
theorem uN_s63 (x : Int64) : uN (x.toUInt64 >>> ((63 : Int32).toInt64.toUInt64 &&& Int64.toUInt64 63)).toInt64 = uN x / 9223372036854775808 := by
  have h : ((63 : Int32).toInt64.toUInt64 &&& Int64.toUInt64 63).toNat % 64 = 63 := by decide
  rw [uN_shr, h]
theorem uN_lo (x : Int64) : uN (x &&& 4294967295) = uN x % 4294967296 := by
  show (x.toUInt64 &&& Int64.toUInt64 4294967295).toNat = _
  rw [UInt64.toNat_and]
  exact Nat.and_two_pow_sub_one_eq_mod _ 32
theorem uN_bit (x : Int64) : (x &&& 1) = 0 ↔ uN x % 2 = 0 := by
  have h : uN (x &&& 1) = uN x % 2 := by
    show (x.toUInt64 &&& Int64.toUInt64 1).toNat = _
    rw [UInt64.toNat_and]
    exact Nat.and_two_pow_sub_one_eq_mod _ 1
  rw [← h]
  exact ⟨fun z => by rw [z]; rfl, fun z => uN_inj (z.trans rfl)⟩
theorem uN_or {x y : Int64} (hy : uN y < 2) : uN ((x <<< ((1 : Int32).toInt64 &&& 63)) ||| y) = (2 * uN x) % 18446744073709551616 + uN y := by
  have h1 : uN ((x <<< ((1 : Int32).toInt64 &&& 63)) ||| y) = uN (x <<< ((1 : Int32).toInt64 &&& 63)) ||| uN y := UInt64.toNat_or _ _
  have h2 : (2 * uN x) % 18446744073709551616 = 2 ^ 1 * (uN x % 9223372036854775808) := by omega
  rw [h1, uN_shl, h2]
  exact (Nat.two_pow_add_eq_or_of_lt (i := 1) hy _).symm
theorem nat_xor {a : Nat} (h : a < 18446744073709551616) : a ^^^ 2 ^ 63 = (a + 9223372036854775808) % 18446744073709551616 := by
  have h1 : (a ^^^ 2 ^ 63) % 2 ^ 63 = a % 2 ^ 63 := by rw [Nat.xor_mod_two_pow, Nat.mod_self, Nat.xor_zero]
  have h2 : (a ^^^ 2 ^ 63) / 2 ^ 63 = (a / 2 ^ 63) ^^^ 1 := by rw [Nat.xor_div_two_pow, Nat.div_self (Nat.two_pow_pos 63)]
  have h3 : a / 2 ^ 63 = 0 ∨ a / 2 ^ 63 = 1 := by omega
  generalize a ^^^ 2 ^ 63 = t at h1 h2
  rcases h3 with h3 | h3
  · rw [h3] at h2
    have h2 : t / 2 ^ 63 = 1 := h2
    omega
  · rw [h3] at h2
    have h2 : t / 2 ^ 63 = 0 := h2
    omega
theorem uN_xor (x : Int64) : uN (x ^^^ (-9223372036854775808)) = (uN x + 9223372036854775808) % 18446744073709551616 := by
  rw [← nat_xor (uN_lt x)]
  exact UInt64.toNat_xor _ _
theorem uN_int (x : Int64) : x.toInt = if 2 * uN x < 18446744073709551616 then (uN x : Int) else (uN x : Int) - 18446744073709551616 := BitVec.toInt_eq_toNat_cond _
theorem uN_le (x y : Int64) : (x ^^^ (-9223372036854775808)) ≤ (y ^^^ (-9223372036854775808)) ↔ uN x ≤ uN y := by
  have hx := uN_lt x
  have hy := uN_lt y
  rw [Int64.le_iff_toInt_le, uN_int, uN_int, uN_xor, uN_xor]
  omega
theorem uN_sk (x : Int64) {k : Nat} (hk : k < 64) : uN (x.toUInt64 >>> ((nI k).toInt64.toUInt64 &&& Int64.toUInt64 63)).toInt64 = uN x / 2 ^ k := by
  have h : ((nI k).toInt64.toUInt64 &&& Int64.toUInt64 63).toNat % 64 = k := by
    rw [nI_l (by omega), UInt64.toNat_and]
    have e : (lN k).toUInt64.toNat = k % 2 ^ 64 := rfl
    have e2 : (Int64.toUInt64 63).toNat = 2 ^ 6 - 1 := by decide
    rw [e, e2, Nat.and_two_pow_sub_one_eq_mod]
    omega
  rw [uN_shr, h]
/-! ===== unsigned comparison by xor with the least ===== -/
theorem lN_bv (n : Nat) : (lN n).toBitVec = BitVec.ofNat 64 n := rfl
theorem lN_nat {n : Nat} (h : n < 2 ^ 64) : (lN n).toBitVec.toNat = n := by rw [lN_bv, BitVec.toNat_ofNat]; exact Nat.mod_eq_of_lt h
theorem lN_xor (a b : Nat) : lN a ^^^ lN b = lN (a ^^^ b) := by
  apply Int64.toBitVec_inj.mp; rw [Int64.toBitVec_xor, lN_bv, lN_bv, lN_bv]; apply BitVec.eq_of_getLsbD_eq; intro i hi; simp [BitVec.getLsbD_ofNat, Nat.testBit_xor, hi]
theorem lN_ti {m : Nat} (h : m < 2 ^ 64) : (lN m).toInt = if m < 2 ^ 63 then (m : Int) else (m : Int) - 2 ^ 64 := by
  have c := BitVec.toInt_eq_toNat_cond (lN m).toBitVec
  rw [lN_nat h] at c
  show (lN m).toBitVec.toInt = _
  rw [c]
  split <;> split <;> omega
theorem xor63 {x : Nat} (h : x < 2 ^ 63) : x ^^^ 2 ^ 63 = 2 ^ 63 + x := by
  apply Nat.eq_of_testBit_eq
  intro i
  rw [Nat.testBit_xor, Nat.testBit_two_pow]
  rcases Nat.lt_trichotomy i 63 with z | z | z
  · rw [Nat.testBit_two_pow_add_gt z, decide_eq_false (by omega)]; simp
  · subst z; rw [Nat.testBit_two_pow_add_eq]; simp
  · have hp : 2 ^ 64 ≤ 2 ^ i := Nat.pow_le_pow_right (by decide) z
    rw [Nat.testBit_lt_two_pow (show x < 2 ^ i by omega), Nat.testBit_lt_two_pow (show 2 ^ 63 + x < 2 ^ i by omega), decide_eq_false (by omega)]; rfl
theorem xorS {a : Nat} (h : a < 2 ^ 64) : (lN a ^^^ (-9223372036854775808)).toInt = (a : Int) - 2 ^ 63 := by
  rw [show (-9223372036854775808 : Int64) = lN (2 ^ 63) from by decide +kernel, lN_xor]
  rcases Nat.lt_or_ge a (2 ^ 63) with z | z
  · rw [xor63 z, lN_ti (by omega), if_neg (by omega)]; omega
  · obtain ⟨x, rfl⟩ : ∃ x, a = 2 ^ 63 + x := ⟨a - 2 ^ 63, by omega⟩
    rw [← xor63 (by omega), Nat.xor_assoc, Nat.xor_self, Nat.xor_zero, lN_ti (by omega), if_pos (by omega), xor63 (by omega)]; omega
theorem ultL {a b : Nat} (ha : a < 2 ^ 64) (hb : b < 2 ^ 64) : ((lN b ^^^ (-9223372036854775808)) ≤ (lN a ^^^ (-9223372036854775808))) ↔ b ≤ a := by
  rw [Int64.le_iff_toInt_le, xorS ha, xorS hb]; omega
/-! ===== Int64 masks of n low bits ===== -/
theorem cr_bits (W U M : BitVec 64) : ((W &&& U) &&& (U &&& (M ^^^ BitVec.allOnes 64))) = 0#64 ↔ (W &&& U) &&& M = W &&& U := by
  constructor
  · intro h
    apply BitVec.eq_of_getLsbD_eq
    intro i hi
    have e := congrArg (fun x => BitVec.getLsbD x i) h
    simp only [BitVec.getLsbD_and, BitVec.getLsbD_xor, BitVec.getLsbD_allOnes, BitVec.getLsbD_zero, hi, decide_true] at e ⊢
    revert e
    cases W.getLsbD i <;> cases U.getLsbD i <;> cases M.getLsbD i <;> decide
  · intro h
    apply BitVec.eq_of_getLsbD_eq
    intro i hi
    have e := congrArg (fun x => BitVec.getLsbD x i) h
    simp only [BitVec.getLsbD_and, BitVec.getLsbD_xor, BitVec.getLsbD_allOnes, BitVec.getLsbD_zero, hi, decide_true] at e ⊢
    revert e
    cases W.getLsbD i <;> cases U.getLsbD i <;> cases M.getLsbD i <;> decide
theorem cr_mask (w U m : Int64) (n : Nat) (hm : m.toBitVec.toNat = 2 ^ n - 1) : ((w &&& U) &&& (U &&& (m ^^^ (-1)))) = 0 ↔ (w &&& U).toBitVec.toNat < 2 ^ n := by
  have e0 : (-1 : Int64).toBitVec = BitVec.allOnes 64 := by decide
  have z0 : (0 : Int64).toBitVec = 0#64 := by decide
  rw [← Int64.toBitVec_inj, z0, Int64.toBitVec_and, Int64.toBitVec_and, Int64.toBitVec_and, Int64.toBitVec_xor, e0, cr_bits]
  generalize w.toBitVec &&& U.toBitVec = T
  rw [← BitVec.toNat_inj, BitVec.toNat_and, hm, Nat.and_two_pow_sub_one_eq_mod]
  constructor
  · intro h
    have t := Nat.mod_lt T.toNat (Nat.two_pow_pos n)
    rw [h] at t
    exact t
  · exact Nat.mod_eq_of_lt
theorem cr_shr (t : Int64) (x : UInt64) (n : Nat) (hx : x.toNat % 64 = n) : (t.toUInt64 >>> x).toInt64 = 0 ↔ t.toBitVec.toNat < 2 ^ n := by
  rw [← Int64.toBitVec_inj, ← BitVec.toNat_inj]
  show (t.toUInt64 >>> x).toNat = 0 ↔ t.toUInt64.toNat < 2 ^ n
  rw [UInt64.toNat_shiftRight, hx, Nat.shiftRight_eq_div_pow]
  constructor
  · intro h
    have d : t.toUInt64.toNat / 2 ^ n < 1 := by
      rw [h]
      decide
    have e := (Nat.div_lt_iff_lt_mul (Nat.two_pow_pos n)).mp d
    rw [Nat.one_mul] at e
    exact e
  · exact Nat.div_eq_of_lt
theorem cr_amt (s : Int64) : ∃ n, n < 64 ∧ s &&& 63 = lN n ∧ (s.toUInt64 &&& Int64.toUInt64 63).toNat % 64 = n := by
  have e : (s.toUInt64 &&& Int64.toUInt64 63).toNat = s.toUInt64.toNat % 2 ^ 6 := by
    rw [UInt64.toNat_and, show (Int64.toUInt64 63).toNat = 2 ^ 6 - 1 from by decide, Nat.and_two_pow_sub_one_eq_mod]
  refine ⟨s.toUInt64.toNat % 2 ^ 6, by omega, ?_, by omega⟩
  rw [← Int64.toBitVec_inj, ← BitVec.toNat_inj]
  show (s.toUInt64 &&& Int64.toUInt64 63).toNat = (BitVec.ofNat 64 (s.toUInt64.toNat % 2 ^ 6)).toNat
  rw [e, BitVec.toNat_ofNat]
  omega
end
section
/-! permutations of six points as base 6 codes -/
/-- the image of x under the permutation with code g -/
def pe_ap (g x : Nat) : Nat := g / 6 ^ x % 6
/-- the code of a function on 0..5 -/
def pe_cd (f : Nat → Nat) : Nat := f 0 + 6 * f 1 + 36 * f 2 + 216 * f 3 + 1296 * f 4 + 7776 * f 5
def pe_mu (g h : Nat) : Nat := pe_cd (fun x => pe_ap h (pe_ap g x))
def pe_id : Nat := 44790
/-- the mask of the images of the first n points -/
def pe_mk (g : Nat) : Nat → Nat
  | 0 => 0
  | n + 1 => pe_mk g n ||| (1 <<< pe_ap g n)
def pe_P (g : Nat) : Prop := g < 46656 ∧ pe_mk g 6 = 63
/-- where y comes from -/
def pe_pv (g y : Nat) : Nat := if pe_ap g 0 = y then 0 else if pe_ap g 1 = y then 1 else if pe_ap g 2 = y then 2 else if pe_ap g 3 = y then 3 else if pe_ap g 4 = y then 4 else 5
def pe_iv (g : Nat) : Nat := pe_cd (pe_pv g)
theorem pe_ap_lt (g x : Nat) : pe_ap g x < 6 := Nat.mod_lt _ (by decide)
theorem pe_c6 {Q : Nat → Prop} (h0 : Q 0) (h1 : Q 1) (h2 : Q 2) (h3 : Q 3) (h4 : Q 4) (h5 : Q 5) {x : Nat} (hx : x < 6) : Q x := by
  match x, hx with
  | 0, _ => exact h0
  | 1, _ => exact h1
  | 2, _ => exact h2
  | 3, _ => exact h3
  | 4, _ => exact h4
  | 5, _ => exact h5
  | n + 6, h => exact absurd h (by omega)
theorem pe_ar (a b c d e f : Nat) (ha : a < 6) (hb : b < 6) (hc : c < 6) (hd : d < 6) (he : e < 6) (hf : f < 6) :
    (a + 6 * b + 36 * c + 216 * d + 1296 * e + 7776 * f) / 1 % 6 = a ∧
    (a + 6 * b + 36 * c + 216 * d + 1296 * e + 7776 * f) / 6 % 6 = b ∧
    (a + 6 * b + 36 * c + 216 * d + 1296 * e + 7776 * f) / 36 % 6 = c ∧
    (a + 6 * b + 36 * c + 216 * d + 1296 * e + 7776 * f) / 216 % 6 = d ∧
    (a + 6 * b + 36 * c + 216 * d + 1296 * e + 7776 * f) / 1296 % 6 = e ∧
    (a + 6 * b + 36 * c + 216 * d + 1296 * e + 7776 * f) / 7776 % 6 = f := by
  refine ⟨by omega, by omega, by omega, by omega, by omega, by omega⟩
theorem pe_ap_cd {f : Nat → Nat} (h : ∀ x, x < 6 → f x < 6) {x : Nat} (hx : x < 6) : pe_ap (pe_cd f) x = f x := by
  obtain ⟨e0, e1, e2, e3, e4, e5⟩ := pe_ar (f 0) (f 1) (f 2) (f 3) (f 4) (f 5) (h 0 (by omega)) (h 1 (by omega)) (h 2 (by omega)) (h 3 (by omega)) (h 4 (by omega)) (h 5 (by omega))
  exact pe_c6 (Q := fun x => pe_ap (pe_cd f) x = f x) e0 e1 e2 e3 e4 e5 hx
theorem pe_cd_lt {f : Nat → Nat} (h : ∀ x, x < 6 → f x < 6) : pe_cd f < 46656 := by
  have h0 := h 0 (by omega)
  have h1 := h 1 (by omega)
  have h2 := h 2 (by omega)
  have h3 := h 3 (by omega)
  have h4 := h 4 (by omega)
  have h5 := h 5 (by omega)
  unfold pe_cd
  omega
theorem pe_cd_ap {g : Nat} (h : g < 46656) : pe_cd (pe_ap g) = g := by
  show g / 1 % 6 + 6 * (g / 6 % 6) + 36 * (g / 36 % 6) + 216 * (g / 216 % 6) + 1296 * (g / 1296 % 6) + 7776 * (g / 7776 % 6) = g
  omega
theorem pe_cd_ext {f k : Nat → Nat} (h : ∀ x, x < 6 → f x = k x) : pe_cd f = pe_cd k := by
  unfold pe_cd
  rw [h 0 (by omega), h 1 (by omega), h 2 (by omega), h 3 (by omega), h 4 (by omega), h 5 (by omega)]
theorem pe_ext {g h : Nat} (hg : g < 46656) (hh : h < 46656) (e : ∀ x, x < 6 → pe_ap g x = pe_ap h x) : g = h := by
  rw [← pe_cd_ap hg, ← pe_cd_ap hh]
  exact pe_cd_ext e
theorem pe_ap_mu (g h : Nat) {x : Nat} (hx : x < 6) : pe_ap (pe_mu g h) x = pe_ap h (pe_ap g x) :=
  pe_ap_cd (f := fun x => pe_ap h (pe_ap g x)) (fun _ _ => pe_ap_lt _ _) hx
theorem pe_mu_lt (g h : Nat) : pe_mu g h < 46656 := pe_cd_lt (fun _ _ => pe_ap_lt _ _)
theorem pe_ap_id {x : Nat} (hx : x < 6) : pe_ap pe_id x = x := (by decide : ∀ x, x < 6 → pe_ap pe_id x = x) x hx
theorem pe_mu_assoc (a b c : Nat) : pe_mu (pe_mu a b) c = pe_mu a (pe_mu b c) := by
  apply pe_ext (pe_mu_lt _ _) (pe_mu_lt _ _)
  intro x hx
  rw [pe_ap_mu _ _ hx, pe_ap_mu _ _ hx, pe_ap_mu _ _ hx, pe_ap_mu _ _ (pe_ap_lt _ _)]
theorem pe_mu_id {a : Nat} (h : a < 46656) : pe_mu a pe_id = a := by
  apply pe_ext (pe_mu_lt _ _) h
  intro x hx
  rw [pe_ap_mu _ _ hx, pe_ap_id (pe_ap_lt _ _)]
theorem pe_id_mu {a : Nat} (h : a < 46656) : pe_mu pe_id a = a := by
  apply pe_ext (pe_mu_lt _ _) h
  intro x hx
  rw [pe_ap_mu _ _ hx, pe_ap_id hx]
/-! the 720 permutations -/
/-- all the images differ, as a Bool -/
def pe_df (a b c d e f : Nat) : Bool := !(a == b) && !(a == c) && !(a == d) && !(a == e) && !(a == f) && !(b == c) && !(b == d) && !(b == e) && !(b == f) && !(c == d) && !(c == e) && !(c == f) && !(d == e) && !(d == f) && !(e == f)
def pe_m6 (a b c d e f : Nat) : Nat := (((((0 ||| (1 <<< a)) ||| (1 <<< b)) ||| (1 <<< c)) ||| (1 <<< d)) ||| (1 <<< e)) ||| (1 <<< f)
theorem pe_chk1 : ∀ a, a < 6 → ∀ b, b < 6 → ∀ c, c < 6 → ∀ d, d < 6 → ∀ e, e < 6 → ∀ f, f < 6 → (pe_m6 a b c d e f == 63) = pe_df a b c d e f := by decide +kernel
theorem pe_mk6 (g : Nat) : pe_mk g 6 = pe_m6 (pe_ap g 0) (pe_ap g 1) (pe_ap g 2) (pe_ap g 3) (pe_ap g 4) (pe_ap g 5) := rfl
theorem pe_P_df {g : Nat} (h : pe_P g) : pe_df (pe_ap g 0) (pe_ap g 1) (pe_ap g 2) (pe_ap g 3) (pe_ap g 4) (pe_ap g 5) = true := by
  rw [← pe_chk1 _ (pe_ap_lt _ _) _ (pe_ap_lt _ _) _ (pe_ap_lt _ _) _ (pe_ap_lt _ _) _ (pe_ap_lt _ _) _ (pe_ap_lt _ _), ← pe_mk6, h.2]
  rfl
theorem pe_df_P {g : Nat} (hg : g < 46656) (h : pe_df (pe_ap g 0) (pe_ap g 1) (pe_ap g 2) (pe_ap g 3) (pe_ap g 4) (pe_ap g 5) = true) : pe_P g := by
  refine ⟨hg, ?_⟩
  rw [← pe_chk1 _ (pe_ap_lt _ _) _ (pe_ap_lt _ _) _ (pe_ap_lt _ _) _ (pe_ap_lt _ _) _ (pe_ap_lt _ _) _ (pe_ap_lt _ _), ← pe_mk6] at h
  exact eq_of_beq h
theorem pe_P_inj {g : Nat} (h : pe_P g) {x y : Nat} (hx : x < 6) (hy : y < 6) (e : pe_ap g x = pe_ap g y) : x = y := by
  have d := pe_P_df h
  simp only [pe_df, Bool.and_eq_true, Bool.not_eq_true', beq_eq_false_iff_ne, ne_eq] at d
  obtain ⟨⟨⟨⟨⟨⟨⟨⟨⟨⟨⟨⟨⟨⟨a1, a2⟩, a3⟩, a4⟩, a5⟩, b1⟩, b2⟩, b3⟩, b4⟩, c1⟩, c2⟩, c3⟩, d1⟩, d2⟩, e1⟩ := d
  revert e
  revert hy
  revert y
  refine pe_c6 (Q := fun x => ∀ {y : Nat}, y < 6 → pe_ap g x = pe_ap g y → x = y) ?_ ?_ ?_ ?_ ?_ ?_ hx
  · intro y hy; exact pe_c6 (Q := fun y => pe_ap g 0 = pe_ap g y → 0 = y) (fun _ => rfl) (fun z => absurd z a1) (fun z => absurd z a2) (fun z => absurd z a3) (fun z => absurd z a4) (fun z => absurd z a5) hy
  · intro y hy; exact pe_c6 (Q := fun y => pe_ap g 1 = pe_ap g y → 1 = y) (fun z => absurd z.symm a1) (fun _ => rfl) (fun z => absurd z b1) (fun z => absurd z b2) (fun z => absurd z b3) (fun z => absurd z b4) hy
  · intro y hy; exact pe_c6 (Q := fun y => pe_ap g 2 = pe_ap g y → 2 = y) (fun z => absurd z.symm a2) (fun z => absurd z.symm b1) (fun _ => rfl) (fun z => absurd z c1) (fun z => absurd z c2) (fun z => absurd z c3) hy
  · intro y hy; exact pe_c6 (Q := fun y => pe_ap g 3 = pe_ap g y → 3 = y) (fun z => absurd z.symm a3) (fun z => absurd z.symm b2) (fun z => absurd z.symm c1) (fun _ => rfl) (fun z => absurd z d1) (fun z => absurd z d2) hy
  · intro y hy; exact pe_c6 (Q := fun y => pe_ap g 4 = pe_ap g y → 4 = y) (fun z => absurd z.symm a4) (fun z => absurd z.symm b3) (fun z => absurd z.symm c2) (fun z => absurd z.symm d1) (fun _ => rfl) (fun z => absurd z e1) hy
  · intro y hy; exact pe_c6 (Q := fun y => pe_ap g 5 = pe_ap g y → 5 = y) (fun z => absurd z.symm a5) (fun z => absurd z.symm b4) (fun z => absurd z.symm c3) (fun z => absurd z.symm d2) (fun z => absurd z.symm e1) (fun _ => rfl) hy
theorem pe_inj_P {g : Nat} (hg : g < 46656) (h : ∀ x y, x < 6 → y < 6 → x ≠ y → pe_ap g x ≠ pe_ap g y) : pe_P g := by
  apply pe_df_P hg
  simp only [pe_df, Bool.and_eq_true, Bool.not_eq_true', beq_eq_false_iff_ne, ne_eq]
  have k : ∀ x y, x < 6 → y < 6 → x ≠ y → ¬ pe_ap g x = pe_ap g y := h
  refine ⟨⟨⟨⟨⟨⟨⟨⟨⟨⟨⟨⟨⟨⟨?_, ?_⟩, ?_⟩, ?_⟩, ?_⟩, ?_⟩, ?_⟩, ?_⟩, ?_⟩, ?_⟩, ?_⟩, ?_⟩, ?_⟩, ?_⟩, ?_⟩
  all_goals exact k _ _ (by decide) (by decide) (by decide)
theorem pe_mu_P {g h : Nat} (hg : pe_P g) (hh : pe_P h) : pe_P (pe_mu g h) := by
  apply pe_inj_P (pe_mu_lt _ _)
  intro x y hx hy hn e
  rw [pe_ap_mu _ _ hx, pe_ap_mu _ _ hy] at e
  exact hn (pe_P_inj hg hx hy (pe_P_inj hh (pe_ap_lt _ _) (pe_ap_lt _ _) e))
theorem pe_id_P : pe_P pe_id := ⟨by decide, by decide⟩
/-! masks and inverses -/
theorem pe_sh1 (k : Nat) : 1 <<< k = 2 ^ k := by rw [Nat.shiftLeft_eq, Nat.one_mul]
theorem pe_mk_bit (g : Nat) : ∀ n y : Nat, (pe_mk g n).testBit y = true ↔ ∃ x, x < n ∧ pe_ap g x = y := by
  intro n
  induction n with
  | zero => intro y; exact ⟨fun h => by simp [pe_mk] at h, fun ⟨x, hx, _⟩ => absurd hx (by omega)⟩
  | succ n ih =>
    intro y
    show (pe_mk g n ||| (1 <<< pe_ap g n)).testBit y = true ↔ _
    rw [Nat.testBit_or, Bool.or_eq_true, ih y, pe_sh1, Nat.testBit_two_pow, decide_eq_true_eq]
    constructor
    · rintro (⟨x, hx, e⟩ | e)
      · exact ⟨x, by omega, e⟩
      · exact ⟨n, by omega, e⟩
    · rintro ⟨x, hx, e⟩
      rcases Nat.lt_or_ge x n with h | h
      · exact Or.inl ⟨x, h, e⟩
      · have : x = n := by omega
        subst this
        exact Or.inr e
theorem pe_sur {g : Nat} (h : pe_P g) {y : Nat} (hy : y < 6) : ∃ x, x < 6 ∧ pe_ap g x = y := by
  rw [← pe_mk_bit, h.2]
  exact (by decide : ∀ y, y < 6 → (63 : Nat).testBit y = true) y hy
theorem pe_pv_lt (g y : Nat) : pe_pv g y < 6 := by
  unfold pe_pv
  repeat' split
  all_goals omega
theorem pe_ap_pv {g : Nat} (h : pe_P g) {y : Nat} (hy : y < 6) : pe_ap g (pe_pv g y) = y := by
  obtain ⟨x, hx, e⟩ := pe_sur h hy
  unfold pe_pv
  split
  · assumption
  split
  · assumption
  split
  · assumption
  split
  · assumption
  split
  · assumption
  · rename_i h0 h1 h2 h3 h4
    revert e
    exact pe_c6 (Q := fun x => pe_ap g x = y → pe_ap g 5 = y) (fun z => absurd z h0) (fun z => absurd z h1) (fun z => absurd z h2) (fun z => absurd z h3) (fun z => absurd z h4) (fun z => z) hx
theorem pe_pv_ap {g : Nat} (h : pe_P g) {x : Nat} (hx : x < 6) : pe_pv g (pe_ap g x) = x :=
  pe_P_inj h (pe_pv_lt _ _) hx (pe_ap_pv h (pe_ap_lt _ _))
theorem pe_ap_iv (g : Nat) {y : Nat} (hy : y < 6) : pe_ap (pe_iv g) y = pe_pv g y := pe_ap_cd (f := pe_pv g) (fun _ _ => pe_pv_lt _ _) hy
theorem pe_iv_lt (g : Nat) : pe_iv g < 46656 := pe_cd_lt (fun _ _ => pe_pv_lt _ _)
theorem pe_ap_iv' {g : Nat} (h : pe_P g) {x : Nat} (hx : x < 6) : pe_ap (pe_iv g) (pe_ap g x) = x := by
  rw [pe_ap_iv _ (pe_ap_lt _ _), pe_pv_ap h hx]
theorem pe_iv_ap {g : Nat} (h : pe_P g) {y : Nat} (hy : y < 6) : pe_ap g (pe_ap (pe_iv g) y) = y := by
  rw [pe_ap_iv _ hy, pe_ap_pv h hy]
theorem pe_iv_P {g : Nat} (h : pe_P g) : pe_P (pe_iv g) := by
  apply pe_inj_P (pe_iv_lt _)
  intro x y hx hy hn e
  apply hn
  rw [← pe_iv_ap h hx, e, pe_iv_ap h hy]
theorem pe_mu_iv {g : Nat} (h : pe_P g) : pe_mu g (pe_iv g) = pe_id := by
  apply pe_ext (pe_mu_lt _ _) (by decide)
  intro x hx
  rw [pe_ap_mu _ _ hx, pe_ap_iv' h hx, pe_ap_id hx]
theorem pe_iv_mu {g : Nat} (h : pe_P g) : pe_mu (pe_iv g) g = pe_id := by
  apply pe_ext (pe_mu_lt _ _) (by decide)
  intro x hx
  rw [pe_ap_mu _ _ hx, pe_iv_ap h hx, pe_ap_id hx]
theorem pe_mu_cr {a b c : Nat} (hc : pe_P c) (ha : a < 46656) (hb : b < 46656) (e : pe_mu a c = pe_mu b c) : a = b := by
  rw [← pe_mu_id ha, ← pe_mu_id hb, ← pe_mu_iv hc, ← pe_mu_assoc, ← pe_mu_assoc, e]
theorem pe_mu_ivr {a c : Nat} (hc : pe_P c) (ha : a < 46656) : pe_mu (pe_mu a c) (pe_iv c) = a := by
  rw [pe_mu_assoc, pe_mu_iv hc, pe_mu_id ha]
theorem pe_mu_ivl {a c : Nat} (hc : pe_P c) (ha : a < 46656) : pe_mu (pe_mu a (pe_iv c)) c = a := by
  rw [pe_mu_assoc, pe_iv_mu hc, pe_mu_id ha]
theorem pe_iv_un {a b : Nat} (ha : pe_P a) (hb : b < 46656) (e : pe_mu a b = pe_id) : b = pe_iv a := by
  rw [← pe_id_mu hb, ← pe_iv_mu ha, pe_mu_assoc, e, pe_mu_id (pe_iv_lt _)]
theorem pe_iv_id : pe_iv pe_id = pe_id := by decide
end
section
/-! the n-th permutation, as X reckons it, and the number of a permutation -/
def pe_e8 (g : Nat) : Nat := pe_ap g 0 + 8 * pe_ap g 1 + 64 * pe_ap g 2 + 512 * pe_ap g 3 + 4096 * pe_ap g 4 + 32768 * pe_ap g 5
def np_in (L : Nat) : Nat → Nat → Nat → Nat → Nat
  | 0, _, y, _ => y
  | n + 1, W, y, k => if L.testBit k = true then np_in L n (W - 1) (if W = 4294967296 then k else y) (k + 1) else np_in L n W y (k + 1)
def np_out : Nat → Nat → Nat → Nat → Nat → Nat
  | 0, o, _, _, _ => o
  | n + 1, o, L, R, x => np_out n (o ||| (np_in L 6 (R % (6 - x) + 4294967296) 0 0 <<< (3 * x))) (L &&& ((1 <<< np_in L 6 (R % (6 - x) + 4294967296) 0 0) ^^^ 4294967295)) (R / (6 - x)) (x + 1)
def np_8 (n : Nat) : Nat := np_out 6 0 63 n 0
def np_nth (n : Nat) : Nat := pe_cd (fun x => np_8 n / 8 ^ x % 8)
def np_lt (a b : Nat) : Nat := if a < b then 1 else 0
def np_rk6 (a b c d e f : Nat) : Nat := a + 6 * ((b - np_lt a b) + 5 * ((c - (np_lt a c + np_lt b c)) + 4 * ((d - (np_lt a d + np_lt b d + np_lt c d)) + 3 * ((e - (np_lt a e + np_lt b e + np_lt c e + np_lt d e)) + 2 * (f - (np_lt a f + np_lt b f + np_lt c f + np_lt d f + np_lt e f))))))
def np_rk (g : Nat) : Nat := np_rk6 (pe_ap g 0) (pe_ap g 1) (pe_ap g 2) (pe_ap g 3) (pe_ap g 4) (pe_ap g 5)
theorem np_chkA : ∀ n, n < 720 → (decide (np_nth n < 46656) && (pe_mk (np_nth n) 6 == 63) && (pe_e8 (np_nth n) == np_8 n) && (np_rk (np_nth n) == n)) = true := by decide +kernel
def np_c6 (a b c d e f : Nat) : Nat := a + 6 * b + 36 * c + 216 * d + 1296 * e + 7776 * f
theorem np_chkB : ∀ a, a < 6 → ∀ b, b < 6 → ∀ c, c < 6 → ∀ d, d < 6 → ∀ e, e < 6 → ∀ f, f < 6 → (!(pe_df a b c d e f) || (decide (np_rk6 a b c d e f < 720) && (np_nth (np_rk6 a b c d e f) == np_c6 a b c d e f))) = true := by decide +kernel
theorem np_A {n : Nat} (h : n < 720) : pe_P (np_nth n) ∧ pe_e8 (np_nth n) = np_8 n ∧ np_rk (np_nth n) = n := by
  have k := np_chkA n h
  simp only [Bool.and_eq_true, decide_eq_true_eq, beq_iff_eq] at k
  exact ⟨⟨k.1.1.1, k.1.1.2⟩, k.1.2, k.2⟩
theorem np_B {g : Nat} (h : pe_P g) : np_rk g < 720 ∧ np_nth (np_rk g) = g := by
  have k := np_chkB _ (pe_ap_lt g 0) _ (pe_ap_lt g 1) _ (pe_ap_lt g 2) _ (pe_ap_lt g 3) _ (pe_ap_lt g 4) _ (pe_ap_lt g 5)
  rw [pe_P_df h] at k
  simp only [Bool.not_true, Bool.false_or, Bool.and_eq_true, decide_eq_true_eq, beq_iff_eq] at k
  refine ⟨k.1, k.2.trans ?_⟩
  exact pe_cd_ap h.1
/-- all permutations -/
def np_al : List Nat := (List.range 720).map np_nth
theorem np_al_mem (g : Nat) : g ∈ np_al ↔ pe_P g := by
  unfold np_al
  rw [List.mem_map]
  constructor
  · rintro ⟨n, hn, rfl⟩
    exact (np_A (List.mem_range.mp hn)).1
  · intro h
    exact ⟨np_rk g, List.mem_range.mpr (np_B h).1, (np_B h).2⟩
theorem np_map_nodup {α β : Type} {f : α → β} : ∀ {l : List α}, (∀ a, a ∈ l → ∀ b, b ∈ l → f a = f b → a = b) → l.Nodup → (l.map f).Nodup := by
  intro l
  induction l with
  | nil => intro _ _; exact List.nodup_nil
  | cons a t ih =>
    intro h hd
    rw [List.nodup_cons] at hd
    rw [List.map_cons, List.nodup_cons]
    refine ⟨fun hm => ?_, ih (fun x hx y hy => h x (List.mem_cons_of_mem _ hx) y (List.mem_cons_of_mem _ hy)) hd.2⟩
    obtain ⟨b, hb, e⟩ := List.mem_map.mp hm
    have := h a List.mem_cons_self b (List.mem_cons_of_mem _ hb) e.symm
    subst this
    exact hd.1 hb
theorem np_al_nodup : np_al.Nodup := by
  apply np_map_nodup _ List.nodup_range
  intro a ha b hb e
  rw [← (np_A (List.mem_range.mp ha)).2.2, e, (np_A (List.mem_range.mp hb)).2.2]
theorem np_al_len : np_al.length = 720 := by unfold np_al; rw [List.length_map, List.length_range]
theorem np_le {l : List Nat} (hd : l.Nodup) (hp : ∀ g, g ∈ l → pe_P g) : l.length ≤ 720 := by
  rw [← np_al_len]
  exact hd.length_le_of_subset (fun g hg => (np_al_mem g).mpr (hp g hg))
/-! checks over all permutations: X's and Y's inverse -/
def np_xi (g : Nat) : Nat → Nat
  | 0 => 0
  | n + 1 => np_xi g n ||| (n <<< (3 * pe_ap g n))
def np_yi (g : Nat) : Nat → Nat
  | 0 => 0
  | n + 1 => np_yi g n + 6 ^ pe_ap g n * n
theorem np_chkC : ∀ n, n < 720 → (np_xi (np_nth n) 6 == pe_e8 (pe_iv (np_nth n))) = true := by decide +kernel
theorem np_chkD : ∀ n, n < 720 → (np_yi (np_nth n) 6 == pe_iv (np_nth n)) = true := by decide +kernel
theorem np_xi_iv {g : Nat} (h : pe_P g) : np_xi g 6 = pe_e8 (pe_iv g) := by
  rw [← (np_B h).2]
  exact eq_of_beq (np_chkC _ (np_B h).1)
theorem np_yi_iv {g : Nat} (h : pe_P g) : np_yi g 6 = pe_iv g := by
  have := eq_of_beq (np_chkD _ (np_B h).1)
  rwa [(np_B h).2] at this
end
section
/-! the group that a set of permutations generates -/
def gr_G (T : Nat → Prop) (g : Nat) : Prop := ∀ S : Nat → Prop, S pe_id → (∀ a t, S a → T t → S (pe_mu a t)) → S g
theorem gr_id {T : Nat → Prop} : gr_G T pe_id := fun _ h0 _ => h0
theorem gr_st {T : Nat → Prop} {a t : Nat} (h : gr_G T a) (ht : T t) : gr_G T (pe_mu a t) := fun S h0 hs => hs a t (h S h0 hs) ht
theorem gr_P {T : Nat → Prop} {g : Nat} (hT : ∀ t, T t → pe_P t) (h : gr_G T g) : pe_P g := h pe_P pe_id_P (fun _ t ha ht => pe_mu_P ha (hT t ht))
theorem gr_in {T : Nat → Prop} {t : Nat} (hT : ∀ t, T t → pe_P t) (ht : T t) : gr_G T t := by
  have h := gr_st (gr_id (T := T)) ht
  rwa [pe_id_mu (hT t ht).1] at h
theorem gr_mul {T : Nat → Prop} {a b : Nat} (hT : ∀ t, T t → pe_P t) (ha : gr_G T a) (hb : gr_G T b) : gr_G T (pe_mu a b) := by
  apply hb (fun b => gr_G T (pe_mu a b))
  · rw [pe_mu_id (gr_P hT ha).1]; exact ha
  · intro b t hb ht
    rw [← pe_mu_assoc]
    exact gr_st hb ht
theorem gr_mono {T U : Nat → Prop} {g : Nat} (hU : ∀ t, U t → pe_P t) (h : ∀ t, T t → gr_G U t) (hg : gr_G T g) : gr_G U g :=
  hg (gr_G U) gr_id (fun _ t ha ht => gr_mul hU ha (h t ht))
noncomputable def gr_L (T : Nat → Prop) : List Nat := np_al.filter (fun g => @decide (gr_G T g) (Classical.propDecidable _))
theorem gr_L_nodup (T : Nat → Prop) : (gr_L T).Nodup := List.Nodup.sublist List.filter_sublist np_al_nodup
theorem gr_L_mem {T : Nat → Prop} (hT : ∀ t, T t → pe_P t) (g : Nat) : g ∈ gr_L T ↔ gr_G T g := by
  unfold gr_L
  rw [List.mem_filter, np_al_mem, @decide_eq_true_iff _ (Classical.propDecidable _)]
  exact ⟨fun h => h.2, fun h => ⟨gr_P hT h, h⟩⟩
theorem gr_inv {T : Nat → Prop} {a : Nat} (hT : ∀ t, T t → pe_P t) (ha : gr_G T a) : gr_G T (pe_iv a) := by
  have hp := gr_P hT ha
  have hL := gr_L_mem hT
  have hd : ((gr_L T).map (fun b => pe_mu b a)).Nodup := by
    apply np_map_nodup _ (gr_L_nodup T)
    intro x hx y hy e
    exact pe_mu_cr hp (gr_P hT ((hL x).mp hx)).1 (gr_P hT ((hL y).mp hy)).1 e
  have hs : ∀ x, x ∈ (gr_L T).map (fun b => pe_mu b a) → x ∈ gr_L T := by
    intro x hx
    obtain ⟨b, hb, rfl⟩ := List.mem_map.mp hx
    exact (hL _).mpr (gr_mul hT ((hL b).mp hb) ha)
  have hi : pe_id ∈ (gr_L T).map (fun b => pe_mu b a) := by
    apply Classical.byContradiction
    intro hn
    have h1 : (pe_id :: (gr_L T).map (fun b => pe_mu b a)).Nodup := List.nodup_cons.mpr ⟨hn, hd⟩
    have h2 : (pe_id :: (gr_L T).map (fun b => pe_mu b a)) ⊆ gr_L T := by
      intro x hx
      rcases List.mem_cons.mp hx with rfl | hx
      · exact (hL _).mpr gr_id
      · exact hs x hx
    have h3 := h1.length_le_of_subset h2
    rw [List.length_cons, List.length_map] at h3
    omega
  obtain ⟨b, hb, e⟩ := List.mem_map.mp hi
  have hb' := (hL b).mp hb
  have hbp := gr_P hT hb'
  have e2 : b = pe_iv a := by
    rw [← pe_mu_ivr hp hbp.1]
    show pe_mu (pe_mu b a) (pe_iv a) = _
    rw [show pe_mu b a = pe_id from e, pe_id_mu (pe_iv_lt _)]
  rwa [e2] at hb'
/-! two nodup lists with the same members count alike -/
theorem gr_cnt {L M : List Nat} (hL : L.Nodup) (hM : M.Nodup) (h : ∀ g, g ∈ L ↔ g ∈ M) (p : Nat → Bool) : L.countP p = M.countP p :=
  ((List.perm_ext_iff_of_nodup hL hM).mpr h).countP_eq p
theorem gr_len {L M : List Nat} (hL : L.Nodup) (hM : M.Nodup) (h : ∀ g, g ∈ L ↔ g ∈ M) : L.length = M.length :=
  ((List.perm_ext_iff_of_nodup hL hM).mpr h).length_eq
end
section
/-! the chain of carriers -/
def cn_fx (i g : Nat) : Prop := ∀ j, j < i → pe_ap g j = j
def cn_ok (ch : Nat → Nat → Option Nat) : Prop := (∀ i, i < 6 → ch i i = some pe_id) ∧ ∀ i y c, i < 6 → y < 6 → ch i y = some c → pe_P c ∧ cn_fx i c ∧ pe_ap c i = y
def cn_si (ch : Nat → Nat → Option Nat) : Nat → Nat → Nat → Nat
  | 0, _, g => g
  | n + 1, i, g => match ch i (pe_ap g i) with
    | none => g
    | some c => cn_si ch n (i + 1) (pe_mu g (pe_iv c))
theorem cn_si_0 (ch : Nat → Nat → Option Nat) (i g : Nat) : cn_si ch 0 i g = g := rfl
theorem cn_si_n {ch : Nat → Nat → Option Nat} {n i g : Nat} (h : ch i (pe_ap g i) = none) : cn_si ch (n + 1) i g = g := by
  simp only [cn_si, h]
theorem cn_si_s {ch : Nat → Nat → Option Nat} {n i g c : Nat} (h : ch i (pe_ap g i) = some c) : cn_si ch (n + 1) i g = cn_si ch n (i + 1) (pe_mu g (pe_iv c)) := by
  simp only [cn_si, h]
theorem cn_fx_le {i j g : Nat} (h : cn_fx i g) (hj : j ≤ i) : cn_fx j g := fun k hk => h k (by omega)
theorem cn_fx_id {i : Nat} (hi : i ≤ 6) : cn_fx i pe_id := fun _ hj => pe_ap_id (by omega)
theorem cn_fx_mu {i a b : Nat} (hi : i ≤ 6) (ha : cn_fx i a) (hb : cn_fx i b) : cn_fx i (pe_mu a b) := by
  intro j hj
  rw [pe_ap_mu _ _ (by omega), ha j hj, hb j hj]
theorem cn_fx_iv {i a : Nat} (hi : i ≤ 6) (hp : pe_P a) (ha : cn_fx i a) : cn_fx i (pe_iv a) := by
  intro j hj
  have h := pe_ap_iv' hp (x := j) (by omega)
  rwa [ha j hj] at h
theorem cn_fx_st {i g c : Nat} (hi : i < 6) (hp : pe_P c) (hc : cn_fx i c) (hg : cn_fx i g) (e : pe_ap c i = pe_ap g i) : cn_fx (i + 1) (pe_mu g (pe_iv c)) := by
  intro j hj
  rcases Nat.lt_or_ge j i with h | h
  · exact cn_fx_mu (by omega) hg (cn_fx_iv (by omega) hp hc) j h
  · have : j = i := by omega
    subst this
    rw [pe_ap_mu _ _ hi, ← e, pe_ap_iv' hp hi]
theorem cn_fx6 {g : Nat} (h : g < 46656) (hf : cn_fx 6 g) : g = pe_id := by
  apply pe_ext h (by decide)
  intro x hx
  rw [hf x hx, pe_ap_id hx]
theorem cn_si_id {ch : Nat → Nat → Option Nat} (ok : cn_ok ch) : ∀ n i, i + n = 6 → cn_si ch n i pe_id = pe_id := by
  intro n
  induction n with
  | zero => intro i _; rfl
  | succ n ih =>
    intro i hi
    rw [cn_si_s (c := pe_id) (by rw [pe_ap_id (by omega)]; exact ok.1 i (by omega)), pe_iv_id, pe_mu_id (by decide)]
    exact ih (i + 1) (by omega)
/-- levels whose points are fixed are passed unchanged -/
theorem cn_si_sk {ch : Nat → Nat → Option Nat} (ok : cn_ok ch) {g : Nat} (hg : g < 46656) {m : Nat} (hf : cn_fx m g) : ∀ d i n, i + d = m → m + n = 6 → cn_si ch (d + n) i g = cn_si ch n m g := by
  intro d
  induction d with
  | zero => intro i n hi hn; have : i = m := by omega
            subst this; rw [Nat.zero_add]
  | succ d ih =>
    intro i n hi hn
    rw [show d + 1 + n = (d + n) + 1 by omega, cn_si_s (c := pe_id) (by rw [hf i (by omega)]; exact ok.1 i (by omega)), pe_iv_id, pe_mu_id hg]
    exact ih (i + 1) n (by omega) hn
/-- what is left of a sifting -/
theorem cn_res {ch : Nat → Nat → Option Nat} (ok : cn_ok ch) : ∀ n i, i + n = 6 → ∀ g, pe_P g → cn_fx i g →
    pe_P (cn_si ch n i g) ∧ (cn_si ch n i g = pe_id ∨ ∃ j, j < 6 ∧ cn_fx j (cn_si ch n i g) ∧ ch j (pe_ap (cn_si ch n i g) j) = none) := by
  intro n
  induction n with
  | zero => intro i hi g hp hf; have : i = 6 := by omega
            subst this; exact ⟨hp, Or.inl (cn_fx6 hp.1 hf)⟩
  | succ n ih =>
    intro i hi g hp hf
    cases hc : ch i (pe_ap g i) with
    | none =>
      rw [cn_si_n hc]
      exact ⟨hp, Or.inr ⟨i, by omega, hf, hc⟩⟩
    | some c =>
      rw [cn_si_s hc]
      obtain ⟨cp, cf, ci⟩ := ok.2 i _ c (by omega) (pe_ap_lt _ _) hc
      exact ih (i + 1) (by omega) _ (pe_mu_P hp (pe_iv_P cp)) (cn_fx_st (by omega) cp cf hf ci)
/-- a residue lies in every group that holds the element and the carriers; and the element in every group that holds the residue and the carriers -/
theorem cn_in {ch : Nat → Nat → Option Nat} (ok : cn_ok ch) {U : Nat → Prop} (hU : ∀ t, U t → pe_P t) : ∀ n i, i + n = 6 → (∀ j y c, i ≤ j → j < 6 → y < 6 → ch j y = some c → gr_G U c) → ∀ g, pe_P g → (gr_G U g ↔ gr_G U (cn_si ch n i g)) := by
  intro n
  induction n with
  | zero => intro i _ _ g _; exact Iff.rfl
  | succ n ih =>
    intro i hi hc g hp
    cases h : ch i (pe_ap g i) with
    | none => rw [cn_si_n h]
    | some c =>
      rw [cn_si_s h]
      obtain ⟨cp, cf, ci⟩ := ok.2 i _ c (by omega) (pe_ap_lt _ _) h
      have hg := hc i _ c (by omega) (by omega) (pe_ap_lt _ _) h
      rw [← ih (i + 1) (by omega) (fun j y c hj => hc j y c (by omega)) _ (pe_mu_P hp (pe_iv_P cp))]
      constructor
      · intro k; exact gr_mul hU k (gr_inv hU hg)
      · intro k
        have := gr_mul hU k hg
        rwa [pe_mu_ivl cp hp.1] at this
/-- Schreier and Sims -/
theorem cn_SS {ch : Nat → Nat → Option Nat} {T : Nat → Nat → Prop} (hT : ∀ i t, T i t → pe_P t ∧ cn_fx i t) (hm : ∀ i t, T (i + 1) t → T i t) (h6 : ∀ t, ¬ T 6 t) (ok : cn_ok ch)
    (cm : ∀ i y c, i < 6 → y < 6 → ch i y = some c → gr_G (T i) c)
    (oc : ∀ i y c t, i < 6 → y < 6 → ch i y = some c → T i t → ∃ c', ch i (pe_ap t y) = some c')
    (sc : ∀ i y c t c', i < 6 → y < 6 → ch i y = some c → T i t → ch i (pe_ap t y) = some c' → cn_si ch 6 0 (pe_mu (pe_mu c t) (pe_iv c')) = pe_id) :
    ∀ n i, i + n = 6 → ∀ g, pe_P g → cn_fx i g → (cn_si ch n i g = pe_id ↔ gr_G (T i) g) := by
  have hP : ∀ i t, T i t → pe_P t := fun i t h => (hT i t h).1
  intro n
  induction n with
  | zero =>
    intro i hi g hp hf
    have : i = 6 := by omega
    subst this
    have := cn_fx6 hp.1 hf
    subst this
    exact ⟨fun _ => gr_id, fun _ => rfl⟩
  | succ n ih =>
    intro i hi g hp hf
    have hi6 : i < 6 := by omega
    constructor
    · intro h
      cases hc : ch i (pe_ap g i) with
      | none =>
        rw [cn_si_n hc] at h
        subst h
        rw [pe_ap_id hi6, ok.1 i hi6] at hc
        cases hc
      | some c =>
        rw [cn_si_s hc] at h
        obtain ⟨cp, cf, ci⟩ := ok.2 i _ c hi6 (pe_ap_lt _ _) hc
        have h1 := (ih (i + 1) (by omega) _ (pe_mu_P hp (pe_iv_P cp)) (cn_fx_st hi6 cp cf hf ci)).mp h
        have h2 := gr_mono (hP i) (fun t ht => gr_in (hP i) (hm i t ht)) h1
        have h3 := gr_mul (hP i) h2 (cm i _ c hi6 (pe_ap_lt _ _) hc)
        rwa [pe_mu_ivl cp hp.1] at h3
    · intro h
      refine (h (fun g => pe_P g ∧ cn_fx i g ∧ cn_si ch (n + 1) i g = pe_id) ⟨pe_id_P, cn_fx_id (by omega), cn_si_id ok _ _ hi⟩ ?_).2.2
      rintro a t ⟨ap, af, ah⟩ ht
      obtain ⟨tp, tf⟩ := hT i t ht
      refine ⟨pe_mu_P ap tp, cn_fx_mu (by omega) af tf, ?_⟩
      cases hc : ch i (pe_ap a i) with
      | none =>
        rw [cn_si_n hc] at ah
        subst ah
        rw [pe_ap_id hi6, ok.1 i hi6] at hc
        cases hc
      | some c =>
        rw [cn_si_s hc] at ah
        obtain ⟨cp, cf, ci⟩ := ok.2 i _ c hi6 (pe_ap_lt _ _) hc
        obtain ⟨c', hc'⟩ := oc i _ c t hi6 (pe_ap_lt _ _) hc ht
        obtain ⟨cp', cf', ci'⟩ := ok.2 i _ c' hi6 (pe_ap_lt _ _) hc'
        have e : ch i (pe_ap (pe_mu a t) i) = some c' := by rw [pe_ap_mu _ _ hi6]; exact hc'
        rw [cn_si_s e]
        have wf : cn_fx (i + 1) (pe_mu (pe_mu c t) (pe_iv c')) := by
          apply cn_fx_st hi6 cp' cf' (cn_fx_mu (by omega) cf tf)
          rw [pe_ap_mu _ _ hi6, ci', ci]
        have wp : pe_P (pe_mu (pe_mu c t) (pe_iv c')) := pe_mu_P (pe_mu_P cp tp) (pe_iv_P cp')
        have ws := sc i _ c t c' hi6 (pe_ap_lt _ _) hc ht hc'
        have wk := cn_si_sk ok wp.1 wf (i + 1) 0 n (by omega) (by omega)
        rw [show i + 1 + n = 6 by omega] at wk
        rw [wk] at ws
        have w1 := (ih (i + 1) (by omega) _ wp wf).mp ws
        have a1 := (ih (i + 1) (by omega) _ (pe_mu_P ap (pe_iv_P cp)) (cn_fx_st hi6 cp cf af ci)).mp ah
        have p1 := gr_mul (hP (i + 1)) a1 w1
        have e2 : pe_mu (pe_mu a (pe_iv c)) (pe_mu (pe_mu c t) (pe_iv c')) = pe_mu (pe_mu a t) (pe_iv c') := by
          rw [← pe_mu_assoc, ← pe_mu_assoc, pe_mu_ivl cp ap.1]
        rw [e2] at p1
        refine (ih (i + 1) (by omega) _ (pe_mu_P (pe_mu_P ap tp) (pe_iv_P cp')) ?_).mpr p1
        apply cn_fx_st hi6 cp' cf' (cn_fx_mu (by omega) af tf)
        rw [ci', pe_ap_mu _ _ hi6]
end
section
/-! all elements of the group along the chain -/
/-- the carriers of level i for points from t on -/
def el_O (ch : Nat → Nat → Option Nat) (i t : Nat) : List Nat := (List.range' t (6 - t)).filterMap (ch i)
theorem el_O6 (ch : Nat → Nat → Option Nat) (i : Nat) : el_O ch i 6 = [] := rfl
theorem el_On {ch : Nat → Nat → Option Nat} {i t : Nat} (ht : t < 6) (h : ch i t = none) : el_O ch i t = el_O ch i (t + 1) := by
  unfold el_O
  rw [show 6 - t = (6 - (t + 1)) + 1 by omega, List.range'_succ, List.filterMap_cons_none h]
theorem el_Os {ch : Nat → Nat → Option Nat} {i t c : Nat} (ht : t < 6) (h : ch i t = some c) : el_O ch i t = c :: el_O ch i (t + 1) := by
  unfold el_O
  rw [show 6 - t = (6 - (t + 1)) + 1 by omega, List.range'_succ, List.filterMap_cons_some h]
theorem el_O_mem {ch : Nat → Nat → Option Nat} {i t c : Nat} : c ∈ el_O ch i t ↔ ∃ y, t ≤ y ∧ y < 6 ∧ ch i y = some c := by
  unfold el_O
  rw [List.mem_filterMap]
  constructor
  · rintro ⟨y, hy, e⟩
    rw [List.mem_range'_1] at hy
    exact ⟨y, hy.1, by omega, e⟩
  · rintro ⟨y, h1, h2, e⟩
    exact ⟨y, List.mem_range'_1.mpr ⟨h1, by omega⟩, e⟩
/-- only points from i on are reached -/
theorem el_ge {ch : Nat → Nat → Option Nat} (ok : cn_ok ch) {i y c : Nat} (hi : i < 6) (hy : y < 6) (h : ch i y = some c) : i ≤ y := by
  obtain ⟨cp, cf, ci⟩ := ok.2 i y c hi hy h
  apply Classical.byContradiction
  intro hn
  have h1 := cf y (by omega)
  have := pe_P_inj cp hy hi (h1.trans ci.symm)
  omega
theorem el_O_len {ch : Nat → Nat → Option Nat} (ok : cn_ok ch) {i : Nat} (hi : i < 6) : (el_O ch i 0).length ≤ 6 - i := by
  have k : ∀ d t, t + d = 6 → (el_O ch i t).length ≤ 6 - t := by
    intro d
    induction d with
    | zero => intro t ht; have : t = 6 := by omega
              subst this; rw [el_O6]; exact Nat.zero_le _
    | succ d ih =>
      intro t ht
      have := ih (t + 1) (by omega)
      cases h : ch i t with
      | none => rw [el_On (by omega) h]; omega
      | some c => rw [el_Os (by omega) h, List.length_cons]; omega
  have s : ∀ t, t ≤ i → el_O ch i 0 = el_O ch i t := by
    intro t
    induction t with
    | zero => intro _; rfl
    | succ t ih =>
      intro ht
      rw [ih (by omega)]
      apply el_On (by omega)
      cases h : ch i t with
      | none => rfl
      | some c => exact absurd (el_ge ok hi (by omega) h) (by omega)
  rw [s i (by omega)]
  exact k (6 - i) i (by omega)
theorem el_O_pos {ch : Nat → Nat → Option Nat} (ok : cn_ok ch) {i : Nat} (hi : i < 6) : 0 < (el_O ch i 0).length :=
  List.length_pos_of_mem (el_O_mem.mpr ⟨i, by omega, hi, ok.1 i hi⟩)
def el_T (ch : Nat → Nat → Option Nat) : Nat → Nat → Nat → List Nat
  | 0, _, h => [h]
  | n + 1, i, h => (el_O ch i 0).flatMap (fun c => el_T ch n (i + 1) (pe_mu c h))
theorem el_T_mem {ch : Nat → Nat → Option Nat} (ok : cn_ok ch) : ∀ n i, i + n = 6 → ∀ h, pe_P h → ∀ g, g ∈ el_T ch n i h ↔ ∃ r, pe_P r ∧ cn_fx i r ∧ cn_si ch n i r = pe_id ∧ g = pe_mu r h := by
  intro n
  induction n with
  | zero =>
    intro i hi h hh g
    have : i = 6 := by omega
    subst this
    show g ∈ [h] ↔ _
    rw [List.mem_singleton]
    constructor
    · rintro rfl
      exact ⟨pe_id, pe_id_P, cn_fx_id (by omega), rfl, (pe_id_mu hh.1).symm⟩
    · rintro ⟨r, _, _, hr, rfl⟩
      rw [show r = pe_id from hr, pe_id_mu hh.1]
  | succ n ih =>
    intro i hi h hh g
    show g ∈ (el_O ch i 0).flatMap (fun c => el_T ch n (i + 1) (pe_mu c h)) ↔ _
    rw [List.mem_flatMap]
    constructor
    · rintro ⟨c, hc, hg⟩
      obtain ⟨y, _, hy, e⟩ := el_O_mem.mp hc
      obtain ⟨cp, cf, ci⟩ := ok.2 i y c (by omega) hy e
      obtain ⟨r, rp, rf, rs, rfl⟩ := (ih (i + 1) (by omega) _ (pe_mu_P cp hh) g).mp hg
      refine ⟨pe_mu r c, pe_mu_P rp cp, cn_fx_mu (by omega) (cn_fx_le rf (by omega)) cf, ?_, (pe_mu_assoc _ _ _).symm⟩
      rw [cn_si_s (c := c) (by rw [pe_ap_mu _ _ (by omega), rf i (by omega), ci]; exact e), pe_mu_ivr cp rp.1]
      exact rs
    · rintro ⟨r, rp, rf, rs, rfl⟩
      cases hc : ch i (pe_ap r i) with
      | none =>
        rw [cn_si_n hc] at rs
        subst rs
        rw [pe_ap_id (by omega), ok.1 i (by omega)] at hc
        cases hc
      | some c =>
        rw [cn_si_s hc] at rs
        obtain ⟨cp, cf, ci⟩ := ok.2 i _ c (by omega) (pe_ap_lt _ _) hc
        refine ⟨c, el_O_mem.mpr ⟨_, by omega, pe_ap_lt _ _, hc⟩, ?_⟩
        refine (ih (i + 1) (by omega) _ (pe_mu_P cp hh) _).mpr ⟨pe_mu r (pe_iv c), pe_mu_P rp (pe_iv_P cp), cn_fx_st (by omega) cp cf rf ci, rs, ?_⟩
        rw [← pe_mu_assoc, pe_mu_ivl cp rp.1]
theorem el_O_nodup {ch : Nat → Nat → Option Nat} (ok : cn_ok ch) {i : Nat} (hi : i < 6) : ∀ d t, t + d = 6 → (el_O ch i t).Nodup := by
  intro d
  induction d with
  | zero => intro t ht; have : t = 6 := by omega
            subst this; exact List.nodup_nil
  | succ d ih =>
    intro t ht
    cases h : ch i t with
    | none => rw [el_On (by omega) h]; exact ih (t + 1) (by omega)
    | some c =>
      rw [el_Os (by omega) h, List.nodup_cons]
      refine ⟨fun hm => ?_, ih (t + 1) (by omega)⟩
      obtain ⟨y, h1, h2, e⟩ := el_O_mem.mp hm
      have e1 := (ok.2 i y c hi h2 e).2.2
      have e2 := (ok.2 i t c hi (by omega) h).2.2
      omega
theorem el_T_nodup {ch : Nat → Nat → Option Nat} (ok : cn_ok ch) : ∀ n i, i + n = 6 → ∀ h, pe_P h → (el_T ch n i h).Nodup := by
  intro n
  induction n with
  | zero => intro i _ h _; exact List.nodup_cons.mpr ⟨(fun z => by cases z), List.nodup_nil⟩
  | succ n ih =>
    intro i hi h hh
    show ((el_O ch i 0).flatMap (fun c => el_T ch n (i + 1) (pe_mu c h))).Nodup
    rw [List.nodup_iff_pairwise_ne, List.pairwise_flatMap]
    constructor
    · intro c hc
      obtain ⟨y, _, hy, e⟩ := el_O_mem.mp hc
      exact ih (i + 1) (by omega) _ (pe_mu_P (ok.2 i y c (by omega) hy e).1 hh)
    · refine List.Pairwise.imp_of_mem ?_ (el_O_nodup ok (by omega) 6 0 rfl)
      intro a b ha hb hn x hx z hz e
      obtain ⟨y1, _, hy1, e1⟩ := el_O_mem.mp ha
      obtain ⟨y2, _, hy2, e2⟩ := el_O_mem.mp hb
      obtain ⟨ap, af, ai⟩ := ok.2 i y1 a (by omega) hy1 e1
      obtain ⟨bp, bf, bi⟩ := ok.2 i y2 b (by omega) hy2 e2
      obtain ⟨r1, _, f1, _, rfl⟩ := (el_T_mem ok n (i + 1) (by omega) _ (pe_mu_P ap hh) x).mp hx
      obtain ⟨r2, _, f2, _, rfl⟩ := (el_T_mem ok n (i + 1) (by omega) _ (pe_mu_P bp hh) z).mp hz
      have k : pe_ap (pe_mu r1 (pe_mu a h)) i = pe_ap (pe_mu r2 (pe_mu b h)) i := congrArg (fun g => pe_ap g i) e
      rw [pe_ap_mu _ _ (by omega), f1 i (by omega), pe_ap_mu _ _ (by omega), pe_ap_mu _ _ (by omega), f2 i (by omega), pe_ap_mu _ _ (by omega), ai, bi] at k
      have := pe_P_inj hh hy1 hy2 k
      subst this
      exact hn (Option.some.inj (e1.symm.trans e2))
def el_N (ch : Nat → Nat → Option Nat) : Nat → Nat → Nat
  | 0, _ => 1
  | n + 1, i => (el_O ch i 0).length * el_N ch n (i + 1)
theorem el_flat_len {l : List Nat} {f : Nat → List Nat} {N : Nat} (h : ∀ c, c ∈ l → (f c).length = N) : (l.flatMap f).length = l.length * N := by
  induction l with
  | nil => simp
  | cons a t ih =>
    rw [List.flatMap_cons, List.length_append, h a List.mem_cons_self, ih (fun c hc => h c (List.mem_cons_of_mem _ hc)), List.length_cons, Nat.succ_mul, Nat.add_comm]
theorem el_T_len (ch : Nat → Nat → Option Nat) : ∀ n i h, (el_T ch n i h).length = el_N ch n i := by
  intro n
  induction n with
  | zero => intro i h; rfl
  | succ n ih => intro i h; exact el_flat_len (fun c _ => ih _ _)
/-- the elements by number -/
def el_el (ch : Nat → Nat → Option Nat) : Nat → Nat → Nat → Nat → Nat
  | 0, _, h, _ => h
  | n + 1, i, h, k => el_el ch n (i + 1) (pe_mu ((el_O ch i 0).getD (k % (el_O ch i 0).length) pe_id) h) (k / (el_O ch i 0).length)
theorem el_getD_mem {l : List Nat} {w d : Nat} (h : w < l.length) : l.getD w d ∈ l := by
  rw [List.getD_eq_getElem?_getD, List.getElem?_eq_getElem h]
  exact List.getElem_mem h
theorem el_el_mem {ch : Nat → Nat → Option Nat} (ok : cn_ok ch) : ∀ n i, i + n = 6 → ∀ h k, k < el_N ch n i → el_el ch n i h k ∈ el_T ch n i h := by
  intro n
  induction n with
  | zero => intro i _ h k _; exact List.mem_singleton.mpr rfl
  | succ n ih =>
    intro i hi h k hk
    have hk' : k < (el_O ch i 0).length * el_N ch n (i + 1) := hk
    have hs := el_O_pos ok (i := i) (by omega)
    show el_el ch n (i + 1) _ _ ∈ (el_O ch i 0).flatMap (fun c => el_T ch n (i + 1) (pe_mu c h))
    rw [List.mem_flatMap]
    exact ⟨_, el_getD_mem (Nat.mod_lt _ hs), ih (i + 1) (by omega) _ _ (Nat.div_lt_of_lt_mul hk')⟩
theorem el_el_sur {ch : Nat → Nat → Option Nat} (ok : cn_ok ch) : ∀ n i, i + n = 6 → ∀ h g, g ∈ el_T ch n i h → ∃ k, k < el_N ch n i ∧ el_el ch n i h k = g := by
  intro n
  induction n with
  | zero => intro i _ h g hg; exact ⟨0, Nat.one_pos, (List.mem_singleton.mp hg).symm⟩
  | succ n ih =>
    intro i hi h g hg
    have hs := el_O_pos ok (i := i) (by omega)
    have hg' : g ∈ (el_O ch i 0).flatMap (fun c => el_T ch n (i + 1) (pe_mu c h)) := hg
    rw [List.mem_flatMap] at hg'
    obtain ⟨c, hc, hg'⟩ := hg'
    obtain ⟨w, hw, rfl⟩ := List.getElem_of_mem hc
    obtain ⟨m, hm, e⟩ := ih (i + 1) (by omega) _ g hg'
    refine ⟨w + (el_O ch i 0).length * m, ?_, ?_⟩
    · show _ < (el_O ch i 0).length * el_N ch n (i + 1)
      have h1 : (el_O ch i 0).length * m + (el_O ch i 0).length ≤ (el_O ch i 0).length * el_N ch n (i + 1) := by
        rw [← Nat.mul_succ]
        exact Nat.mul_le_mul_left _ hm
      omega
    · show el_el ch n (i + 1) (pe_mu ((el_O ch i 0).getD ((w + (el_O ch i 0).length * m) % (el_O ch i 0).length) pe_id) h) ((w + (el_O ch i 0).length * m) / (el_O ch i 0).length) = g
      rw [Nat.add_mul_mod_self_left, Nat.mod_eq_of_lt hw, Nat.add_mul_div_left _ _ hs, Nat.div_eq_of_lt hw, Nat.zero_add, List.getD_eq_getElem?_getD, List.getElem?_eq_getElem hw]
      exact e
def el_E (ch : Nat → Nat → Option Nat) : List Nat := (List.range (el_N ch 6 0)).map (el_el ch 6 0 pe_id)
theorem el_nodup_of : ∀ (E T : List Nat), T.Nodup → (∀ x, x ∈ T → x ∈ E) → E.length ≤ T.length → E.Nodup := by
  intro E
  induction E with
  | nil => intro T _ _ _; exact List.nodup_nil
  | cons a E ih =>
    intro T hT hs hl
    rw [List.length_cons] at hl
    have ha : a ∈ T := by
      apply Classical.byContradiction
      intro hn
      have : T ⊆ E := fun x hx => by
        rcases List.mem_cons.mp (hs x hx) with e | h
        · subst e; exact absurd hx hn
        · exact h
      have := hT.length_le_of_subset this
      omega
    rw [List.nodup_cons]
    constructor
    · intro hm
      have : T ⊆ E := fun x hx => by
        rcases List.mem_cons.mp (hs x hx) with e | h
        · subst e; exact hm
        · exact h
      have := hT.length_le_of_subset this
      omega
    · apply ih (T.erase a) (hT.erase a)
      · intro x hx
        rw [hT.mem_erase_iff] at hx
        rcases List.mem_cons.mp (hs x hx.2) with e | h
        · exact absurd e hx.1
        · exact h
      · rw [List.length_erase_of_mem ha]
        omega
theorem el_E_mem {ch : Nat → Nat → Option Nat} (ok : cn_ok ch) (g : Nat) : g ∈ el_E ch ↔ g ∈ el_T ch 6 0 pe_id := by
  unfold el_E
  rw [List.mem_map]
  constructor
  · rintro ⟨k, hk, rfl⟩
    exact el_el_mem ok 6 0 rfl pe_id k (List.mem_range.mp hk)
  · intro h
    obtain ⟨k, hk, e⟩ := el_el_sur ok 6 0 rfl pe_id g h
    exact ⟨k, List.mem_range.mpr hk, e⟩
theorem el_E_nodup {ch : Nat → Nat → Option Nat} (ok : cn_ok ch) : (el_E ch).Nodup := by
  apply el_nodup_of _ _ (el_T_nodup ok 6 0 rfl pe_id pe_id_P) (fun x hx => (el_E_mem ok x).mpr hx)
  rw [el_T_len]
  unfold el_E
  rw [List.length_map, List.length_range]
  exact Nat.le_refl _
theorem el_T0_mem {ch : Nat → Nat → Option Nat} (ok : cn_ok ch) (g : Nat) : g ∈ el_T ch 6 0 pe_id ↔ pe_P g ∧ cn_si ch 6 0 g = pe_id := by
  rw [el_T_mem ok 6 0 rfl pe_id pe_id_P g]
  constructor
  · rintro ⟨r, rp, _, rs, rfl⟩
    rw [pe_mu_id rp.1]
    exact ⟨rp, rs⟩
  · rintro ⟨gp, gs⟩
    exact ⟨g, gp, fun _ h => absurd h (by omega), gs, (pe_mu_id gp.1).symm⟩
end
section
/-! X's arithmetic on permutations -/
def ex (g : Nat) : Int32 := nI (pe_e8 g)
theorem xb_or (a b : Nat) : nI a ||| nI b = nI (a ||| b) := by
  apply Int32.toBitVec_inj.1
  show BitVec.ofNat 32 a ||| BitVec.ofNat 32 b = BitVec.ofNat 32 (a ||| b)
  rw [BitVec.ofNat_or]
theorem xb_shl {n k : Nat} (hk : k < 32) (h : n * 2 ^ k < 2 ^ 32) : nI n <<< (nI k &&& 31) = nI (n <<< k) := by
  rw [pk_shlN _ k (s_l k hk) h, Nat.shiftLeft_eq]
theorem xb_shr {n k : Nat} (hk : k < 32) (h : n < 2 ^ 31) : nI n >>> (nI k &&& 31) = nI (n / 2 ^ k) := pk_shrN h _ k (s_l k hk)
theorem xb_1shl {k : Nat} (hk : k < 32) : (1 : Int32) <<< (nI k &&& 31) = nI (1 <<< k) := by
  refine (xb_shl (n := 1) hk ?_)
  have : 2 ^ k < 2 ^ 32 := Nat.pow_lt_pow_right (by decide) hk
  omega
theorem xb_bit {s k : Nat} (hs : s < 2 ^ 31) (hk : k < 32) : (nI s >>> (nI k &&& 31)) &&& 1 = nI (s / 2 ^ k % 2) := by
  rw [xb_shr hk hs]
  have : s / 2 ^ k ≤ s := Nat.div_le_self _ _
  exact pk_andN (m := 1) (by omega) 1 (by decide)
theorem xb_bit1 {s k : Nat} (hs : s < 2 ^ 31) (hk : k < 32) : ((nI s >>> (nI k &&& 31)) &&& 1) = 1 ↔ s.testBit k = true := by
  rw [xb_bit hs hk, show (1 : Int32) = nI 1 from rfl, nI_eq (by omega) (by omega), Nat.testBit_eq_decide_div_mod_eq, decide_eq_true_eq]
theorem xb_bit0 {s k : Nat} (hs : s < 2 ^ 31) (hk : k < 32) : ((nI s >>> (nI k &&& 31)) &&& 1) = 0 ↔ s.testBit k = false := by
  rw [xb_bit hs hk, show (0 : Int32) = nI 0 from rfl, nI_eq (by omega) (by omega), Nat.testBit_eq_decide_div_mod_eq, decide_eq_false_iff_not]
  generalize s / 2 ^ k = z
  omega
theorem pe_e8_lt (g : Nat) : pe_e8 g < 262144 := by
  have h0 := pe_ap_lt g 0
  have h1 := pe_ap_lt g 1
  have h2 := pe_ap_lt g 2
  have h3 := pe_ap_lt g 3
  have h4 := pe_ap_lt g 4
  have h5 := pe_ap_lt g 5
  unfold pe_e8
  omega
theorem xb_ar (a b c d e f : Nat) (ha : a < 8) (hb : b < 8) (hc : c < 8) (hd : d < 8) (he : e < 8) (hf : f < 8) :
    (a + 8 * b + 64 * c + 512 * d + 4096 * e + 32768 * f) / 1 % 8 = a ∧
    (a + 8 * b + 64 * c + 512 * d + 4096 * e + 32768 * f) / 8 % 8 = b ∧
    (a + 8 * b + 64 * c + 512 * d + 4096 * e + 32768 * f) / 64 % 8 = c ∧
    (a + 8 * b + 64 * c + 512 * d + 4096 * e + 32768 * f) / 512 % 8 = d ∧
    (a + 8 * b + 64 * c + 512 * d + 4096 * e + 32768 * f) / 4096 % 8 = e ∧
    (a + 8 * b + 64 * c + 512 * d + 4096 * e + 32768 * f) / 32768 % 8 = f := by
  refine ⟨by omega, by omega, by omega, by omega, by omega, by omega⟩
theorem pe_e8_dg (g : Nat) {x : Nat} (hx : x < 6) : pe_e8 g / 2 ^ (3 * x) % 8 = pe_ap g x := by
  have k : ∀ y, pe_ap g y < 8 := fun y => Nat.lt_of_lt_of_le (pe_ap_lt g y) (by decide)
  obtain ⟨e0, e1, e2, e3, e4, e5⟩ := xb_ar (pe_ap g 0) (pe_ap g 1) (pe_ap g 2) (pe_ap g 3) (pe_ap g 4) (pe_ap g 5) (k 0) (k 1) (k 2) (k 3) (k 4) (k 5)
  exact pe_c6 (Q := fun x => pe_e8 g / 2 ^ (3 * x) % 8 = pe_ap g x) e0 e1 e2 e3 e4 e5 hx
theorem ex_inj {g h : Nat} (hg : g < 46656) (hh : h < 46656) (e : ex g = ex h) : g = h := by
  have h1 := pe_e8_lt g
  have h2 := pe_e8_lt h
  have e2 : pe_e8 g = pe_e8 h := (nI_eq (by omega) (by omega)).mp e
  apply pe_ext hg hh
  intro x hx
  rw [← pe_e8_dg g hx, ← pe_e8_dg h hx, e2]
theorem ex_id : ex pe_id = 181896 := by decide
theorem ex_n4 (g : Nat) : ¬ ex g = -4 := by
  have h1 := pe_e8_lt g
  intro e
  have h2 : (ex g).toInt = (pe_e8 g : Int) := nI_toInt (by omega)
  rw [e, show (-4 : Int32).toInt = -4 by decide] at h2
  omega
theorem xb_dg' (g : Nat) {x : Nat} (hx : x < 6) : (ex g >>> (nI (3 * x) &&& 31)) &&& 7 = nI (pe_ap g x) := by
  have h1 := pe_e8_lt g
  unfold ex
  rw [xb_shr (by omega) (by omega)]
  have : pe_e8 g / 2 ^ (3 * x) ≤ pe_e8 g := Nat.div_le_self _ _
  rw [pk_andN (m := 7) (by omega) 3 (by decide)]
  exact congrArg nI (pe_e8_dg g hx)
theorem xb_3 (x : Nat) : (3 : Int32) * nI x = nI (3 * x) := pk_mul 3 x
theorem xb_dg (g : Nat) {x : Nat} (hx : x < 6) : (ex g >>> ((3 * nI x) &&& 31)) &&& 7 = nI (pe_ap g x) := by
  rw [xb_3, xb_dg' g hx]
theorem xw_digit {post : Int32 → Prop} {u : SX} {g x : Nat} (hx : x < 6) (hp : post (nI (pe_ap g x))) : wpX_digit post u (ex g) (nI x) := by
  obtain ⟨co, bu, sc, wa, ot, ws, ge, ca, cb, st, sl, tr, sf⟩ := u
  show post ((ex g >>> ((3 * nI x) &&& 31)) &&& 7)
  rw [xb_dg g hx]
  exact hp
/-- the octal number of the first k digits of f -/
def xb_pt (f : Nat → Nat) : Nat → Nat
  | 0 => 0
  | k + 1 => xb_pt f k + f k * 2 ^ (3 * k)
theorem xb_pt_lt {f : Nat → Nat} (h : ∀ x, f x < 8) : ∀ k, xb_pt f k < 2 ^ (3 * k) := by
  intro k
  induction k with
  | zero => exact Nat.one_pos
  | succ k ih =>
    show xb_pt f k + f k * 2 ^ (3 * k) < 2 ^ (3 * (k + 1))
    have h1 : f k * 2 ^ (3 * k) ≤ 7 * 2 ^ (3 * k) := Nat.mul_le_mul_right _ (by have := h k; omega)
    have h2 : 2 ^ (3 * (k + 1)) = 8 * 2 ^ (3 * k) := by rw [show 3 * (k + 1) = 3 * k + 3 by omega, Nat.pow_add, Nat.mul_comm]
    omega
theorem xb_pt_or {f : Nat → Nat} (h : ∀ x, f x < 8) {k : Nat} (hk : k < 6) : nI (xb_pt f k) ||| (nI (f k) <<< (nI (3 * k) &&& 31)) = nI (xb_pt f (k + 1)) := by
  have h8 := h k
  have hl := xb_pt_lt h k
  have hb : 2 ^ (3 * k) ≤ 2 ^ 15 := Nat.pow_le_pow_right (by decide) (by omega)
  have h1 : f k * 2 ^ (3 * k) ≤ 7 * 2 ^ 15 := Nat.mul_le_mul (by omega) hb
  rw [xb_shl (by omega) (by omega), xb_or, Nat.or_comm, ← Nat.shiftLeft_add_eq_or_of_lt hl, Nat.shiftLeft_eq, Nat.add_comm]
  rfl
theorem xb_pt_ap (g : Nat) : nI (xb_pt (pe_ap g) 6) = ex g := by
  apply congrArg nI
  show 0 + pe_ap g 0 * 1 + pe_ap g 1 * 8 + pe_ap g 2 * 64 + pe_ap g 3 * 512 + pe_ap g 4 * 4096 + pe_ap g 5 * 32768 = _
  unfold pe_e8
  omega
theorem xb_pt_ext {f h : Nat → Nat} (e : ∀ x, x < 6 → f x = h x) : ∀ k, k ≤ 6 → xb_pt f k = xb_pt h k := by
  intro k
  induction k with
  | zero => intro _; rfl
  | succ k ih =>
    intro hk
    show xb_pt f k + f k * 2 ^ (3 * k) = xb_pt h k + h k * 2 ^ (3 * k)
    rw [ih (by omega), e k (by omega)]
theorem pe_ap8 (g x : Nat) : pe_ap g x < 8 := Nat.lt_of_lt_of_le (pe_ap_lt g x) (by decide)
theorem pe_mk_lt (g : Nat) : ∀ n, pe_mk g n < 64 := by
  intro n
  induction n with
  | zero => exact (by decide : 0 < 64)
  | succ n ih =>
    show pe_mk g n ||| (1 <<< pe_ap g n) < 64
    apply Nat.or_lt_two_pow (n := 6) ih
    rw [pe_sh1]
    exact Nat.pow_lt_pow_right (by decide) (pe_ap_lt _ _)
section
variable {co bu sc wa ot ws : Int32} {ge ca cb st sl tr sf : Nat → Int32}
theorem xl_times {post : Int32 → Prop} {g h : Nat} (hp : post (ex (pe_mu g h))) : ∀ d k n, k + d = 6 → d < n → wX_times_5 post (ex g) (ex h) co bu sc wa ot ws ge ca cb st sl tr sf n (nI (xb_pt (fun x => pe_ap h (pe_ap g x)) k)) (nI (3 * k)) := by
  intro d
  induction d with
  | zero =>
    intro k n hk hn
    obtain ⟨n, rfl⟩ : ∃ m, n = m + 1 := ⟨n - 1, by omega⟩
    have : k = 6 := by omega
    subst this
    refine br_t (by decide) ?_
    have e := xb_pt_ext (f := fun x => pe_ap h (pe_ap g x)) (h := pe_ap (pe_mu g h)) (fun x hx => (pe_ap_mu g h hx).symm) 6 (by omega)
    rw [e, xb_pt_ap]
    exact hp
  | succ d ih =>
    intro k n hk hn
    obtain ⟨n, rfl⟩ : ∃ m, n = m + 1 := ⟨n - 1, by omega⟩
    refine br_f (nI_ge (b := 18) (by omega) (by decide)) (nm_r ?_ (nm_r ?_ (ih (k + 1) n (by omega) (by omega))))
    · rw [xb_dg' g (by omega), xb_dg h (pe_ap_lt _ _)]
      exact xb_pt_or (f := fun x => pe_ap h (pe_ap g x)) (fun x => pe_ap8 _ _) (by omega)
    · exact nI_add (3 * k) 3
theorem xw_times {post : Int32 → Prop} {u : SX} {g h : Nat} (hp : post (ex (pe_mu g h))) : wpX_times post u (ex g) (ex h) := by
  obtain ⟨co, bu, sc, wa, ot, ws, ge, ca, cb, st, sl, tr, sf⟩ := u
  exact ⟨7, xl_times hp 6 0 7 rfl (by omega)⟩
theorem xl_inv {post : Int32 → Prop} {g : Nat} (hg : pe_P g) (hp : post (ex (pe_iv g))) : ∀ d k n, k + d = 6 → d < n → wX_inverted_4 post (ex g) co bu sc wa ot ws ge ca cb st sl tr sf n (nI (np_xi g k)) (nI k) := by
  intro d
  induction d with
  | zero =>
    intro k n hk hn
    obtain ⟨n, rfl⟩ : ∃ m, n = m + 1 := ⟨n - 1, by omega⟩
    have : k = 6 := by omega
    subst this
    refine br_t (by decide) ?_
    rw [np_xi_iv hg]
    exact hp
  | succ d ih =>
    intro k n hk hn
    obtain ⟨n, rfl⟩ : ∃ m, n = m + 1 := ⟨n - 1, by omega⟩
    refine br_f (nI_ge (b := 6) (by omega) (by decide)) (nm_r ?_ (nm_r (nI_1 k) (ih (k + 1) n (by omega) (by omega))))
    have h6 := pe_ap_lt g k
    have hb : 2 ^ (3 * pe_ap g k) ≤ 2 ^ 15 := Nat.pow_le_pow_right (by decide) (by omega)
    have h1 : k * 2 ^ (3 * pe_ap g k) ≤ 5 * 2 ^ 15 := Nat.mul_le_mul (by omega) hb
    rw [xb_dg g (by omega), xb_3, xb_shl (by omega) (by omega), xb_or]
    rfl
theorem xw_inv {post : Int32 → Prop} {u : SX} {g : Nat} (hg : pe_P g) (hp : post (ex (pe_iv g))) : wpX_inverted post u (ex g) := by
  obtain ⟨co, bu, sc, wa, ot, ws, ge, ca, cb, st, sl, tr, sf⟩ := u
  exact ⟨7, xl_inv hg hp 6 0 7 rfl (by omega)⟩
theorem xw_conj {post : Int32 → Prop} {u : SX} {g h : Nat} (hh : pe_P h) (hp : post (ex (pe_mu (pe_mu (pe_iv h) g) h))) : wpX_conjugated post u (ex g) (ex h) := by
  obtain ⟨co, bu, sc, wa, ot, ws, ge, ca, cb, st, sl, tr, sf⟩ := u
  unfold wpX_conjugated
  dsimp only
  refine xw_inv hh ?_
  refine xw_times ?_
  exact xw_times hp
theorem xl_from {post : Int32 → Prop} {g : Nat} (hg : g < 46656) (hp : post (ex g)) : ∀ d k n, k + d = 6 → d < n → wX_fromOutside_7 post co bu sc wa ot ws ge ca cb st sl tr sf n (nI (xb_pt (pe_ap g) k)) (nI (g / 6 ^ k)) (nI k) := by
  intro d
  induction d with
  | zero =>
    intro k n hk hn
    obtain ⟨n, rfl⟩ : ∃ m, n = m + 1 := ⟨n - 1, by omega⟩
    have : k = 6 := by omega
    subst this
    refine br_t (by decide) ?_
    rw [xb_pt_ap]
    exact hp
  | succ d ih =>
    intro k n hk hn
    obtain ⟨n, rfl⟩ : ∃ m, n = m + 1 := ⟨n - 1, by omega⟩
    have hq : g / 6 ^ k ≤ g := Nat.div_le_self _ _
    refine br_f (nI_ge (b := 6) (by omega) (by decide)) ⟨by decide, nm_r ?_ ⟨by decide, nm_r ?_ (nm_r (nI_1 k) (ih (k + 1) n (by omega) (by omega)))⟩⟩
    · have e : nI (g / 6 ^ k) - nI (g / 6 ^ k) / 6 * 6 = nI (pe_ap g k) := pk_rem (d := 6) (by omega) (by omega) (by omega)
      rw [e, xb_3]
      exact xb_pt_or (pe_ap8 g) (by omega)
    · have e : nI (g / 6 ^ k) / 6 = nI (g / 6 ^ k / 6) := pk_div (d := 6) (by omega) (by omega) (by omega)
      rw [e, Nat.div_div_eq_div_mul, ← Nat.pow_succ]
theorem xw_from {post : Int32 → Prop} {u : SX} {g : Nat} (hg : g < 46656) (hp : post (ex g)) : wpX_fromOutside post u (nI g) := by
  obtain ⟨co, bu, sc, wa, ot, ws, ge, ca, cb, st, sl, tr, sf⟩ := u
  refine ⟨7, ?_⟩
  have e : nI g = nI (g / 6 ^ 0) := congrArg nI (Nat.div_one g).symm
  rw [e]
  exact xl_from hg hp 6 0 7 rfl (by omega)
theorem xb_hn (g : Nat) (k : Nat) : nI (g / 6 ^ (k + 1)) * 6 + nI (pe_ap g k) = nI (g / 6 ^ k) := by
  have e : nI (g / 6 ^ (k + 1)) * 6 = nI (g / 6 ^ (k + 1) * 6) := pk_mul _ 6
  rw [e, nI_add]
  apply congrArg nI
  unfold pe_ap
  rw [Nat.pow_succ, ← Nat.div_div_eq_div_mul]
  generalize g / 6 ^ k = q
  omega
theorem xl_to {post : Int32 → Prop} {g : Nat} (hp : post (nI g)) : ∀ k n, k + 1 < n → k < 6 → wX_toOutside_4 post (ex g) co bu sc wa ot ws ge ca cb st sl tr sf n (nI (g / 6 ^ (k + 1))) (nI k) := by
  intro k
  induction k with
  | zero =>
    intro n hn _
    obtain ⟨n, rfl⟩ : ∃ m, n = m + 2 := ⟨n - 2, by omega⟩
    refine br_f (by decide) (nm_r (e' := nI g) ?_ (nm_r (e' := -1) (by decide) (br_t (by decide) hp)))
    rw [xb_dg g (by omega), xb_hn]
    exact congrArg nI (Nat.div_one g)
  | succ k ih =>
    intro n hn hk
    obtain ⟨n, rfl⟩ : ∃ m, n = m + 1 := ⟨n - 1, by omega⟩
    refine br_f (nI_pos (by omega)) (nm_r ?_ (nm_r (pk_m1 k) (ih n (by omega) (by omega))))
    rw [xb_dg g hk, xb_hn]
theorem xw_to {post : Int32 → Prop} {u : SX} {g : Nat} (hg : g < 46656) (hp : post (nI g)) : wpX_toOutside post u (ex g) := by
  obtain ⟨co, bu, sc, wa, ot, ws, ge, ca, cb, st, sl, tr, sf⟩ := u
  refine ⟨8, ?_⟩
  have e : (0 : Int32) = nI (g / 6 ^ (5 + 1)) := by
    rw [Nat.div_eq_of_lt (show g < 6 ^ (5 + 1) from hg)]
    rfl
  rw [e]
  exact xl_to hp 5 8 (by omega) (by omega)
theorem xl_bad {post : Int32 → Prop} {g : Nat} (hg : g < 46656) (hp : pe_mk g 6 = 63 → post 0) (hq : pe_mk g 6 ≠ 63 → post 1) : ∀ d k n, k + d = 6 → d < n → wX_bad_19 post co bu sc wa ot ws ge ca cb st sl tr sf n (nI (pe_mk g k)) (nI (g / 6 ^ k)) (nI k) := by
  intro d
  induction d with
  | zero =>
    intro k n hk hn
    obtain ⟨n, rfl⟩ : ∃ m, n = m + 1 := ⟨n - 1, by omega⟩
    have : k = 6 := by omega
    subst this
    refine br_t (by decide) ?_
    have hb := pe_mk_lt g 6
    exact pk_eq (pe_mk g 6) 63 hp hq
  | succ d ih =>
    intro k n hk hn
    obtain ⟨n, rfl⟩ : ∃ m, n = m + 1 := ⟨n - 1, by omega⟩
    have hq : g / 6 ^ k ≤ g := Nat.div_le_self _ _
    refine br_f (nI_ge (b := 6) (by omega) (by decide)) ⟨by decide, nm_r ?_ ⟨by decide, nm_r ?_ (nm_r (nI_1 k) (ih (k + 1) n (by omega) (by omega)))⟩⟩
    · have e : nI (g / 6 ^ k) - nI (g / 6 ^ k) / 6 * 6 = nI (pe_ap g k) := pk_rem (d := 6) (by omega) (by omega) (by omega)
      have h6 := pe_ap_lt g k
      rw [e, xb_1shl (by omega), xb_or]
      rfl
    · have e : nI (g / 6 ^ k) / 6 = nI (g / 6 ^ k / 6) := pk_div (d := 6) (by omega) (by omega) (by omega)
      rw [e, Nat.div_div_eq_div_mul, ← Nat.pow_succ]
theorem xw_bad_t {post : Int32 → Prop} {u : SX} {g : Nat} (hg : pe_P g) (hp : post 0) : wpX_bad post u (nI g) := by
  obtain ⟨co, bu, sc, wa, ot, ws, ge, ca, cb, st, sl, tr, sf⟩ := u
  have hl := hg.1
  refine br_f (nI_pos (by omega)) (br_t (nI_le (b := 46655) (by omega) (by decide)) ⟨7, ?_⟩)
  have e : nI g = nI (g / 6 ^ 0) := congrArg nI (Nat.div_one g).symm
  rw [e]
  exact xl_bad hl (fun _ => hp) (fun h => absurd hg.2 h) 6 0 7 rfl (by omega)
theorem xw_bad_f {post : Int32 → Prop} {u : SX} {v : Int32} (hv : ∀ g, pe_P g → v ≠ nI g) (hp : post 1) : wpX_bad post u v := by
  obtain ⟨co, bu, sc, wa, ot, ws, ge, ca, cb, st, sl, tr, sf⟩ := u
  refine br_c (fun _ => hp) (fun h0 => br_c (fun h1 => ?_) (fun _ => hp))
  obtain ⟨g, hg, rfl⟩ := nI_of2 (n := 46655) (by decide) h0 h1
  refine ⟨7, ?_⟩
  have e : nI g = nI (g / 6 ^ 0) := congrArg nI (Nat.div_one g).symm
  rw [e]
  exact xl_bad (by omega) (fun h => absurd rfl (hv g ⟨by omega, h⟩)) (fun _ => hp) 6 0 7 rfl (by omega)
end
/-! images of sets -/
def im_ (s g : Nat) : Nat → Nat
  | 0 => 0
  | n + 1 => if s.testBit n = true then im_ s g n ||| (1 <<< pe_ap g n) else im_ s g n
def im (s g : Nat) : Nat := im_ s g 6
theorem im_bit (s g : Nat) : ∀ n y, (im_ s g n).testBit y = true ↔ ∃ x, x < n ∧ s.testBit x = true ∧ pe_ap g x = y := by
  intro n
  induction n with
  | zero => intro y; exact ⟨fun h => by simp [im_] at h, fun ⟨x, hx, _⟩ => absurd hx (by omega)⟩
  | succ n ih =>
    intro y
    show (if s.testBit n = true then im_ s g n ||| (1 <<< pe_ap g n) else im_ s g n).testBit y = true ↔ _
    by_cases hs : s.testBit n = true
    · rw [if_pos hs, Nat.testBit_or, Bool.or_eq_true, ih y, pe_sh1, Nat.testBit_two_pow, decide_eq_true_eq]
      constructor
      · rintro (⟨x, hx, e⟩ | e)
        · exact ⟨x, by omega, e⟩
        · exact ⟨n, by omega, hs, e⟩
      · rintro ⟨x, hx, h1, e⟩
        rcases Nat.lt_or_ge x n with h | h
        · exact Or.inl ⟨x, h, h1, e⟩
        · have : x = n := by omega
          subst this
          exact Or.inr e
    · rw [if_neg hs, ih y]
      constructor
      · rintro ⟨x, hx, e⟩
        exact ⟨x, by omega, e⟩
      · rintro ⟨x, hx, h1, e⟩
        rcases Nat.lt_or_ge x n with h | h
        · exact ⟨x, h, h1, e⟩
        · have : x = n := by omega
          subst this
          exact absurd h1 hs
theorem im_lt (s g : Nat) : ∀ n, im_ s g n < 64 := by
  intro n
  induction n with
  | zero => exact (by decide : 0 < 64)
  | succ n ih =>
    show (if s.testBit n = true then im_ s g n ||| (1 <<< pe_ap g n) else im_ s g n) < 64
    split
    · apply Nat.or_lt_two_pow (n := 6) ih
      rw [pe_sh1]
      exact Nat.pow_lt_pow_right (by decide) (pe_ap_lt _ _)
    · exact ih
theorem im_ext {a b : Nat} (ha : a < 64) (hb : b < 64) (h : ∀ y, y < 6 → (a.testBit y = true ↔ b.testBit y = true)) : a = b := by
  apply Nat.eq_of_testBit_eq
  intro y
  rcases Nat.lt_or_ge y 6 with hy | hy
  · have := h y hy
    cases e1 : a.testBit y <;> cases e2 : b.testBit y <;> simp_all
  · have k : 2 ^ 6 ≤ 2 ^ y := Nat.pow_le_pow_right (by decide) hy
    rw [Nat.testBit_lt_two_pow (by omega), Nat.testBit_lt_two_pow (by omega)]
section
variable {co bu sc wa ot ws : Int32} {ge ca cb st sl tr sf : Nat → Int32}
theorem xl_im {post : Int32 → Prop} {s g : Nat} (hs : s < 64) (hp : post (nI (im s g))) : ∀ d k n, k + d = 6 → d < n → wX_imageOf_5 post (nI s) (ex g) co bu sc wa ot ws ge ca cb st sl tr sf n (nI (im_ s g k)) (nI k) := by
  intro d
  induction d with
  | zero =>
    intro k n hk hn
    obtain ⟨n, rfl⟩ : ∃ m, n = m + 1 := ⟨n - 1, by omega⟩
    have : k = 6 := by omega
    subst this
    exact br_t (by decide) hp
  | succ d ih =>
    intro k n hk hn
    obtain ⟨n, rfl⟩ : ∃ m, n = m + 1 := ⟨n - 1, by omega⟩
    refine br_f (nI_ge (b := 6) (by omega) (by decide)) ?_
    by_cases hb : s.testBit k = true
    · refine br_t ((xb_bit1 (by omega) (by omega)).mpr hb) (xw_digit (by omega) (nm_r (e' := nI (im_ s g (k + 1))) ?_ (nm_r (nI_1 k) (ih (k + 1) n (by omega) (by omega)))))
      have h6 := pe_ap_lt g k
      rw [xb_1shl (by omega), xb_or]
      exact congrArg nI (if_pos hb).symm
    · refine br_f (fun z => hb ((xb_bit1 (by omega) (by omega)).mp z)) (nm_r (nI_1 k) ?_)
      have e : im_ s g k = im_ s g (k + 1) := (if_neg hb).symm
      rw [e]
      exact ih (k + 1) n (by omega) (by omega)
theorem xw_im {post : Int32 → Prop} {u : SX} {s g : Nat} (hs : s < 64) (hp : post (nI (im s g))) : wpX_imageOf post u (nI s) (ex g) := by
  obtain ⟨co, bu, sc, wa, ot, ws, ge, ca, cb, st, sl, tr, sf⟩ := u
  exact ⟨7, xl_im hs hp 6 0 7 rfl (by omega)⟩
end
end
section
/-! Y's arithmetic on permutations -/
def y_pw (pw : Nat → Int32) : Prop := ∀ x, x < 6 → pw x = nI (6 ^ x)
theorem yb_6 {x : Nat} (hx : x < 6) : 6 ^ x ≤ 6 ^ 5 := Nat.pow_le_pow_right (by decide) (by omega)
def yb_pt (f : Nat → Nat) : Nat → Nat
  | 0 => 0
  | k + 1 => yb_pt f k + 6 ^ k * f k
theorem yb_pt_cd (f : Nat → Nat) : yb_pt f 6 = pe_cd f := by
  show 0 + 1 * f 0 + 6 * f 1 + 36 * f 2 + 216 * f 3 + 1296 * f 4 + 7776 * f 5 = _
  unfold pe_cd
  omega
section
variable {yc fo : Int32} {gn li mk pw al : Nat → Int32}
theorem yw_carried {post : Int32 → Prop} (hw : y_pw pw) {g x : Nat} (hg : g < 46656) (hx : x < 6) (hp : post (nI (pe_ap g x))) : wpY_carried post (yc, fo, gn, li, mk, pw, al) (nI g) (nI x) := by
  have h6 := yb_6 hx
  have h0 : 0 < 6 ^ x := Nat.pow_pos (by decide)
  have hq : g / 6 ^ x ≤ g := Nat.div_le_self _ _
  have e1 : pw (nI x).toNatClampNeg = nI (6 ^ x) := by rw [nI_clamp (by omega), hw x hx]
  refine ⟨vp_in_nI hx (by decide), ?_, by decide, ?_⟩
  · rw [e1]
    exact nI_ne0 h0 (by omega)
  · rw [e1, pk_div (by omega) h0 (by omega)]
    have e : nI (g / 6 ^ x) - nI (g / 6 ^ x) / 6 * 6 = nI (pe_ap g x) := pk_rem (d := 6) (by omega) (by omega) (by omega)
    rw [e]
    exact hp
theorem yl_times {post : Int32 → Prop} (hw : y_pw pw) {g h : Nat} (hg : g < 46656) (hh : h < 46656) (hp : post (nI (pe_mu g h))) : ∀ d k n, k + d = 6 → d < n → wY_times_5 post (nI g) (nI h) yc fo gn li mk pw al n (nI (yb_pt (fun x => pe_ap h (pe_ap g x)) k)) (nI k) := by
  intro d
  induction d with
  | zero =>
    intro k n hk hn
    obtain ⟨n, rfl⟩ : ∃ m, n = m + 1 := ⟨n - 1, by omega⟩
    have : k = 6 := by omega
    subst this
    refine br_t (by decide) ?_
    rw [yb_pt_cd]
    exact hp
  | succ d ih =>
    intro k n hk hn
    obtain ⟨n, rfl⟩ : ∃ m, n = m + 1 := ⟨n - 1, by omega⟩
    refine br_f (nI_ge (b := 6) (by omega) (by decide)) (yw_carried hw hg (by omega) ⟨vp_in_nI (by omega) (by decide), yw_carried hw hh (pe_ap_lt _ _) (nm_r ?_ (nm_r (nI_1 k) (ih (k + 1) n (by omega) (by omega))))⟩)
    rw [nI_clamp (by omega), hw k (by omega), pk_mul, nI_add]
    rfl
theorem yw_times {post : Int32 → Prop} (hw : y_pw pw) {g h : Nat} (hg : g < 46656) (hh : h < 46656) (hp : post (nI (pe_mu g h))) : wpY_times post (yc, fo, gn, li, mk, pw, al) (nI g) (nI h) :=
  ⟨7, yl_times hw hg hh hp 6 0 7 rfl (by omega)⟩
theorem yl_inv {post : Int32 → Prop} (hw : y_pw pw) {g : Nat} (hg : pe_P g) (hp : post (nI (pe_iv g))) : ∀ d k n, k + d = 6 → d < n → wY_inverted_4 post (nI g) yc fo gn li mk pw al n (nI (np_yi g k)) (nI k) := by
  intro d
  induction d with
  | zero =>
    intro k n hk hn
    obtain ⟨n, rfl⟩ : ∃ m, n = m + 1 := ⟨n - 1, by omega⟩
    have : k = 6 := by omega
    subst this
    refine br_t (by decide) ?_
    rw [np_yi_iv hg]
    exact hp
  | succ d ih =>
    intro k n hk hn
    obtain ⟨n, rfl⟩ : ∃ m, n = m + 1 := ⟨n - 1, by omega⟩
    have h6 := pe_ap_lt g k
    refine br_f (nI_ge (b := 6) (by omega) (by decide)) (yw_carried hw hg.1 (by omega) ⟨vp_in_nI (pe_ap_lt _ _) (by decide), nm_r ?_ (nm_r (nI_1 k) (ih (k + 1) n (by omega) (by omega)))⟩)
    rw [nI_clamp (by omega), hw _ h6, pk_mul, nI_add]
    rfl
theorem yw_inv {post : Int32 → Prop} (hw : y_pw pw) {g : Nat} (hg : pe_P g) (hp : post (nI (pe_iv g))) : wpY_inverted post (yc, fo, gn, li, mk, pw, al) (nI g) :=
  ⟨7, yl_inv hw hg hp 6 0 7 rfl (by omega)⟩
theorem yw_conj {post : Int32 → Prop} (hw : y_pw pw) {g h : Nat} (hg : g < 46656) (hh : pe_P h) (hp : post (nI (pe_mu (pe_mu (pe_iv h) g) h))) : wpY_conjugate post (yc, fo, gn, li, mk, pw, al) (nI g) (nI h) := by
  unfold wpY_conjugate
  dsimp only
  refine yw_inv hw hh ?_
  refine yw_times hw (pe_iv_lt _) hg ?_
  exact yw_times hw (pe_mu_lt _ _) hh.1 hp
theorem yl_perm {post : Int32 → Prop} (hw : y_pw pw) {g : Nat} (hg : g < 46656) (hp : pe_mk g 6 = 63 → post 1) (hq : pe_mk g 6 ≠ 63 → post 0) : ∀ d k n, k + d = 6 → d < n → wY_isPermutation_16 post (nI g) yc fo gn li mk pw al n (nI (pe_mk g k)) (nI k) := by
  intro d
  induction d with
  | zero =>
    intro k n hk hn
    obtain ⟨n, rfl⟩ : ∃ m, n = m + 1 := ⟨n - 1, by omega⟩
    have : k = 6 := by omega
    subst this
    refine br_t (by decide) ?_
    have hb := pe_mk_lt g 6
    exact pk_eq (pe_mk g 6) 63 hp hq
  | succ d ih =>
    intro k n hk hn
    obtain ⟨n, rfl⟩ : ∃ m, n = m + 1 := ⟨n - 1, by omega⟩
    have h6 := pe_ap_lt g k
    refine br_f (nI_ge (b := 6) (by omega) (by decide)) (yw_carried hw hg (by omega) (nm_r ?_ (nm_r (nI_1 k) (ih (k + 1) n (by omega) (by omega)))))
    rw [xb_1shl (by omega), xb_or]
    rfl
theorem yw_perm_t {post : Int32 → Prop} (hw : y_pw pw) {g : Nat} (hg : pe_P g) (hp : post 1) : wpY_isPermutation post (yc, fo, gn, li, mk, pw, al) (nI g) := by
  have hl := hg.1
  exact br_f (nI_pos (by omega)) (br_t (nI_le (b := 46655) (by omega) (by decide)) ⟨7, yl_perm hw hl (fun _ => hp) (fun h => absurd hg.2 h) 6 0 7 rfl (by omega)⟩)
theorem yw_perm_f {post : Int32 → Prop} (hw : y_pw pw) {v : Int32} (hv : ∀ g, pe_P g → v ≠ nI g) (hp : post 0) : wpY_isPermutation post (yc, fo, gn, li, mk, pw, al) v := by
  refine br_c (fun _ => hp) (fun h0 => br_c (fun h1 => ?_) (fun _ => hp))
  obtain ⟨g, hg, rfl⟩ := nI_of2 (n := 46655) (by decide) h0 h1
  exact ⟨7, yl_perm hw (by omega) (fun h => absurd rfl (hv g ⟨by omega, h⟩)) (fun _ => hp) 6 0 7 rfl (by omega)⟩
theorem yl_im {post : Int32 → Prop} (hw : y_pw pw) {s g : Nat} (hs : s < 64) (hg : g < 46656) (hp : post (nI (im s g))) : ∀ d k n, k + d = 6 → d < n → wY_image_5 post (nI s) (nI g) yc fo gn li mk pw al n (nI (im_ s g k)) (nI k) := by
  intro d
  induction d with
  | zero =>
    intro k n hk hn
    obtain ⟨n, rfl⟩ : ∃ m, n = m + 1 := ⟨n - 1, by omega⟩
    have : k = 6 := by omega
    subst this
    exact br_t (by decide) hp
  | succ d ih =>
    intro k n hk hn
    obtain ⟨n, rfl⟩ : ∃ m, n = m + 1 := ⟨n - 1, by omega⟩
    refine br_f (nI_ge (b := 6) (by omega) (by decide)) ?_
    by_cases hb : s.testBit k = true
    · refine br_t ((xb_bit1 (by omega) (by omega)).mpr hb) (yw_carried hw hg (by omega) (nm_r (e' := nI (im_ s g (k + 1))) ?_ (nm_r (nI_1 k) (ih (k + 1) n (by omega) (by omega)))))
      have h6 := pe_ap_lt g k
      rw [xb_1shl (by omega), xb_or]
      exact congrArg nI (if_pos hb).symm
    · refine br_f (fun z => hb ((xb_bit1 (by omega) (by omega)).mp z)) (nm_r (nI_1 k) ?_)
      have e : im_ s g k = im_ s g (k + 1) := (if_neg hb).symm
      rw [e]
      exact ih (k + 1) n (by omega) (by omega)
theorem yw_im {post : Int32 → Prop} (hw : y_pw pw) {s g : Nat} (hs : s < 64) (hg : g < 46656) (hp : post (nI (im s g))) : wpY_image post (yc, fo, gn, li, mk, pw, al) (nI s) (nI g) :=
  ⟨7, yl_im hw hs hg hp 6 0 7 rfl (by omega)⟩
end
/-! marks -/
def y_m (mk : Nat → Int32) (g : Nat) : Bool := bt (mk (g / 32)) (g % 32)
theorem yb_and1 (x : Int32) : (x &&& 1) = 1 ↔ bt x 0 = true := by
  rw [pk_and x (m := 1) 1 (by decide), show (1 : Int32) = nI 1 from rfl, nI_eq (by omega) (by omega)]
  show _ ↔ x.toBitVec.toNat.testBit 0 = true
  rw [Nat.testBit_zero, decide_eq_true_eq]
theorem yb_bit (x : Int32) {k : Nat} (hk : k < 32) : ((x >>> (nI k &&& 31)) &&& 1) = 1 ↔ bt x k = true := by
  rw [yb_and1, b_sshr k hk x (by omega), Nat.add_zero, if_pos hk]
theorem yb_b1 : ∀ j, j < 32 → bt 1 j = decide (j = 0) := by decide +kernel
theorem yb_set (x : Int32) {k i : Nat} (hk : k < 32) (hi : i < 32) : bt (x ||| ((1 : Int32) <<< (nI k &&& 31))) i = true ↔ bt x i = true ∨ i = k := by
  rw [b_or, b_shl k hk _ hi, yb_b1 _ (by omega), Bool.or_eq_true, Bool.and_eq_true, decide_eq_true_eq, decide_eq_true_eq]
  constructor
  · rintro (h | h)
    · exact Or.inl h
    · exact Or.inr (by omega)
  · rintro (h | h)
    · exact Or.inl h
    · exact Or.inr (by omega)
theorem y_m_set {mk : Nat → Int32} {g h : Nat} : y_m (upd mk (g / 32) (mk (g / 32) ||| ((1 : Int32) <<< (nI (g % 32) &&& 31)))) h = true ↔ y_m mk h = true ∨ h = g := by
  unfold y_m
  by_cases e : h / 32 = g / 32
  · rw [e, pk_us, yb_set _ (by omega) (by omega)]
    constructor
    · rintro (k | k)
      · exact Or.inl k
      · exact Or.inr (by omega)
    · rintro (k | k)
      · exact Or.inl k
      · exact Or.inr (by omega)
  · rw [pk_un e]
    exact ⟨Or.inl, fun k => k.elim (fun k => k) (fun k => absurd (by rw [k]) e)⟩
section
variable {yc fo : Int32} {gn li mk pw al : Nat → Int32}
theorem yw_marked {post : Int32 → Prop} {g : Nat} (hg : g < 46656) (hp : y_m mk g = true → post 1) (hq : y_m mk g = false → post 0) : wpY_isMarked post (yc, fo, gn, li, mk, pw, al) (nI g) := by
  have e1 : nI g / 32 = nI (g / 32) := pk_div (d := 32) (by omega) (by omega) (by omega)
  have e2 : nI g - nI g / 32 * 32 = nI (g % 32) := pk_rem (d := 32) (by omega) (by omega) (by omega)
  refine ⟨by decide, ?_, by decide, ?_⟩
  · rw [e1]
    exact vp_in_nI (by omega) (by decide)
  · rw [e2, e1, nI_clamp (by omega)]
    refine br_c (fun h => hp ((yb_bit _ (by omega)).mp h)) (fun h => hq ?_)
    cases hm : y_m mk g with
    | false => rfl
    | true => exact absurd ((yb_bit _ (by omega)).mpr hm) h
end
end
section
/-! Y's list of the group -/
def y_in (ls : Nat → Nat) (n g : Nat) : Prop := ∃ j, j < n ∧ ls j = g
def y_iv (fo : Int32) (li mk : Nat → Int32) (ls : Nat → Nat) (n : Nat) : Prop :=
  fo = nI n ∧ n ≤ 720 ∧ (∀ j, j < n → li j = nI (ls j)) ∧ (∀ j k, j < n → k < n → ls j = ls k → j = k) ∧ (∀ j, j < n → pe_P (ls j)) ∧ (∀ g, g < 46656 → (y_m mk g = true ↔ y_in ls n g))
def y_ls (ls : Nat → Nat) (n : Nat) : List Nat := (List.range n).map ls
theorem y_ls_mem {ls : Nat → Nat} {n g : Nat} : g ∈ y_ls ls n ↔ y_in ls n g := by
  unfold y_ls y_in
  rw [List.mem_map]
  exact ⟨fun ⟨j, hj, e⟩ => ⟨j, List.mem_range.mp hj, e⟩, fun ⟨j, hj, e⟩ => ⟨j, List.mem_range.mpr hj, e⟩⟩
theorem y_ls_nodup {ls : Nat → Nat} {n : Nat} (h : ∀ j k, j < n → k < n → ls j = ls k → j = k) : (y_ls ls n).Nodup :=
  np_map_nodup (fun a ha b hb e => h a b (List.mem_range.mp ha) (List.mem_range.mp hb) e) List.nodup_range
theorem y_ls_len (ls : Nat → Nat) (n : Nat) : (y_ls ls n).length = n := by unfold y_ls; rw [List.length_map, List.length_range]
theorem y_room {ls : Nat → Nat} {n g : Nat} (h : ∀ j k, j < n → k < n → ls j = ls k → j = k) (hP : ∀ j, j < n → pe_P (ls j)) (hg : pe_P g) (hn : ¬ y_in ls n g) : n < 720 := by
  have h1 : (g :: y_ls ls n).Nodup := List.nodup_cons.mpr ⟨fun hm => hn (y_ls_mem.mp hm), y_ls_nodup h⟩
  have h2 := np_le h1 (fun x hx => by
    rcases List.mem_cons.mp hx with e | hx
    · subst e; exact hg
    · obtain ⟨j, hj, e⟩ := y_ls_mem.mp hx
      rw [← e]; exact hP j hj)
  rw [List.length_cons, y_ls_len] at h2
  omega
def y_ex (ls : Nat → Nat) (n : Nat) (ls' : Nat → Nat) (n' : Nat) : Prop := n ≤ n' ∧ ∀ j, j < n → ls' j = ls j
theorem y_ex_rf (ls : Nat → Nat) (n : Nat) : y_ex ls n ls n := ⟨Nat.le_refl _, fun _ _ => rfl⟩
theorem y_ex_tr {a b c : Nat → Nat} {l m n : Nat} (h : y_ex a l b m) (k : y_ex b m c n) : y_ex a l c n :=
  ⟨Nat.le_trans h.1 k.1, fun j hj => (k.2 j (Nat.lt_of_lt_of_le hj h.1)).trans (h.2 j hj)⟩
theorem y_ex_in {a b : Nat → Nat} {l m g : Nat} (h : y_ex a l b m) (k : y_in a l g) : y_in b m g := by
  obtain ⟨j, hj, e⟩ := k
  exact ⟨j, Nat.lt_of_lt_of_le hj h.1, (h.2 j hj).trans e⟩
/-- one more -/
def y_ad (ls : Nat → Nat) (n g : Nat) : Nat → Nat := fun j => if j = n then g else ls j
theorem y_ad_n {ls : Nat → Nat} {n g : Nat} : y_ad ls n g n = g := if_pos rfl
theorem y_ad_o {ls : Nat → Nat} {n g j : Nat} (h : j < n) : y_ad ls n g j = ls j := if_neg (by omega)
theorem y_ad_in {ls : Nat → Nat} {n g h : Nat} : y_in (y_ad ls n g) (n + 1) h ↔ y_in ls n h ∨ h = g := by
  constructor
  · rintro ⟨j, hj, e⟩
    rcases Nat.lt_or_ge j n with k | k
    · rw [y_ad_o k] at e; exact Or.inl ⟨j, k, e⟩
    · have : j = n := by omega
      subst this
      rw [y_ad_n] at e
      exact Or.inr e.symm
  · rintro (⟨j, hj, e⟩ | rfl)
    · exact ⟨j, by omega, by rw [y_ad_o hj]; exact e⟩
    · exact ⟨n, by omega, y_ad_n⟩
section
variable {yc fo : Int32} {gn li mk pw al : Nat → Int32}
theorem yw_note {post : SY → Prop} {ls : Nat → Nat} {n g : Nat} (I : y_iv fo li mk ls n) (hg : pe_P g)
    (hp : ∀ fo' li' mk' ls' n', y_iv fo' li' mk' ls' n' → y_ex ls n ls' n' → y_in ls' n' g → (∀ h, y_in ls' n' h → y_in ls n h ∨ h = g) → post (yc, fo', gn, li', mk', pw, al)) : wpY_note post (yc, fo, gn, li, mk, pw, al) (nI g) := by
  obtain ⟨rfl, h720, hli, hinj, hP, hm⟩ := I
  have hl := hg.1
  unfold wpY_note
  dsimp only
  refine yw_marked hl (fun h => ?_) (fun h => ?_)
  · refine br_f (by decide) ?_
    exact hp (nI n) li mk ls n ⟨rfl, h720, hli, hinj, hP, hm⟩ (y_ex_rf _ _) ((hm g hl).mp h) (fun _ k => Or.inl k)
  · have hn : ¬ y_in ls n g := fun k => by
      have := (hm g hl).mpr k
      rw [h] at this
      cases this
    have hr := y_room hinj hP hg hn
    have e1 : nI g / 32 = nI (g / 32) := pk_div (d := 32) (by omega) (by omega) (by omega)
    have e2 : nI g - nI g / 32 * 32 = nI (g % 32) := pk_rem (d := 32) (by omega) (by omega) (by omega)
    have hin : vp_in (nI g / 32) 1458 := by
      rw [e1]
      exact vp_in_nI (by omega) (by decide)
    refine br_t rfl (br_f (nI_ge (b := 720) hr (by decide)) ⟨by decide, by decide, hin, by decide, hin, nm_r (e' := upd mk (g / 32) (mk (g / 32) ||| ((1 : Int32) <<< (nI (g % 32) &&& 31)))) ?_ ⟨vp_in_nI hr (by decide), nm_r (e' := upd li n (nI g)) ?_ (nm_r (nI_1 n) ?_)⟩⟩)
    · rw [e2, e1, nI_clamp (by omega)]
    · rw [nI_clamp (by omega)]
    · refine hp _ _ _ (y_ad ls n g) (n + 1) ⟨rfl, by omega, ?_, ?_, ?_, ?_⟩ ⟨by omega, fun j hj => y_ad_o hj⟩ (y_ad_in.mpr (Or.inr rfl)) (fun h k => y_ad_in.mp k)
      · intro j hj
        rcases Nat.lt_or_ge j n with k | k
        · rw [pk_un (by omega), y_ad_o k, hli j k]
        · have : j = n := by omega
          subst this
          rw [pk_us, y_ad_n]
      · intro j k hj hk e
        rcases Nat.lt_or_ge j n with a | a
        · rcases Nat.lt_or_ge k n with b | b
          · rw [y_ad_o a, y_ad_o b] at e
            exact hinj j k a b e
          · have : k = n := by omega
            subst this
            rw [y_ad_o a, y_ad_n] at e
            exact absurd ⟨j, a, e⟩ hn
        · have : j = n := by omega
          subst this
          rcases Nat.lt_or_ge k j with b | b
          · rw [y_ad_n, y_ad_o b] at e
            exact absurd ⟨k, b, e.symm⟩ hn
          · omega
      · intro j hj
        rcases Nat.lt_or_ge j n with k | k
        · rw [y_ad_o k]; exact hP j k
        · have : j = n := by omega
          subst this
          rw [y_ad_n]; exact hg
      · intro h hh
        rw [y_m_set, y_ad_in, hm h hh]
end
def gT (c : Nat) (gs : Nat → Nat) (t : Nat) : Prop := ∃ k, k < c ∧ t = gs k
def y_lst (G : Nat → Prop) (fo : Int32) (li mk : Nat → Int32) (ls : Nat → Nat) (n : Nat) : Prop := y_iv fo li mk ls n ∧ ∀ g, G g ↔ y_in ls n g
section
variable {yc fo : Int32} {gn li mk pw al : Nat → Int32}
theorem yl_71 {post : SY → Prop} {J : Int32 → Int32 → Int32 → (Nat → Int32) → (Nat → Int32) → (Nat → Int32) → (Nat → Int32) → (Nat → Int32) → Prop} (hw : y_pw pw) {c : Nat} (hc : c ≤ 5) {gs : Nat → Nat} (hgn : ∀ k, k < c → gn k = nI (gs k)) (hgs : ∀ k, k < c → pe_P (gs k)) {S : Nat → Prop} (hS : ∀ a k, S a → k < c → S (pe_mu a (gs k))) {i : Nat} :
    ∀ d k n fo li mk ls m, k + d = c → d < n → y_iv fo li mk ls m → i < m → (∀ h, y_in ls m h → S h) → (∀ k', k' < k → y_in ls m (pe_mu (ls i) (gs k'))) →
      (∀ fo' li' mk' ls' m', y_iv fo' li' mk' ls' m' → y_ex ls m ls' m' → (∀ h, y_in ls' m' h → S h) → (∀ k', k' < c → y_in ls' m' (pe_mu (ls i) (gs k'))) → J (nI (i + 1)) (nI c) fo' gn li' mk' pw al) →
      wY_listGroup_71 post J (nI i) n (nI k) (nI c) fo gn li mk pw al := by
  intro d
  induction d with
  | zero =>
    intro k n fo li mk ls m hk hn I him hs hcl K
    obtain ⟨n, rfl⟩ : ∃ q, n = q + 1 := ⟨n - 1, by omega⟩
    have : k = c := by omega
    subst this
    exact br_t (nI_le (by omega) (by omega)) (nm_r (nI_1 i) (K _ _ _ ls m I (y_ex_rf _ _) hs hcl))
  | succ d ih =>
    intro k n fo li mk ls m hk hn I him hs hcl K
    obtain ⟨n, rfl⟩ : ∃ q, n = q + 1 := ⟨n - 1, by omega⟩
    have h720 := I.2.1
    have hP := I.2.2.2.2.1 i him
    refine br_f (nI_ge (by omega) (by omega)) ⟨vp_in_nI (by omega) (by decide), vp_in_nI (by omega) (by decide), ?_⟩
    rw [nI_clamp (by omega), nI_clamp (by omega), I.2.2.1 i him, hgn k (by omega)]
    refine yw_times hw hP.1 (hgs k (by omega)).1 (yw_note I (pe_mu_P hP (hgs k (by omega))) ?_)
    intro fo' li' mk' ls' m' I' X' hin hor
    refine nm_r (nI_1 k) (ih (k + 1) n fo' li' mk' ls' m' (by omega) (by omega) I' (Nat.lt_of_lt_of_le him X'.1) ?_ ?_ ?_)
    · intro h hh
      rcases hor h hh with a | a
      · exact hs h a
      · rw [a]
        exact hS _ _ (hs _ ⟨i, him, rfl⟩) (by omega)
    · intro k' hk'
      rw [X'.2 i him]
      rcases Nat.lt_or_ge k' k with a | a
      · exact y_ex_in X' (hcl k' a)
      · have : k' = k := by omega
        subst this
        exact hin
    · intro fo2 li2 mk2 ls2 m2 I2 X2 hs2 hcl2
      rw [X'.2 i him] at hcl2
      exact K fo2 li2 mk2 ls2 m2 I2 (y_ex_tr X' X2) hs2 hcl2
theorem yl_61 {post : SY → Prop} (hw : y_pw pw) {c : Nat} (hc : c ≤ 5) {gs : Nat → Nat} (hgn : ∀ k, k < c → gn k = nI (gs k)) (hgs : ∀ k, k < c → pe_P (gs k)) {S : Nat → Prop} (hS : ∀ a k, S a → k < c → S (pe_mu a (gs k))) :
    ∀ d i n fo li mk ls m, i + d = 720 → d < n → y_iv fo li mk ls m → i ≤ m → (∀ h, y_in ls m h → S h) → (∀ i' k', i' < i → k' < c → y_in ls m (pe_mu (ls i') (gs k'))) → y_in ls m pe_id →
      (∀ fo' li' mk' ls' m', y_iv fo' li' mk' ls' m' → (∀ h, y_in ls' m' h → S h) → (∀ i' k', i' < m' → k' < c → y_in ls' m' (pe_mu (ls' i') (gs k'))) → y_in ls' m' pe_id → post (nI c, fo', gn, li', mk', pw, al)) →
      wY_listGroup_61 post n (nI i) (nI c) fo gn li mk pw al := by
  intro d
  induction d with
  | zero =>
    intro i n fo li mk ls m hi hn I him hs hcl hid K
    obtain ⟨n, rfl⟩ : ∃ q, n = q + 1 := ⟨n - 1, by omega⟩
    have h720 := I.2.1
    have : i = m := by omega
    subst this
    have e := I.1
    subst e
    exact br_t (nI_le (by omega) (by omega)) (K _ _ _ ls _ I hs hcl hid)
  | succ d ih =>
    intro i n fo li mk ls m hi hn I him hs hcl hid K
    obtain ⟨n, rfl⟩ : ∃ q, n = q + 1 := ⟨n - 1, by omega⟩
    have h720 := I.2.1
    have e := I.1
    subst e
    rcases Nat.lt_or_ge i m with hlt | hge
    · refine br_f (nI_ge hlt (by omega)) ⟨c + 1, ?_⟩
      refine yl_71 hw hc hgn hgs hS c 0 (c + 1) _ li mk ls m (by omega) (by omega) I hlt hs (fun _ h => absurd h (by omega)) ?_
      intro fo' li' mk' ls' m' I' X' hs' hcl'
      refine ih (i + 1) n fo' li' mk' ls' m' (by omega) (by omega) I' (Nat.le_trans hlt X'.1) hs' ?_ (y_ex_in X' hid) K
      intro i' k' hi' hk'
      rw [X'.2 i' (by omega)]
      rcases Nat.lt_or_ge i' i with a | a
      · exact y_ex_in X' (hcl i' k' a hk')
      · have : i' = i := by omega
        subst this
        exact hcl' k' hk'
    · have : i = m := by omega
      subst this
      exact br_t (nI_le (by omega) (by omega)) (K _ _ _ ls _ I hs hcl hid)
theorem yl_31 {post : SY → Prop} {n0 : Int32} (hw : y_pw pw) (K : ∀ m, wY_listGroup_31 post yc n0 gn li mk pw al (m + 1) (nI pe_id) (nI 6)) : ∀ d k n, k + d = 6 → d < n → wY_listGroup_31 post yc n0 gn li mk pw al n (nI (yb_pt (fun x => x) k)) (nI k) := by
  intro d
  induction d with
  | zero =>
    intro k n hk hn
    obtain ⟨n, rfl⟩ : ∃ q, n = q + 1 := ⟨n - 1, by omega⟩
    have : k = 6 := by omega
    subst this
    rw [show yb_pt (fun x => x) 6 = pe_id by decide]
    exact K n
  | succ d ih =>
    intro k n hk hn
    obtain ⟨n, rfl⟩ : ∃ q, n = q + 1 := ⟨n - 1, by omega⟩
    refine br_f (nI_ge (b := 6) (by omega) (by decide)) ⟨vp_in_nI (by omega) (by decide), nm_r ?_ (nm_r (nI_1 k) (ih (k + 1) n (by omega) (by omega)))⟩
    rw [nI_clamp (by omega), hw k (by omega), pk_mul, nI_add]
    rfl
theorem yl_2 {post : SY → Prop} : ∀ d k n mk, k + d = 1458 → d < n → (∀ j, j < k → mk j = 0) → (∀ mk', (∀ j, j < 1458 → mk' j = 0) → ∃ n31 : Nat, wY_listGroup_31 post yc 0 gn li mk' pw al n31 0 0) → wY_listGroup_2 post yc fo n (nI k) gn li mk pw al := by
  intro d
  induction d with
  | zero =>
    intro k n mk hk hn hz K
    obtain ⟨n, rfl⟩ : ∃ q, n = q + 1 := ⟨n - 1, by omega⟩
    have : k = 1458 := by omega
    subst this
    exact br_t (by decide) (K mk hz)
  | succ d ih =>
    intro k n mk hk hn hz K
    obtain ⟨n, rfl⟩ : ∃ q, n = q + 1 := ⟨n - 1, by omega⟩
    refine br_f (nI_ge (b := 1458) (by omega) (by decide)) ⟨vp_in_nI (by omega) (by decide), nm_e (nm_r (nI_1 k) (ih (k + 1) n _ (by omega) (by omega) ?_ K))⟩
    intro j hj
    rw [nI_clamp (by omega)]
    rcases Nat.lt_or_ge j k with a | a
    · rw [pk_un (by omega), hz j a]
    · have : j = k := by omega
      subst this
      exact pk_us
theorem yw_list {post : SY → Prop} (hw : y_pw pw) {c : Nat} (hc : c ≤ 5) {gs : Nat → Nat} (hgn : ∀ k, k < c → gn k = nI (gs k)) (hgs : ∀ k, k < c → pe_P (gs k))
    (hp : ∀ fo' li' mk' ls' m', y_lst (gr_G (gT c gs)) fo' li' mk' ls' m' → post (nI c, fo', gn, li', mk', pw, al)) : wpY_listGroup post (nI c, fo, gn, li, mk, pw, al) := by
  refine ⟨1459, yl_2 1458 0 1459 mk rfl (by omega) (fun _ h => absurd h (by omega)) ?_⟩
  intro mk' hz
  refine ⟨7, yl_31 (n0 := 0) hw ?_ 6 0 7 rfl (by omega)⟩
  intro m
  refine br_t (by decide) ?_
  have I0 : y_iv 0 li mk' (fun _ => 0) 0 := by
    refine ⟨rfl, by omega, fun _ h => absurd h (by omega), fun _ _ h => absurd h (by omega), fun _ h => absurd h (by omega), ?_⟩
    intro g hg
    constructor
    · intro h
      unfold y_m at h
      rw [hz _ (by omega), b_0] at h
      cases h
    · rintro ⟨j, hj, _⟩
      omega
  refine yw_note I0 pe_id_P ?_
  intro fo' li' mk2 ls' n' I' X' hin hor
  refine ⟨721, yl_61 hw hc hgn hgs (S := gr_G (gT c gs)) (fun a k ha hk => gr_st ha ⟨k, hk, rfl⟩) 720 0 721 fo' li' mk2 ls' n' rfl (by omega) I' (by omega) ?_ (fun _ _ h => absurd h (by omega)) hin ?_⟩
  · intro h hh
    rcases hor h hh with ⟨j, hj, _⟩ | e
    · omega
    · rw [e]; exact gr_id
  · intro fo3 li3 mk3 ls3 m3 I3 hs3 hc3 hi3
    refine hp fo3 li3 mk3 ls3 m3 ⟨I3, fun g => ⟨fun hg => ?_, hs3 g⟩⟩
    refine hg (y_in ls3 m3) hi3 ?_
    rintro a t ⟨j, hj, rfl⟩ ⟨k, hk, rfl⟩
    exact hc3 j k hj hk
end
end
section
/-! one level of the chain while it grows -/
def qv_b (o : Option Nat) : Nat := if o.isSome = true then 1 else 0
def qv_sz (e : Nat → Option Nat) : Nat → Nat
  | 0 => 0
  | n + 1 => qv_sz e n + qv_b (e n)
def qv_set (e : Nat → Option Nat) (z c : Nat) : Nat → Option Nat := fun y => if y = z then some c else e y
theorem qv_set_s {e : Nat → Option Nat} {z c : Nat} : qv_set e z c z = some c := if_pos rfl
theorem qv_set_o {e : Nat → Option Nat} {z c y : Nat} (h : y ≠ z) : qv_set e z c y = e y := if_neg h
theorem qv_b_le (o : Option Nat) : qv_b o ≤ 1 := by unfold qv_b; split <;> omega
theorem qv_sz_le (e : Nat → Option Nat) : ∀ n, qv_sz e n ≤ n := by
  intro n
  induction n with
  | zero => exact Nat.le_refl _
  | succ n ih => have := qv_b_le (e n); show qv_sz e n + qv_b (e n) ≤ n + 1; omega
theorem qv_b_some {o : Option Nat} (h : o ≠ none) : qv_b o = 1 := by
  cases o with
  | none => exact absurd rfl h
  | some c => rfl
theorem qv_b_mono {o o' : Option Nat} (h : o ≠ none → o' ≠ none) : qv_b o ≤ qv_b o' := by
  cases o with
  | none => exact Nat.zero_le _
  | some c => rw [qv_b_some (h (by simp))]; exact qv_b_le _
theorem qv_sz_mono {e e' : Nat → Option Nat} : ∀ n, (∀ y, y < n → e y ≠ none → e' y ≠ none) → qv_sz e n ≤ qv_sz e' n := by
  intro n
  induction n with
  | zero => intro _; exact Nat.le_refl _
  | succ n ih =>
    intro h
    have h1 := ih (fun y hy => h y (by omega))
    have h2 := qv_b_mono (h n (by omega))
    show qv_sz e n + qv_b (e n) ≤ qv_sz e' n + qv_b (e' n)
    omega
theorem qv_sz_str {e e' : Nat → Option Nat} {z : Nat} (hz : e z = none) (hz' : e' z ≠ none) : ∀ n, z < n → (∀ y, y < n → e y ≠ none → e' y ≠ none) → qv_sz e n < qv_sz e' n := by
  intro n
  induction n with
  | zero => intro h; omega
  | succ n ih =>
    intro hn h
    show qv_sz e n + qv_b (e n) < qv_sz e' n + qv_b (e' n)
    rcases Nat.lt_or_ge z n with a | a
    · have h1 := ih a (fun y hy => h y (by omega))
      have h2 := qv_b_mono (h n (by omega))
      omega
    · have : z = n := by omega
      subst this
      have h1 := qv_sz_mono z (fun y hy => h y (by omega))
      rw [hz, qv_b_some hz', show qv_b none = 0 from rfl]
      omega
theorem qv_sz_0 {e : Nat → Option Nat} : ∀ n, (∀ y, y < n → e y = none) → qv_sz e n = 0 := by
  intro n
  induction n with
  | zero => intro _; rfl
  | succ n ih =>
    intro h
    show qv_sz e n + qv_b (e n) = 0
    rw [ih (fun y hy => h y (by omega)), h n (by omega)]
    rfl
theorem qv_sz_fr {e : Nat → Option Nat} {i : Nat} : ∀ n, i ≤ n → (∀ y, y < i → e y = none) → qv_sz e n + i ≤ n := by
  intro n
  induction n with
  | zero => intro h _; have : i = 0 := by omega
            subst this; exact Nat.le_refl _
  | succ n ih =>
    intro hn h
    have h2 := qv_b_le (e n)
    show qv_sz e n + qv_b (e n) + i ≤ n + 1
    rcases Nat.lt_or_ge n i with a | a
    · have : i = n + 1 := by omega
      subst this
      rw [qv_sz_0 n (fun y hy => h y (by omega)), h n (by omega), show qv_b none = 0 from rfl]
      omega
    · have := ih a h
      omega
/-- strong generators of level i -/
def qv_T (ns : Nat) (sq lv : Nat → Nat) (i t : Nat) : Prop := ∃ k, k < ns ∧ i ≤ lv k ∧ t = sq k
/-- the carriers of level i are right -/
def qv_P (ns : Nat) (sq lv : Nat → Nat) (i : Nat) (e : Nat → Option Nat) : Prop :=
  e i = some pe_id ∧ ∀ y c, y < 6 → e y = some c → pe_P c ∧ cn_fx i c ∧ pe_ap c i = y ∧ gr_G (qv_T ns sq lv i) c
def qv_cl (ns : Nat) (sq lv : Nat → Nat) (i : Nat) (e : Nat → Option Nat) : Prop :=
  ∀ y k, y < 6 → k < ns → i ≤ lv k → e y ≠ none → e (pe_ap (sq k) y) ≠ none
/-- strong generators are permutations that fix the points before their levels -/
def qv_sg (ns : Nat) (sq lv : Nat → Nat) : Prop := ∀ k, k < ns → pe_P (sq k) ∧ lv k < 6 ∧ cn_fx (lv k) (sq k)
/-- the carrier arrays hold level i -/
def qv_ar (i : Nat) (e : Nat → Option Nat) (ca cb : Nat → Int32) : Prop :=
  ∀ y, y < 6 → (∀ c, e y = some c → ca (i * 6 + y) = ex c ∧ cb (i * 6 + y) = ex (pe_iv c)) ∧ (e y = none → ca (i * 6 + y) = -4)
theorem qv_T_P {ns : Nat} {sq lv : Nat → Nat} (h : qv_sg ns sq lv) {i : Nat} : ∀ t, qv_T ns sq lv i t → pe_P t := by
  rintro t ⟨k, hk, _, rfl⟩
  exact (h k hk).1
theorem qv_T_fx {ns : Nat} {sq lv : Nat → Nat} (h : qv_sg ns sq lv) {i : Nat} : ∀ t, qv_T ns sq lv i t → cn_fx i t := by
  rintro t ⟨k, hk, hi, rfl⟩
  exact cn_fx_le (h k hk).2.2 hi
/-- one carrier more keeps the level right -/
theorem qv_P_set {ns : Nat} {sq lv : Nat → Nat} (hs : qv_sg ns sq lv) {i : Nat} (hi : i < 6) {e : Nat → Option Nat} (h : qv_P ns sq lv i e) {y k c : Nat} (hy : y < 6) (hk : k < ns) (hl : i ≤ lv k) (hc : e y = some c) (hz : e (pe_ap (sq k) y) = none) :
    qv_P ns sq lv i (qv_set e (pe_ap (sq k) y) (pe_mu c (sq k))) := by
  obtain ⟨cp, cf, ci, cg⟩ := h.2 y c hy hc
  obtain ⟨sp, _, sf⟩ := hs k hk
  constructor
  · rw [qv_set_o]
    · exact h.1
    · intro e0
      rw [← e0, h.1] at hz
      cases hz
  · intro y' c' hy' hc'
    by_cases e0 : y' = pe_ap (sq k) y
    · subst e0
      rw [qv_set_s] at hc'
      have := Option.some.inj hc'
      subst this
      refine ⟨pe_mu_P cp sp, cn_fx_mu (by omega) cf (cn_fx_le sf hl), ?_, gr_st cg ⟨k, hk, hl, rfl⟩⟩
      rw [pe_ap_mu _ _ hi, ci]
    · rw [qv_set_o e0] at hc'
      exact h.2 y' c' hy' hc'
/-- the orbit is all that the strong generators reach -/
theorem qv_orb {ns : Nat} {sq lv : Nat → Nat} {i : Nat} (hi : i < 6) {e : Nat → Option Nat} (h : qv_P ns sq lv i e) (hc : qv_cl ns sq lv i e) {g : Nat} (hg : gr_G (qv_T ns sq lv i) g) : e (pe_ap g i) ≠ none := by
  apply hg (fun g => e (pe_ap g i) ≠ none)
  · rw [pe_ap_id hi, h.1]
    simp
  · rintro a t ha ⟨k, hk, hl, rfl⟩
    rw [pe_ap_mu _ _ hi]
    exact hc _ k (pe_ap_lt _ _) hk hl ha
/-- the whole chain -/
def qv_fl (ns : Nat) (sq lv : Nat → Nat) (ch : Nat → Nat → Option Nat) : Prop := ∀ i, i < 6 → qv_P ns sq lv i (ch i) ∧ qv_cl ns sq lv i (ch i)
theorem qv_ok {ns : Nat} {sq lv : Nat → Nat} {ch : Nat → Nat → Option Nat} (h : qv_fl ns sq lv ch) : cn_ok ch :=
  ⟨fun i hi => (h i hi).1.1, fun i y c hi hy e => ⟨((h i hi).1.2 y c hy e).1, ((h i hi).1.2 y c hy e).2.1, ((h i hi).1.2 y c hy e).2.2.1⟩⟩
def qv_w (ch : Nat → Nat → Option Nat) : Nat → Nat
  | 0 => 0
  | n + 1 => qv_w ch n + qv_sz (ch n) 6
theorem qv_w_le {ch : Nat → Nat → Option Nat} (ok : cn_ok ch) : qv_w ch 6 ≤ 21 := by
  have k : ∀ i, i < 6 → qv_sz (ch i) 6 + i ≤ 6 := by
    intro i hi
    apply qv_sz_fr 6 (by omega)
    intro y hy
    cases h : ch i y with
    | none => rfl
    | some c => exact absurd (el_ge ok hi (by omega) h) (by omega)
  have k0 := k 0 (by omega)
  have k1 := k 1 (by omega)
  have k2 := k 2 (by omega)
  have k3 := k 3 (by omega)
  have k4 := k 4 (by omega)
  have k5 := k 5 (by omega)
  show 0 + qv_sz (ch 0) 6 + qv_sz (ch 1) 6 + qv_sz (ch 2) 6 + qv_sz (ch 3) 6 + qv_sz (ch 4) 6 + qv_sz (ch 5) 6 ≤ 21
  omega
theorem qv_w_mono {ch ch' : Nat → Nat → Option Nat} : ∀ n, (∀ i, i < n → qv_sz (ch i) 6 ≤ qv_sz (ch' i) 6) → qv_w ch n ≤ qv_w ch' n := by
  intro n
  induction n with
  | zero => intro _; exact Nat.le_refl _
  | succ n ih =>
    intro h
    have h1 := ih (fun i hi => h i (by omega))
    have h2 := h n (by omega)
    show qv_w ch n + qv_sz (ch n) 6 ≤ qv_w ch' n + qv_sz (ch' n) 6
    omega
theorem qv_w_str {ch ch' : Nat → Nat → Option Nat} {j : Nat} (hj : qv_sz (ch j) 6 < qv_sz (ch' j) 6) : ∀ n, j < n → (∀ i, i < n → qv_sz (ch i) 6 ≤ qv_sz (ch' i) 6) → qv_w ch n < qv_w ch' n := by
  intro n
  induction n with
  | zero => intro h; omega
  | succ n ih =>
    intro hn h
    show qv_w ch n + qv_sz (ch n) 6 < qv_w ch' n + qv_sz (ch' n) 6
    rcases Nat.lt_or_ge j n with a | a
    · have h1 := ih a (fun i hi => h i (by omega))
      have h2 := h n (by omega)
      omega
    · have : j = n := by omega
      subst this
      have h1 := qv_w_mono j (fun i hi => h i (by omega))
      omega
/-- a residue learnt makes the chain heavier -/
theorem qv_grow {ns : Nat} {sq lv sq' lv' : Nat → Nat} {ch ch' : Nat → Nat → Option Nat} (hs' : qv_sg (ns + 1) sq' lv') (h : qv_fl ns sq lv ch) (h' : qv_fl (ns + 1) sq' lv' ch') (hsq : ∀ k, k < ns → sq' k = sq k ∧ lv' k = lv k) {j : Nat} (hj : j < 6) (hl : lv' ns = j) (hn : ch j (pe_ap (sq' ns) j) = none) : qv_w ch 6 < qv_w ch' 6 := by
  have hm : ∀ i, i < 6 → ∀ y, y < 6 → ch i y ≠ none → ch' i y ≠ none := by
    intro i hi y hy hc
    cases e : ch i y with
    | none => exact absurd e hc
    | some c =>
      obtain ⟨cp, cf, ci, cg⟩ := (h i hi).1.2 y c hy e
      have g' : gr_G (qv_T (ns + 1) sq' lv' i) c := by
        refine gr_mono (qv_T_P hs') ?_ cg
        rintro t ⟨k, hk, hl, rfl⟩
        apply gr_in (qv_T_P hs')
        exact ⟨k, by omega, by rw [(hsq k hk).2]; exact hl, (hsq k hk).1.symm⟩
      have := qv_orb hi (h' i hi).1 (h' i hi).2 g'
      rwa [ci] at this
  apply qv_w_str (j := j) _ 6 hj
  · intro i hi
    exact qv_sz_mono 6 (hm i hi)
  · apply qv_sz_str hn _ 6 (pe_ap_lt _ _) (hm j hj)
    have hid : ch' j j ≠ none := by rw [(h' j hj).1.1]; simp
    exact (h' j hj).2 j ns hj (by omega) (by omega) hid
end
section
/-! X's chain: sift, firstMoved, extend, findCarriers -/
def x_ch (ch : Nat → Nat → Option Nat) (ca cb : Nat → Int32) : Prop := ∀ i, i < 6 → qv_ar i (ch i) ca cb
theorem xc_ix (i y : Nat) : nI i * 6 + nI y = nI (i * 6 + y) := by
  have e : nI i * 6 = nI (i * 6) := pk_mul i 6
  rw [e, nI_add]
theorem xc_cl {i y : Nat} (hi : i < 6) (hy : y < 6) : (nI i * 6 + nI y).toNatClampNeg = i * 6 + y := by
  rw [xc_ix, nI_clamp (by omega)]
theorem xc_in {i y : Nat} (hi : i < 6) (hy : y < 6) : vp_in (nI i * 6 + nI y) 36 := by
  rw [xc_ix]
  exact vp_in_nI (by omega) (by decide)
section
variable {co bu sc wa ot ws : Int32} {ge ca cb st sl tr sf : Nat → Int32}
theorem xl_sift {post : Int32 → Prop} {ch : Nat → Nat → Option Nat} (hx : x_ch ch ca cb) : ∀ d i n g, i + d = 6 → d < n → post (ex (cn_si ch d i g)) → wX_sift_4 post co bu sc wa ot ws ge ca cb st sl tr sf n (ex g) (nI i) := by
  intro d
  induction d with
  | zero =>
    intro i n g hi hn hp
    obtain ⟨n, rfl⟩ : ∃ q, n = q + 1 := ⟨n - 1, by omega⟩
    have : i = 6 := by omega
    subst this
    exact br_t (by decide) hp
  | succ d ih =>
    intro i n g hi hn hp
    obtain ⟨n, rfl⟩ : ∃ q, n = q + 1 := ⟨n - 1, by omega⟩
    have h6 := pe_ap_lt g i
    refine br_f (nI_ge (b := 6) (by omega) (by decide)) (xw_digit (by omega) ⟨xc_in (by omega) h6, ?_⟩)
    rw [xc_cl (by omega) h6]
    cases hc : ch i (pe_ap g i) with
    | none =>
      rw [cn_si_n hc] at hp
      exact nm_r ((hx i (by omega) _ h6).2 hc) (br_t rfl hp)
    | some c =>
      rw [cn_si_s hc] at hp
      obtain ⟨e1, e2⟩ := (hx i (by omega) _ h6).1 c hc
      refine nm_r e1 (br_f (ex_n4 c) ⟨xc_in (by omega) h6, ?_⟩)
      rw [e2]
      exact xw_times (nm_r (nI_1 i) (ih (i + 1) n _ (by omega) (by omega) hp))
theorem xw_sift {post : Int32 → Prop} {ch : Nat → Nat → Option Nat} (hx : x_ch ch ca cb) {g : Nat} (hp : post (ex (cn_si ch 6 0 g))) : wpX_sift post (co, bu, sc, wa, ot, ws, ge, ca, cb, st, sl, tr, sf) (ex g) :=
  ⟨7, xl_sift hx 6 0 7 g rfl (by omega) hp⟩
theorem xl_fm {post : Int32 → Prop} {g j : Nat} (hj : j < 6) (hf : cn_fx j g) (hm : pe_ap g j ≠ j) (hp : post (nI j)) : ∀ d i n, i + d = j → d < n → wX_firstMoved_2 post (ex g) co bu sc wa ot ws ge ca cb st sl tr sf n (nI i) := by
  intro d
  induction d with
  | zero =>
    intro i n hi hn
    obtain ⟨n, rfl⟩ : ∃ q, n = q + 1 := ⟨n - 1, by omega⟩
    have : i = j := by omega
    subst this
    have h6 := pe_ap_lt g i
    exact br_f (nI_ge (b := 6) (by omega) (by decide)) (xw_digit (by omega) (br_f (fun z => hm ((nI_eq (by omega) (by omega)).mp z)) hp))
  | succ d ih =>
    intro i n hi hn
    obtain ⟨n, rfl⟩ : ∃ q, n = q + 1 := ⟨n - 1, by omega⟩
    refine br_f (nI_ge (b := 6) (by omega) (by decide)) (xw_digit (by omega) (br_t (congrArg nI (hf i (by omega))) (nm_r (nI_1 i) (ih (i + 1) n (by omega) (by omega)))))
theorem xw_fm {post : Int32 → Prop} {u : SX} {g j : Nat} (hj : j < 6) (hf : cn_fx j g) (hm : pe_ap g j ≠ j) (hp : post (nI j)) : wpX_firstMoved post u (ex g) := by
  obtain ⟨co, bu, sc, wa, ot, ws, ge, ca, cb, st, sl, tr, sf⟩ := u
  exact ⟨j + 1, xl_fm hj hf hm hp j 0 (j + 1) (by omega) (by omega)⟩
end
/-- the strong generators in the arrays -/
def x_sg (ns : Nat) (sq lv : Nat → Nat) (st sl : Nat → Int32) : Prop := ∀ k, k < ns → st k = ex (sq k) ∧ sl k = nI (lv k)
/-- outside level i nothing is changed -/
def xc_fr (i : Nat) (a b : Nat → Int32) : Prop := ∀ j, j < i * 6 ∨ i * 6 + 6 ≤ j → b j = a j
theorem xc_fr_rf (i : Nat) (a : Nat → Int32) : xc_fr i a a := fun _ _ => rfl
theorem xc_fr_tr {i : Nat} {a b c : Nat → Int32} (h : xc_fr i a b) (k : xc_fr i b c) : xc_fr i a c := fun j hj => (k j hj).trans (h j hj)
theorem xc_fr_upd {i z : Nat} {a b : Nat → Int32} (h : xc_fr i a b) (hz : z < 6) (v : Int32) : xc_fr i a (upd b (i * 6 + z) v) := by
  intro j hj
  rw [pk_un (by omega), h j hj]
theorem xc_ar_set {i z c : Nat} {e : Nat → Option Nat} {ca cb : Nat → Int32} (h : qv_ar i e ca cb) : qv_ar i (qv_set e z c) (upd ca (i * 6 + z) (ex c)) (upd cb (i * 6 + z) (ex (pe_iv c))) := by
  intro y hy
  by_cases e0 : y = z
  · subst e0
    rw [qv_set_s, pk_us, pk_us]
    exact ⟨fun c' hc => by rw [Option.some.inj hc]; exact ⟨rfl, rfl⟩, fun hc => by cases hc⟩
  · rw [qv_set_o e0, pk_un (by omega), pk_un (by omega)]
    exact h y hy
/-- what one pass of extend keeps: e0 the level at its beginning, the pairs before (y, k) visited -/
def xc_I (ns : Nat) (sq lv : Nat → Nat) (i : Nat) (e0 : Nat → Option Nat) (ca0 cb0 : Nat → Int32) (y k : Nat) (e : Nat → Option Nat) (ca cb : Nat → Int32) : Prop :=
  qv_ar i e ca cb ∧ xc_fr i ca0 ca ∧ xc_fr i cb0 cb ∧ qv_P ns sq lv i e ∧
  ((e = e0 ∧ ∀ y' k', y' < 6 → k' < ns → (y' < y ∨ (y' = y ∧ k' < k)) → i ≤ lv k' → e0 y' ≠ none → e0 (pe_ap (sq k') y') ≠ none) ∨ qv_sz e0 6 < qv_sz e 6) ∧
  (qv_cl ns sq lv i e0 → e = e0)
theorem xc_sz_le {ns : Nat} {sq lv : Nat → Nat} {i : Nat} {e0 : Nat → Option Nat} {ca0 cb0 : Nat → Int32} {y k : Nat} {e : Nat → Option Nat} {ca cb : Nat → Int32} (h : xc_I ns sq lv i e0 ca0 cb0 y k e ca cb) : qv_sz e0 6 ≤ qv_sz e 6 := by
  rcases h.2.2.2.2.1 with ⟨e1, _⟩ | e1
  · rw [e1]; exact Nat.le_refl _
  · omega
/-- a pair visited that changes nothing -/
theorem xc_I_skip {ns : Nat} {sq lv : Nat → Nat} {i : Nat} {e0 : Nat → Option Nat} {ca0 cb0 : Nat → Int32} {y k : Nat} {e : Nat → Option Nat} {ca cb : Nat → Int32} (h : xc_I ns sq lv i e0 ca0 cb0 y k e ca cb) (hs : i ≤ lv k → e y ≠ none → e (pe_ap (sq k) y) ≠ none) : xc_I ns sq lv i e0 ca0 cb0 y (k + 1) e ca cb := by
  obtain ⟨h1, h2, h3, h4, h5, h6⟩ := h
  refine ⟨h1, h2, h3, h4, ?_, h6⟩
  rcases h5 with ⟨e1, hv⟩ | e1
  · refine Or.inl ⟨e1, ?_⟩
    intro y' k' hy' hk' ho
    by_cases e2 : y' = y ∧ k' = k
    · obtain ⟨rfl, rfl⟩ := e2
      rw [← e1]
      exact hs
    · exact hv y' k' hy' hk' (by omega)
  · exact Or.inr e1
/-- a pair visited that gives a new carrier -/
theorem xc_I_new {ns : Nat} {sq lv : Nat → Nat} (hs : qv_sg ns sq lv) {i : Nat} (hi : i < 6) {e0 : Nat → Option Nat} {ca0 cb0 : Nat → Int32} {y k c : Nat} {e : Nat → Option Nat} {ca cb : Nat → Int32} (h : xc_I ns sq lv i e0 ca0 cb0 y k e ca cb) (hy : y < 6) (hk : k < ns) (hl : i ≤ lv k) (hc : e y = some c) (hz : e (pe_ap (sq k) y) = none) :
    xc_I ns sq lv i e0 ca0 cb0 y (k + 1) (qv_set e (pe_ap (sq k) y) (pe_mu c (sq k))) (upd ca (i * 6 + pe_ap (sq k) y) (ex (pe_mu c (sq k)))) (upd cb (i * 6 + pe_ap (sq k) y) (ex (pe_iv (pe_mu c (sq k))))) := by
  have hle := xc_sz_le h
  obtain ⟨h1, h2, h3, h4, h5, h6⟩ := h
  refine ⟨xc_ar_set h1, xc_fr_upd h2 (pe_ap_lt _ _) _, xc_fr_upd h3 (pe_ap_lt _ _) _, qv_P_set hs hi h4 hy hk hl hc hz, Or.inr ?_, ?_⟩
  · have : qv_sz e 6 < qv_sz (qv_set e (pe_ap (sq k) y) (pe_mu c (sq k))) 6 := by
      apply qv_sz_str hz (by rw [qv_set_s]; simp) 6 (pe_ap_lt _ _)
      intro y' _ hn
      by_cases e1 : y' = pe_ap (sq k) y
      · rw [e1, qv_set_s]; simp
      · rw [qv_set_o e1]; exact hn
    omega
  · intro hcl
    have e1 := h6 hcl
    subst e1
    exact absurd hz (hcl y k hy hk hl (by rw [hc]; simp))
section
variable {co bu sc wa ot ws : Int32} {ge ca cb st sl tr sf : Nat → Int32}
theorem xl_e10 {post : SX → Prop} {J : Int32 → (Nat → Int32) → (Nat → Int32) → (Nat → Int32) → (Nat → Int32) → (Nat → Int32) → (Nat → Int32) → (Nat → Int32) → Prop} {ns : Nat} (h40 : ns ≤ 40) {sq lv : Nat → Nat} (hg : x_sg ns sq lv st sl) (hs : qv_sg ns sq lv) {i y : Nat} (hi : i < 6) (hy : y < 6) {e0 : Nat → Option Nat} {ca0 cb0 : Nat → Int32} (K : ∀ e ca cb, xc_I ns sq lv i e0 ca0 cb0 y ns e ca cb → J (nI (y + 1)) ge ca cb st sl tr sf) :
    ∀ d k n e ca cb, k + d = ns → d < n → xc_I ns sq lv i e0 ca0 cb0 y k e ca cb → wX_extend_10 post J (nI i) (nI y) co bu (nI ns) wa ot ws n (nI k) ge ca cb st sl tr sf := by
  intro d
  induction d with
  | zero =>
    intro k n e ca cb hk hn I
    obtain ⟨n, rfl⟩ : ∃ q, n = q + 1 := ⟨n - 1, by omega⟩
    have : k = ns := by omega
    subst this
    exact br_t (nI_le (by omega) (by omega)) (nm_r (nI_1 y) (K e ca cb I))
  | succ d ih =>
    intro k n e ca cb hk hn I
    obtain ⟨n, rfl⟩ : ∃ q, n = q + 1 := ⟨n - 1, by omega⟩
    obtain ⟨g1, g2⟩ := hg k (by omega)
    obtain ⟨s1, s2, s3⟩ := hs k (by omega)
    have h6 := pe_ap_lt (sq k) y
    have hin : vp_in (nI k) 40 := vp_in_nI (by omega) (by decide)
    refine br_f (nI_ge (by omega) (by omega)) ⟨hin, ?_⟩
    rw [nI_clamp (n := k) (by omega), g1, g2]
    by_cases hl : lv k < i
    · exact br_t (nI_lt hl (by omega)) (nm_r (nI_1 k) (ih (k + 1) n e ca cb (by omega) (by omega) (xc_I_skip I (fun h => absurd h (by omega)))))
    refine br_f (nI_nlt (by omega) (by omega)) ⟨xc_in hi hy, ?_⟩
    rw [xc_cl hi hy]
    cases hc : e y with
    | none =>
      rw [(I.1 y hy).2 hc]
      exact br_t rfl (nm_r (nI_1 k) (ih (k + 1) n e ca cb (by omega) (by omega) (xc_I_skip I (fun _ h => absurd hc h))))
    | some c =>
      rw [((I.1 y hy).1 c hc).1]
      refine br_f (ex_n4 c) ⟨hin, xw_digit hy ⟨xc_in hi h6, ?_⟩⟩
      rw [xc_cl hi h6]
      cases hz : e (pe_ap (sq k) y) with
      | none =>
        rw [(I.1 _ h6).2 hz]
        refine br_t rfl ⟨xc_in hi hy, hin, xw_times ⟨xc_in hi h6, nm_e ⟨xc_in hi h6, ?_⟩⟩⟩
        rw [pk_us]
        refine xw_inv (pe_mu_P (I.2.2.2.1.2 y c hy hc).1 s1) ⟨xc_in hi h6, nm_e (nm_r (nI_1 k) ?_)⟩
        exact ih (k + 1) n _ _ _ (by omega) (by omega) (xc_I_new hs hi I hy (by omega) (by omega) hc hz)
      | some c' =>
        rw [((I.1 _ h6).1 c' hz).1]
        refine br_f (ex_n4 c') (nm_r (nI_1 k) (ih (k + 1) n e ca cb (by omega) (by omega) (xc_I_skip I (fun _ _ h => ?_))))
        rw [hz] at h
        cases h
theorem xc_I_row {ns : Nat} {sq lv : Nat → Nat} {i : Nat} {e0 : Nat → Option Nat} {ca0 cb0 : Nat → Int32} {y : Nat} {e : Nat → Option Nat} {ca cb : Nat → Int32} (h : xc_I ns sq lv i e0 ca0 cb0 y ns e ca cb) : xc_I ns sq lv i e0 ca0 cb0 (y + 1) 0 e ca cb := by
  obtain ⟨h1, h2, h3, h4, h5, h6⟩ := h
  refine ⟨h1, h2, h3, h4, ?_, h6⟩
  rcases h5 with ⟨e1, hv⟩ | e1
  · exact Or.inl ⟨e1, fun y' k' hy' hk' ho => hv y' k' hy' hk' (by omega)⟩
  · exact Or.inr e1
theorem xl_e2 {post : SX → Prop} {ns : Nat} (h40 : ns ≤ 40) {sq lv : Nat → Nat} (hg : x_sg ns sq lv st sl) (hs : qv_sg ns sq lv) {i : Nat} (hi : i < 6) {e0 : Nat → Option Nat} {ca0 cb0 : Nat → Int32} (K : ∀ e ca cb, xc_I ns sq lv i e0 ca0 cb0 6 0 e ca cb → post (co, bu, nI ns, wa, ot, ws, ge, ca, cb, st, sl, tr, sf)) :
    ∀ d y n e ca cb, y + d = 6 → d < n → xc_I ns sq lv i e0 ca0 cb0 y 0 e ca cb → wX_extend_2 post (nI i) co bu (nI ns) wa ot ws n (nI y) ge ca cb st sl tr sf := by
  intro d
  induction d with
  | zero =>
    intro y n e ca cb hy hn I
    obtain ⟨n, rfl⟩ : ∃ q, n = q + 1 := ⟨n - 1, by omega⟩
    have : y = 6 := by omega
    subst this
    exact br_t (by decide) (K e ca cb I)
  | succ d ih =>
    intro y n e ca cb hy hn I
    obtain ⟨n, rfl⟩ : ∃ q, n = q + 1 := ⟨n - 1, by omega⟩
    refine br_f (nI_ge (b := 6) (by omega) (by decide)) ⟨ns + 1, ?_⟩
    refine xl_e10 h40 hg hs hi (by omega) ?_ ns 0 (ns + 1) e ca cb (by omega) (by omega) I
    intro e' ca' cb' I'
    exact ih (y + 1) n e' ca' cb' (by omega) (by omega) (xc_I_row I')
/-- one pass -/
theorem xw_ext {post : SX → Prop} {ns : Nat} (h40 : ns ≤ 40) {sq lv : Nat → Nat} (hg : x_sg ns sq lv st sl) (hs : qv_sg ns sq lv) {i : Nat} (hi : i < 6) {e : Nat → Option Nat} (ha : qv_ar i e ca cb) (hP : qv_P ns sq lv i e)
    (K : ∀ e' ca' cb', qv_ar i e' ca' cb' → qv_P ns sq lv i e' → xc_fr i ca ca' → xc_fr i cb cb' → (qv_cl ns sq lv i e' ∨ qv_sz e 6 < qv_sz e' 6) → (qv_cl ns sq lv i e → qv_cl ns sq lv i e') → post (co, bu, nI ns, wa, ot, ws, ge, ca', cb', st, sl, tr, sf)) : wpX_extend post (co, bu, nI ns, wa, ot, ws, ge, ca, cb, st, sl, tr, sf) (nI i) := by
  refine ⟨7, xl_e2 h40 hg hs hi (e0 := e) (ca0 := ca) (cb0 := cb) ?_ 6 0 7 e ca cb rfl (by omega) ⟨ha, xc_fr_rf _ _, xc_fr_rf _ _, hP, Or.inl ⟨rfl, fun _ _ _ _ h => absurd h (by omega)⟩, fun _ => rfl⟩⟩
  rintro e' ca' cb' ⟨h1, h2, h3, h4, h5, h6⟩
  refine K e' ca' cb' h1 h4 h2 h3 ?_ ?_
  · rcases h5 with ⟨e1, hv⟩ | e1
    · refine Or.inl ?_
      subst e1
      exact fun y k hy hk hl hn => hv y k hy hk (by omega) hl hn
    · exact Or.inr e1
  · intro hc
    rw [h6 hc]
    exact hc
theorem xl_f58 {post : SX → Prop} {J : Int32 → Int32 → Int32 → Int32 → Int32 → Int32 → Int32 → (Nat → Int32) → (Nat → Int32) → (Nat → Int32) → (Nat → Int32) → (Nat → Int32) → (Nat → Int32) → (Nat → Int32) → Prop} {ns : Nat} (h40 : ns ≤ 40) {sq lv : Nat → Nat} (hg : x_sg ns sq lv st sl) (hs : qv_sg ns sq lv) {i : Nat} (hi : i < 6) {ca0 cb0 : Nat → Int32}
    (K : ∀ e' ca' cb', qv_ar i e' ca' cb' → qv_P ns sq lv i e' → qv_cl ns sq lv i e' → xc_fr i ca0 ca' → xc_fr i cb0 cb' → J (nI (i + 1)) co bu (nI ns) wa ot ws ge ca' cb' st sl tr sf) :
    ∀ d r n e ca cb, r + d = 6 → d < n → qv_ar i e ca cb → qv_P ns sq lv i e → xc_fr i ca0 ca → xc_fr i cb0 cb → (qv_cl ns sq lv i e ∨ r + 1 ≤ qv_sz e 6) → wX_findCarriers_58 post J (nI i) n (nI r) co bu (nI ns) wa ot ws ge ca cb st sl tr sf := by
  intro d
  induction d with
  | zero =>
    intro r n e ca cb hr hn ha hP hfa hfb hc
    obtain ⟨n, rfl⟩ : ∃ q, n = q + 1 := ⟨n - 1, by omega⟩
    have : r = 6 := by omega
    subst this
    refine br_t (by decide) (nm_r (nI_1 i) (K e ca cb ha hP ?_ hfa hfb))
    rcases hc with h | h
    · exact h
    · have := qv_sz_le e 6
      omega
  | succ d ih =>
    intro r n e ca cb hr hn ha hP hfa hfb hc
    obtain ⟨n, rfl⟩ : ∃ q, n = q + 1 := ⟨n - 1, by omega⟩
    refine br_f (nI_ge (b := 6) (by omega) (by decide)) (xw_ext h40 hg hs hi ha hP ?_)
    intro e' ca' cb' ha' hP' hfa' hfb' h1 h2
    refine nm_r (nI_1 r) (ih (r + 1) n e' ca' cb' (by omega) (by omega) ha' hP' (xc_fr_tr hfa hfa') (xc_fr_tr hfb hfb') ?_)
    rcases h1 with h | h
    · exact Or.inl h
    · rcases hc with k | k
      · exact Or.inl (h2 k)
      · exact Or.inr (by omega)
/-- the level's first carrier -/
def xc_e0 (i : Nat) : Nat → Option Nat := fun y => if y = i then some pe_id else none
theorem xc_e0_s (i : Nat) : xc_e0 i i = some pe_id := if_pos rfl
theorem xc_e0_n {i y : Nat} (h : y ≠ i) : xc_e0 i y = none := if_neg h
theorem xc_e0_P {ns : Nat} {sq lv : Nat → Nat} {i : Nat} (hi : i < 6) : qv_P ns sq lv i (xc_e0 i) := by
  refine ⟨xc_e0_s i, ?_⟩
  intro y c hy hc
  by_cases e : y = i
  · subst e
    rw [xc_e0_s] at hc
    have := Option.some.inj hc
    subst this
    exact ⟨pe_id_P, cn_fx_id (by omega), pe_ap_id hi, gr_id⟩
  · rw [xc_e0_n e] at hc
    cases hc
theorem xc_e0_sz (i : Nat) (hi : i < 6) : 1 ≤ qv_sz (xc_e0 i) 6 :=
  (by decide : ∀ i, i < 6 → 1 ≤ qv_sz (xc_e0 i) 6) i hi
/-- the levels before i are done, the others empty -/
def xc_D (ns : Nat) (sq lv : Nat → Nat) (i : Nat) (ch : Nat → Nat → Option Nat) (ca cb : Nat → Int32) : Prop :=
  (∀ i', i' < i → qv_ar i' (ch i') ca cb ∧ qv_P ns sq lv i' (ch i') ∧ qv_cl ns sq lv i' (ch i')) ∧ ∀ j, i * 6 ≤ j → j < 36 → ca j = -4
theorem xl_f24 {post : SX → Prop} {ns : Nat} (h40 : ns ≤ 40) {sq lv : Nat → Nat} (hg : x_sg ns sq lv st sl) (hs : qv_sg ns sq lv)
    (K : ∀ ch ca' cb', x_ch ch ca' cb' → qv_fl ns sq lv ch → post (co, bu, nI ns, wa, ot, ws, ge, ca', cb', st, sl, tr, sf)) :
    ∀ d i n ch ca cb, i + d = 6 → d < n → xc_D ns sq lv i ch ca cb → wX_findCarriers_24 post n (nI i) co bu (nI ns) wa ot ws ge ca cb st sl tr sf := by
  intro d
  induction d with
  | zero =>
    intro i n ch ca cb hi hn D
    obtain ⟨n, rfl⟩ : ∃ q, n = q + 1 := ⟨n - 1, by omega⟩
    have : i = 6 := by omega
    subst this
    exact br_t (by decide) (K ch ca cb (fun i hi => (D.1 i hi).1) (fun i hi => (D.1 i hi).2))
  | succ d ih =>
    intro i n ch ca cb hi hn D
    obtain ⟨n, rfl⟩ : ∃ q, n = q + 1 := ⟨n - 1, by omega⟩
    have hi6 : i < 6 := by omega
    refine br_f (nI_ge (b := 6) (by omega) (by decide)) ⟨xc_in hi6 hi6, nm_e ⟨xc_in hi6 hi6, nm_e ⟨7, ?_⟩⟩⟩
    rw [xc_cl hi6 hi6]
    refine xl_f58 h40 hg hs hi6 (ca0 := upd ca (i * 6 + i) 181896) (cb0 := upd cb (i * 6 + i) 181896) ?_ 6 0 7 (xc_e0 i) _ _ rfl (by omega) ?_ (xc_e0_P hi6) (xc_fr_rf _ _) (xc_fr_rf _ _) (Or.inr (xc_e0_sz i hi6))
    · intro e' ca' cb' ha' hP' hc' hfa hfb
      refine ih (i + 1) n (fun i' => if i' = i then e' else ch i') ca' cb' (by omega) (by omega) ⟨?_, ?_⟩
      · intro i' hi'
        by_cases e : i' = i
        · subst e
          dsimp only
          rw [if_pos rfl]
          exact ⟨ha', hP', hc'⟩
        · dsimp only
          rw [if_neg e]
          obtain ⟨d1, d2, d3⟩ := D.1 i' (by omega)
          refine ⟨?_, d2, d3⟩
          intro y hy
          rw [hfa _ (by omega), hfb _ (by omega), pk_un (by omega), pk_un (by omega)]
          exact d1 y hy
      · intro j hj hj'
        rw [hfa _ (by omega), pk_un (by omega)]
        exact D.2 j (by omega) hj'
    · intro y hy
      by_cases e : y = i
      · subst e
        rw [xc_e0_s, pk_us, pk_us, ← ex_id]
        refine ⟨fun c hc => ?_, fun hc => by cases hc⟩
        rw [← Option.some.inj hc, pe_iv_id]
        exact ⟨rfl, rfl⟩
      · rw [xc_e0_n e, pk_un (by omega)]
        exact ⟨(fun c hc => by cases hc), fun _ => D.2 (i * 6 + y) (by omega) (by omega)⟩
theorem xl_f2 {post : SX → Prop} : ∀ d k n ca, k + d = 36 → d < n → (∀ j, j < k → ca j = -4) → (∀ ca', (∀ j, j < 36 → ca' j = -4) → ∃ n24 : Nat, wX_findCarriers_24 post n24 0 co bu sc wa ot ws ge ca' cb st sl tr sf) → wX_findCarriers_2 post co bu sc wa ot ws n (nI k) ge ca cb st sl tr sf := by
  intro d
  induction d with
  | zero =>
    intro k n ca hk hn hz K
    obtain ⟨n, rfl⟩ : ∃ q, n = q + 1 := ⟨n - 1, by omega⟩
    have : k = 36 := by omega
    subst this
    exact br_t (by decide) (K ca hz)
  | succ d ih =>
    intro k n ca hk hn hz K
    obtain ⟨n, rfl⟩ : ∃ q, n = q + 1 := ⟨n - 1, by omega⟩
    refine br_f (nI_ge (b := 36) (by omega) (by decide)) ⟨vp_in_nI (by omega) (by decide), nm_e (nm_r (nI_1 k) (ih (k + 1) n _ (by omega) (by omega) ?_ K))⟩
    intro j hj
    rw [nI_clamp (by omega)]
    rcases Nat.lt_or_ge j k with a | a
    · rw [pk_un (by omega), hz j a]
    · have : j = k := by omega
      subst this
      exact pk_us
theorem xw_find {post : SX → Prop} {ns : Nat} (h40 : ns ≤ 40) {sq lv : Nat → Nat} (hg : x_sg ns sq lv st sl) (hs : qv_sg ns sq lv)
    (K : ∀ ch ca' cb', x_ch ch ca' cb' → qv_fl ns sq lv ch → post (co, bu, nI ns, wa, ot, ws, ge, ca', cb', st, sl, tr, sf)) : wpX_findCarriers post (co, bu, nI ns, wa, ot, ws, ge, ca, cb, st, sl, tr, sf) := by
  refine ⟨37, xl_f2 36 0 37 ca rfl (by omega) (fun _ h => absurd h (by omega)) ?_⟩
  intro ca' hz
  exact ⟨7, xl_f24 h40 hg hs K 6 0 7 (fun _ _ => none) ca' cb rfl (by omega) ⟨fun _ h => absurd h (by omega), fun j _ h => hz j h⟩⟩
end
end
section
/-! learn, closedAt, closed, build -/
/-- the state of the building: ns strong generators, all in the group G0 -/
def x_B (G0 : Nat → Prop) (ns : Nat) (sq lv : Nat → Nat) (ch : Nat → Nat → Option Nat) (ca cb st sl : Nat → Int32) : Prop :=
  x_sg ns sq lv st sl ∧ qv_sg ns sq lv ∧ x_ch ch ca cb ∧ qv_fl ns sq lv ch ∧ ns + 6 ≤ qv_w ch 6 ∧ ∀ k, k < ns → G0 (sq k)
theorem xB_15 {G0 : Nat → Prop} {ns : Nat} {sq lv : Nat → Nat} {ch : Nat → Nat → Option Nat} {ca cb st sl : Nat → Int32} (B : x_B G0 ns sq lv ch ca cb st sl) : ns ≤ 15 := by
  have h1 := qv_w_le (qv_ok B.2.2.2.1)
  have h2 := B.2.2.2.2.1
  omega
/-- carriers lie in the group -/
theorem xB_car {T0 : Nat → Prop} (h0 : ∀ t, T0 t → pe_P t) {ns : Nat} {sq lv : Nat → Nat} {ch : Nat → Nat → Option Nat} (hfl : qv_fl ns sq lv ch) (hG : ∀ k, k < ns → gr_G T0 (sq k)) {i y c : Nat} (hi : i < 6) (hy : y < 6) (hc : ch i y = some c) : gr_G T0 c := by
  refine gr_mono h0 ?_ ((hfl i hi).1.2 y c hy hc).2.2.2
  rintro t ⟨k, hk, _, rfl⟩
  exact hG k hk
def xB_ns (f : Nat → Nat) (ns v : Nat) : Nat → Nat := fun k => if k = ns then v else f k
theorem xB_ns_s {f : Nat → Nat} {ns v : Nat} : xB_ns f ns v ns = v := if_pos rfl
theorem xB_ns_o {f : Nat → Nat} {ns v k : Nat} (h : k < ns) : xB_ns f ns v k = f k := if_neg (by omega)
section
variable {co bu sc wa ot ws : Int32} {ge ca cb st sl tr sf : Nat → Int32}
theorem xw_learn {post : Int32 → SX → Prop} {T0 : Nat → Prop} (h0 : ∀ t, T0 t → pe_P t) {ns : Nat} {sq lv : Nat → Nat} {ch : Nat → Nat → Option Nat} (B : x_B (gr_G T0) ns sq lv ch ca cb st sl) {g : Nat} (hg : gr_G T0 g)
    (K0 : cn_si ch 6 0 g = pe_id → post 0 (co, bu, nI ns, wa, ot, ws, ge, ca, cb, st, sl, tr, sf))
    (K1 : ∀ sq' lv' ch' ca' cb' st' sl', x_B (gr_G T0) (ns + 1) sq' lv' ch' ca' cb' st' sl' → (∀ k, k < ns → sq' k = sq k ∧ lv' k = lv k) → gr_G (qv_T (ns + 1) sq' lv' 0) g → post 1 (co, bu, nI (ns + 1), wa, ot, ws, ge, ca', cb', st', sl', tr, sf)) : wpX_learn post (co, bu, nI ns, wa, ot, ws, ge, ca, cb, st, sl, tr, sf) (ex g) := by
  have h15 := xB_15 B
  obtain ⟨b1, b2, b3, b4, b5, b6⟩ := B
  have ok := qv_ok b4
  have gp := gr_P h0 hg
  obtain ⟨rp, rc⟩ := cn_res ok 6 0 rfl g gp (fun _ h => absurd h (by omega))
  unfold wpX_learn
  dsimp only
  refine xw_sift b3 ?_
  by_cases hr : cn_si ch 6 0 g = pe_id
  · refine br_t (by rw [hr, ex_id]) (K0 hr)
  · have hr' : ¬ ex (cn_si ch 6 0 g) = 181896 := by
      rw [← ex_id]
      exact fun z => hr (ex_inj rp.1 (by decide) z)
    obtain ⟨j, hj, jf, jn⟩ : ∃ j, j < 6 ∧ cn_fx j (cn_si ch 6 0 g) ∧ ch j (pe_ap (cn_si ch 6 0 g) j) = none := rc.resolve_left hr
    have hG := cn_in ok h0 6 0 rfl (fun j y c _ hj hy hc => xB_car h0 b4 b6 hj hy hc) g gp
    have rG := hG.mp hg
    have jm : pe_ap (cn_si ch 6 0 g) j ≠ j := by
      intro z
      rw [z, ok.1 j hj] at jn
      cases jn
    have hsg' : qv_sg (ns + 1) (xB_ns sq ns (cn_si ch 6 0 g)) (xB_ns lv ns j) := by
      intro k hk
      rcases Nat.lt_or_ge k ns with a | a
      · rw [xB_ns_o a, xB_ns_o a]; exact b2 k a
      · have : k = ns := by omega
        subst this
        rw [xB_ns_s, xB_ns_s]
        exact ⟨rp, hj, jf⟩
    have hext : ∀ k, k < ns → xB_ns sq ns (cn_si ch 6 0 g) k = sq k ∧ xB_ns lv ns j k = lv k := fun k hk => ⟨xB_ns_o hk, xB_ns_o hk⟩
    have hin : vp_in (nI ns) 40 := vp_in_nI (by omega) (by decide)
    have hxs : x_sg (ns + 1) (xB_ns sq ns (cn_si ch 6 0 g)) (xB_ns lv ns j) (upd st ns (ex (cn_si ch 6 0 g))) (upd sl ns (nI j)) := by
      intro k hk
      rcases Nat.lt_or_ge k ns with a | a
      · rw [pk_un (by omega), pk_un (by omega), xB_ns_o a, xB_ns_o a]; exact b1 k a
      · have : k = ns := by omega
        subst this
        rw [pk_us, pk_us, xB_ns_s, xB_ns_s]
        exact ⟨rfl, rfl⟩
    refine br_f hr' ⟨hin, nm_r (e' := upd st ns (ex (cn_si ch 6 0 g))) (by rw [nI_clamp (by omega)]) (xw_fm hj jf jm ⟨hin, nm_r (e' := upd sl ns (nI j)) (by rw [nI_clamp (by omega)]) (nm_r (nI_1 ns) (xw_find (ns := ns + 1) (by omega) hxs hsg' ?_))⟩)⟩
    · intro ch' ca' cb' hx' hfl'
      refine K1 (xB_ns sq ns (cn_si ch 6 0 g)) (xB_ns lv ns j) ch' ca' cb' (upd st ns (ex (cn_si ch 6 0 g))) (upd sl ns (nI j)) ⟨hxs, hsg', hx', hfl', ?_, ?_⟩ hext ?_
      · have := qv_grow hsg' b4 hfl' hext hj xB_ns_s (by rw [xB_ns_s]; exact jn)
        omega
      · intro k hk
        rcases Nat.lt_or_ge k ns with a | a
        · rw [xB_ns_o a]; exact b6 k a
        · have : k = ns := by omega
          subst this
          rw [xB_ns_s]
          exact rG
      · have hU := qv_T_P hsg' (i := 0)
        refine (cn_in ok hU 6 0 rfl ?_ g gp).mpr (gr_in hU ⟨ns, by omega, by omega, xB_ns_s.symm⟩)
        intro j' y c _ hj' hy hc
        refine gr_mono hU ?_ ((b4 j' hj').1.2 y c hy hc).2.2.2
        rintro t ⟨k, hk, _, rfl⟩
        exact gr_in hU ⟨k, by omega, by omega, (xB_ns_o hk).symm⟩
end
/-- what one more strong generator leaves: the old ones stand -/
def x_N (ns : Nat) (sq lv sq' lv' : Nat → Nat) : Prop := ∀ k, k < ns → sq' k = sq k ∧ lv' k = lv k
section
variable {co bu sc wa ot ws : Int32} {ge ca cb st sl tr sf : Nat → Int32}
theorem xl_cAt {post : Int32 → SX → Prop} {T0 : Nat → Prop} (h0 : ∀ t, T0 t → pe_P t) {ns : Nat} {sq lv : Nat → Nat} {ch : Nat → Nat → Option Nat} (B : x_B (gr_G T0) ns sq lv ch ca cb st sl) {i y c : Nat} (hi : i < 6) (hy : y < 6) (hc : ch i y = some c)
    (K1 : (∀ k c', k < ns → i ≤ lv k → ch i (pe_ap (sq k) y) = some c' → cn_si ch 6 0 (pe_mu (pe_mu c (sq k)) (pe_iv c')) = pe_id) → post 1 (co, bu, nI ns, wa, ot, ws, ge, ca, cb, st, sl, tr, sf))
    (K0 : ∀ sq' lv' ch' ca' cb' st' sl', x_B (gr_G T0) (ns + 1) sq' lv' ch' ca' cb' st' sl' → x_N ns sq lv sq' lv' → post 0 (co, bu, nI (ns + 1), wa, ot, ws, ge, ca', cb', st', sl', tr, sf)) :
    ∀ d k n, k + d = ns → d < n → (∀ k' c', k' < k → i ≤ lv k' → ch i (pe_ap (sq k') y) = some c' → cn_si ch 6 0 (pe_mu (pe_mu c (sq k')) (pe_iv c')) = pe_id) → wX_closedAt_2 post (nI i) (nI y) n (nI k) co bu (nI ns) wa ot ws ge ca cb st sl tr sf := by
  have h15 := xB_15 B
  intro d
  induction d with
  | zero =>
    intro k n hk hn hv
    obtain ⟨n, rfl⟩ : ∃ q, n = q + 1 := ⟨n - 1, by omega⟩
    have : k = ns := by omega
    subst this
    exact br_t (nI_le (by omega) (by omega)) (K1 hv)
  | succ d ih =>
    intro k n hk hn hv
    obtain ⟨n, rfl⟩ : ∃ q, n = q + 1 := ⟨n - 1, by omega⟩
    obtain ⟨g1, g2⟩ := B.1 k (by omega)
    obtain ⟨s1, s2, s3⟩ := B.2.1 k (by omega)
    have b3 := B.2.2.1
    have b4 := B.2.2.2.1
    have h6 := pe_ap_lt (sq k) y
    have hin : vp_in (nI k) 40 := vp_in_nI (by omega) (by decide)
    refine br_f (nI_ge (by omega) (by omega)) ⟨hin, ?_⟩
    rw [nI_clamp (n := k) (by omega), g1, g2]
    by_cases hl : lv k < i
    · refine br_t (nI_lt hl (by omega)) (nm_r (nI_1 k) (ih (k + 1) n (by omega) (by omega) ?_))
      intro k' c' hk' hl'
      rcases Nat.lt_or_ge k' k with a | a
      · exact hv k' c' a hl'
      · have : k' = k := by omega
        subst this
        omega
    have hl' : i ≤ lv k := by omega
    have hcl := (b4 i hi).2 y k hy (by omega) hl' (by rw [hc]; simp)
    obtain ⟨c', hc'⟩ : ∃ c', ch i (pe_ap (sq k) y) = some c' := by
      cases e : ch i (pe_ap (sq k) y) with
      | none => exact absurd e hcl
      | some c' => exact ⟨c', rfl⟩
    refine br_f (nI_nlt (by omega) (by omega)) ⟨hin, xw_digit hy ⟨xc_in hi hy, hin, ?_⟩⟩
    rw [xc_cl hi hy, xc_cl hi h6, ((b3 i hi y hy).1 c hc).1, ((b3 i hi _ h6).1 c' hc').2]
    refine xw_times ⟨xc_in hi h6, xw_times (xw_learn h0 B ?_ ?_ ?_)⟩
    · have cg := xB_car h0 b4 B.2.2.2.2.2 hi hy hc
      have cg' := xB_car h0 b4 B.2.2.2.2.2 hi h6 hc'
      exact gr_mul h0 (gr_mul h0 cg (B.2.2.2.2.2 k (by omega))) (gr_inv h0 cg')
    · intro hz
      refine br_t rfl (nm_r (nI_1 k) (ih (k + 1) n (by omega) (by omega) ?_))
      intro k' c2 hk' hl2 hc2
      rcases Nat.lt_or_ge k' k with a | a
      · exact hv k' c2 a hl2 hc2
      · have : k' = k := by omega
        subst this
        have := Option.some.inj (hc'.symm.trans hc2)
        subst this
        exact hz
    · intro sq' lv' ch' ca' cb' st' sl' B' N' _
      exact br_f (by decide) (K0 sq' lv' ch' ca' cb' st' sl' B' N')
/-- the Schreier products of level i and point y vanish -/
def x_SC (ns : Nat) (sq lv : Nat → Nat) (ch : Nat → Nat → Option Nat) (i y : Nat) : Prop :=
  ∀ c k c', ch i y = some c → k < ns → i ≤ lv k → ch i (pe_ap (sq k) y) = some c' → cn_si ch 6 0 (pe_mu (pe_mu c (sq k)) (pe_iv c')) = pe_id
theorem xl_c10 {post : Int32 → SX → Prop} {J : Int32 → Int32 → Int32 → Int32 → Int32 → Int32 → Int32 → (Nat → Int32) → (Nat → Int32) → (Nat → Int32) → (Nat → Int32) → (Nat → Int32) → (Nat → Int32) → (Nat → Int32) → Prop} {T0 : Nat → Prop} (h0 : ∀ t, T0 t → pe_P t) {ns : Nat} {sq lv : Nat → Nat} {ch : Nat → Nat → Option Nat} (B : x_B (gr_G T0) ns sq lv ch ca cb st sl) {i : Nat} (hi : i < 6)
    (K1 : (∀ y, y < 6 → x_SC ns sq lv ch i y) → J (nI (i + 1)) co bu (nI ns) wa ot ws ge ca cb st sl tr sf)
    (K0 : ∀ sq' lv' ch' ca' cb' st' sl', x_B (gr_G T0) (ns + 1) sq' lv' ch' ca' cb' st' sl' → x_N ns sq lv sq' lv' → post 0 (co, bu, nI (ns + 1), wa, ot, ws, ge, ca', cb', st', sl', tr, sf)) :
    ∀ d y n, y + d = 6 → d < n → (∀ y', y' < y → x_SC ns sq lv ch i y') → wX_closed_10 post J (nI i) n (nI y) co bu (nI ns) wa ot ws ge ca cb st sl tr sf := by
  intro d
  induction d with
  | zero =>
    intro y n hy hn hv
    obtain ⟨n, rfl⟩ : ∃ q, n = q + 1 := ⟨n - 1, by omega⟩
    have : y = 6 := by omega
    subst this
    exact br_t (by decide) (nm_r (nI_1 i) (K1 hv))
  | succ d ih =>
    intro y n hy hn hv
    obtain ⟨n, rfl⟩ : ∃ q, n = q + 1 := ⟨n - 1, by omega⟩
    have hy6 : y < 6 := by omega
    have b3 := B.2.2.1
    refine br_f (nI_ge (b := 6) (by omega) (by decide)) ⟨xc_in hi hy6, ?_⟩
    rw [xc_cl hi hy6]
    cases hc : ch i y with
    | none =>
      rw [(b3 i hi y hy6).2 hc]
      refine br_t rfl (nm_r (nI_1 y) (ih (y + 1) n (by omega) (by omega) ?_))
      intro y' hy'
      rcases Nat.lt_or_ge y' y with a | a
      · exact hv y' a
      · have : y' = y := by omega
        subst this
        intro c k c' h
        rw [hc] at h
        cases h
    | some c =>
      rw [((b3 i hi y hy6).1 c hc).1]
      refine br_f (ex_n4 c) ⟨ns + 1, xl_cAt h0 B hi hy6 hc ?_ ?_ ns 0 (ns + 1) (by omega) (by omega) (fun _ _ h => absurd h (by omega))⟩
      · intro hz
        refine br_f (by decide) (nm_r (nI_1 y) (ih (y + 1) n (by omega) (by omega) ?_))
        intro y' hy'
        rcases Nat.lt_or_ge y' y with a | a
        · exact hv y' a
        · have : y' = y := by omega
          subst this
          intro c2 k c' h hk hl h'
          have := Option.some.inj (hc.symm.trans h)
          subst this
          exact hz k c' hk hl h'
      · intro sq' lv' ch' ca' cb' st' sl' B' N'
        exact br_t rfl (K0 sq' lv' ch' ca' cb' st' sl' B' N')
theorem xl_c2 {post : Int32 → SX → Prop} {T0 : Nat → Prop} (h0 : ∀ t, T0 t → pe_P t) {ns : Nat} {sq lv : Nat → Nat} {ch : Nat → Nat → Option Nat} (B : x_B (gr_G T0) ns sq lv ch ca cb st sl)
    (K1 : (∀ i y, i < 6 → y < 6 → x_SC ns sq lv ch i y) → post 1 (co, bu, nI ns, wa, ot, ws, ge, ca, cb, st, sl, tr, sf))
    (K0 : ∀ sq' lv' ch' ca' cb' st' sl', x_B (gr_G T0) (ns + 1) sq' lv' ch' ca' cb' st' sl' → x_N ns sq lv sq' lv' → post 0 (co, bu, nI (ns + 1), wa, ot, ws, ge, ca', cb', st', sl', tr, sf)) :
    ∀ d i n, i + d = 6 → d < n → (∀ i' y, i' < i → y < 6 → x_SC ns sq lv ch i' y) → wX_closed_2 post n (nI i) co bu (nI ns) wa ot ws ge ca cb st sl tr sf := by
  intro d
  induction d with
  | zero =>
    intro i n hi hn hv
    obtain ⟨n, rfl⟩ : ∃ q, n = q + 1 := ⟨n - 1, by omega⟩
    have : i = 6 := by omega
    subst this
    exact br_t (by decide) (K1 hv)
  | succ d ih =>
    intro i n hi hn hv
    obtain ⟨n, rfl⟩ : ∃ q, n = q + 1 := ⟨n - 1, by omega⟩
    refine br_f (nI_ge (b := 6) (by omega) (by decide)) ⟨7, xl_c10 h0 B (by omega) ?_ K0 6 0 7 rfl (by omega) (fun _ h => absurd h (by omega))⟩
    intro hz
    refine ih (i + 1) n (by omega) (by omega) ?_
    intro i' y hi' hy
    rcases Nat.lt_or_ge i' i with a | a
    · exact hv i' y a hy
    · have : i' = i := by omega
      subst this
      exact hz y hy
theorem xw_closed {post : Int32 → SX → Prop} {T0 : Nat → Prop} (h0 : ∀ t, T0 t → pe_P t) {ns : Nat} {sq lv : Nat → Nat} {ch : Nat → Nat → Option Nat} (B : x_B (gr_G T0) ns sq lv ch ca cb st sl)
    (K1 : (∀ i y, i < 6 → y < 6 → x_SC ns sq lv ch i y) → post 1 (co, bu, nI ns, wa, ot, ws, ge, ca, cb, st, sl, tr, sf))
    (K0 : ∀ sq' lv' ch' ca' cb' st' sl', x_B (gr_G T0) (ns + 1) sq' lv' ch' ca' cb' st' sl' → x_N ns sq lv sq' lv' → post 0 (co, bu, nI (ns + 1), wa, ot, ws, ge, ca', cb', st', sl', tr, sf)) : wpX_closed post (co, bu, nI ns, wa, ot, ws, ge, ca, cb, st, sl, tr, sf) :=
  ⟨7, xl_c2 h0 B K1 K0 6 0 7 rfl (by omega) (fun _ _ h => absurd h (by omega))⟩
end
/-- the chain is that of the group -/
def x_V (G0 : Nat → Prop) (ca cb : Nat → Int32) : Prop := ∃ ch, cn_ok ch ∧ x_ch ch ca cb ∧ ∀ g, pe_P g → (cn_si ch 6 0 g = pe_id ↔ G0 g)
/-- all generators are known -/
def x_K (ns : Nat) (sq lv : Nat → Nat) (c : Nat) (gs : Nat → Nat) : Prop := ∀ m, m < c → gr_G (qv_T ns sq lv 0) (gs m)
theorem xK_mono {ns : Nat} {sq lv sq' lv' : Nat → Nat} {c : Nat} {gs : Nat → Nat} (hs' : qv_sg (ns + 1) sq' lv') (N : x_N ns sq lv sq' lv') (h : x_K ns sq lv c gs) : x_K (ns + 1) sq' lv' c gs := by
  intro m hm
  refine gr_mono (qv_T_P hs') ?_ (h m hm)
  rintro t ⟨k, hk, _, rfl⟩
  exact gr_in (qv_T_P hs') ⟨k, by omega, by omega, (N k hk).1.symm⟩
theorem xV_of {c : Nat} {gs : Nat → Nat} (hgs : ∀ k, k < c → pe_P (gs k)) {ns : Nat} {sq lv : Nat → Nat} {ch : Nat → Nat → Option Nat} {ca cb st sl : Nat → Int32} (B : x_B (gr_G (gT c gs)) ns sq lv ch ca cb st sl) (hK : x_K ns sq lv c gs) (hS : ∀ i y, i < 6 → y < 6 → x_SC ns sq lv ch i y) : x_V (gr_G (gT c gs)) ca cb := by
  obtain ⟨b1, b2, b3, b4, b5, b6⟩ := B
  have ok := qv_ok b4
  refine ⟨ch, ok, b3, ?_⟩
  intro g gp
  have hT0 : ∀ t, gT c gs t → pe_P t := by
    rintro t ⟨k, hk, rfl⟩
    exact hgs k hk
  have ss := cn_SS (T := qv_T ns sq lv) (fun i t h => ⟨qv_T_P b2 t h, qv_T_fx b2 t h⟩) (fun i t ⟨k, hk, hl, e⟩ => ⟨k, hk, by omega, e⟩) (fun t ⟨k, hk, hl, e⟩ => by have := (b2 k hk).2.1; omega) ok
    (fun i y c hi hy hc => ((b4 i hi).1.2 y c hy hc).2.2.2)
    (fun i y c t hi hy hc ⟨k, hk, hl, e⟩ => by
      subst e
      have hn := (b4 i hi).2 y k hy hk hl (by rw [hc]; simp)
      cases e : ch i (pe_ap (sq k) y) with
      | none => exact absurd e hn
      | some c' => exact ⟨c', rfl⟩)
    (fun i y c t c' hi hy hc ⟨k, hk, hl, e⟩ hc' => by
      subst e
      exact hS i y hi hy c k c' hc hk hl hc')
    6 0 rfl g gp (fun _ h => absurd h (by omega))
  rw [ss]
  constructor
  · intro h
    refine gr_mono hT0 ?_ h
    rintro t ⟨k, hk, _, rfl⟩
    exact b6 k hk
  · intro h
    refine gr_mono (qv_T_P b2) ?_ h
    rintro t ⟨k, hk, rfl⟩
    exact hK k hk
section
variable {co bu sc wa ot ws : Int32} {ge ca cb st sl tr sf : Nat → Int32}
theorem xl_b48 {post : SX → Prop} {c : Nat} {gs : Nat → Nat} (hgs : ∀ k, k < c → pe_P (gs k))
    (K : ∀ sc' ca' cb' st' sl', x_V (gr_G (gT c gs)) ca' cb' → post (co, 1, sc', wa, ot, ws, ge, ca', cb', st', sl', tr, sf)) :
    ∀ d ns r n sq lv ch ca cb st sl, ns + d = 16 → d < n → r ≤ ns → x_B (gr_G (gT c gs)) ns sq lv ch ca cb st sl → x_K ns sq lv c gs → wX_build_48 post n 0 (nI r) co bu (nI ns) wa ot ws ge ca cb st sl tr sf := by
  have hT0 : ∀ t, gT c gs t → pe_P t := by
    rintro t ⟨k, hk, rfl⟩
    exact hgs k hk
  intro d
  induction d with
  | zero =>
    intro ns r n sq lv ch ca cb st sl hd hn hr B
    have := xB_15 B
    omega
  | succ d ih =>
    intro ns r n sq lv ch ca cb st sl hd hn hr B hK
    have h15 := xB_15 B
    obtain ⟨n, rfl⟩ : ∃ q, n = q + 2 := ⟨n - 2, by omega⟩
    refine br_f (nI_ge (b := 40) (by omega) (by decide)) (br_t rfl (xw_closed hT0 B ?_ ?_))
    · intro hS
      exact nm_r (nI_1 r) (br_f (nI_ge (b := 40) (by omega) (by decide)) (br_f (by decide) (K _ _ _ _ _ (xV_of hgs B hK hS))))
    · intro sq' lv' ch' ca' cb' st' sl' B' N'
      exact nm_r (nI_1 r) (ih (ns + 1) (r + 1) (n + 1) sq' lv' ch' ca' cb' st' sl' (by omega) (by omega) (by omega) B' (xK_mono B'.2.1 N' hK))
theorem xl_b19 {post : SX → Prop} {c : Nat} (hc : c ≤ 5) {gs : Nat → Nat} (hgs : ∀ k, k < c → pe_P (gs k)) (hge : ∀ k, k < c → ge k = ex (gs k))
    (K : ∀ sc' ca' cb' st' sl', x_V (gr_G (gT c gs)) ca' cb' → post (nI c, 1, sc', wa, ot, ws, ge, ca', cb', st', sl', tr, sf)) :
    ∀ d m n ns sq lv ch ca cb st sl, m + d = c → d < n → x_B (gr_G (gT c gs)) ns sq lv ch ca cb st sl → x_K ns sq lv m gs → wX_build_19 post n (nI m) (nI c) bu (nI ns) wa ot ws ge ca cb st sl tr sf := by
  have hT0 : ∀ t, gT c gs t → pe_P t := by
    rintro t ⟨k, hk, rfl⟩
    exact hgs k hk
  intro d
  induction d with
  | zero =>
    intro m n ns sq lv ch ca cb st sl hm hn B hK
    obtain ⟨n, rfl⟩ : ∃ q, n = q + 1 := ⟨n - 1, by omega⟩
    have : m = c := by omega
    subst this
    have h15 := xB_15 B
    exact br_t (nI_le (by omega) (by omega)) ⟨17, xl_b48 hgs K (16 - ns) ns 0 17 sq lv ch ca cb st sl (by omega) (by omega) (by omega) B hK⟩
  | succ d ih =>
    intro m n ns sq lv ch ca cb st sl hm hn B hK
    obtain ⟨n, rfl⟩ : ∃ q, n = q + 1 := ⟨n - 1, by omega⟩
    have hmc : m < c := by omega
    refine br_f (nI_ge (by omega) (by omega)) ⟨vp_in_nI (by omega) (by decide), ?_⟩
    rw [nI_clamp (n := m) (by omega), hge m hmc]
    have hgm : gr_G (gT c gs) (gs m) := gr_in hT0 ⟨m, hmc, rfl⟩
    refine xw_learn hT0 B hgm ?_ ?_
    · intro hz
      refine nm_r (nI_1 m) (ih (m + 1) n ns sq lv ch ca cb st sl (by omega) (by omega) B ?_)
      intro m' hm'
      rcases Nat.lt_or_ge m' m with a | a
      · exact hK m' a
      · have : m' = m := by omega
        subst this
        have hU := qv_T_P B.2.1 (i := 0)
        refine (cn_in (qv_ok B.2.2.2.1) hU 6 0 rfl ?_ (gs m') (hgs m' hmc)).mpr (by rw [hz]; exact gr_id)
        intro j' y c' _ hj' hy hc'
        refine gr_mono hU ?_ ((B.2.2.2.1 j' hj').1.2 y c' hy hc').2.2.2
        rintro t ⟨k, hk, _, rfl⟩
        exact gr_in hU ⟨k, hk, by omega, rfl⟩
    · intro sq' lv' ch' ca' cb' st' sl' B' N' hg'
      refine nm_r (nI_1 m) (ih (m + 1) n (ns + 1) sq' lv' ch' ca' cb' st' sl' (by omega) (by omega) B' ?_)
      intro m' hm'
      rcases Nat.lt_or_ge m' m with a | a
      · exact xK_mono B'.2.1 N' hK m' a
      · have : m' = m := by omega
        subst this
        exact hg'
theorem xw_build {post : SX → Prop} {c : Nat} (hc : c ≤ 5) {gs : Nat → Nat} (hgs : ∀ k, k < c → pe_P (gs k)) (hge : ∀ k, k < c → ge k = ex (gs k)) (hb : bu = 0 ∨ (bu = 1 ∧ x_V (gr_G (gT c gs)) ca cb))
    (K : ∀ sc' ca' cb' st' sl', x_V (gr_G (gT c gs)) ca' cb' → post (nI c, 1, sc', wa, ot, ws, ge, ca', cb', st', sl', tr, sf)) : wpX_build post (nI c, bu, sc, wa, ot, ws, ge, ca, cb, st, sl, tr, sf) := by
  rcases hb with rfl | ⟨rfl, hv⟩
  · refine br_t rfl (xw_find (ns := 0) (sq := fun _ => 0) (lv := fun _ => 0) (by omega) (fun _ h => absurd h (by omega)) (fun _ h => absurd h (by omega)) ?_)
    intro ch ca' cb' hx hfl
    refine ⟨c + 1, xl_b19 hc hgs hge K c 0 (c + 1) 0 (fun _ => 0) (fun _ => 0) ch ca' cb' st sl (by omega) (by omega) ⟨fun _ h => absurd h (by omega), fun _ h => absurd h (by omega), hx, hfl, ?_, fun _ h => absurd h (by omega)⟩ (fun _ h => absurd h (by omega))⟩
    have k : ∀ i, i < 6 → 1 ≤ qv_sz (ch i) 6 := by
      intro i hi
      have h1 : qv_sz (fun _ => none) 6 < qv_sz (ch i) 6 :=
        qv_sz_str (z := i) rfl (by rw [(hfl i hi).1.1]; simp) 6 hi (fun _ _ h => absurd rfl h)
      omega
    have k0 := k 0 (by omega)
    have k1 := k 1 (by omega)
    have k2 := k 2 (by omega)
    have k3 := k 3 (by omega)
    have k4 := k 4 (by omega)
    have k5 := k 5 (by omega)
    show 0 + 6 ≤ 0 + qv_sz (ch 0) 6 + qv_sz (ch 1) 6 + qv_sz (ch 2) 6 + qv_sz (ch 3) 6 + qv_sz (ch 4) 6 + qv_sz (ch 5) 6
    omega
  · exact br_f (by decide) (K _ _ _ _ _ hv)
end
end
section
/-! X: orders, elements, counts -/
noncomputable def bq (Q : Nat → Prop) (g : Nat) : Bool := @decide (Q g) (Classical.propDecidable _)
theorem bq_t {Q : Nat → Prop} {g : Nat} : bq Q g = true ↔ Q g := by unfold bq; exact @decide_eq_true_iff _ (Classical.propDecidable _)
theorem bq_f {Q : Nat → Prop} {g : Nat} (h : ¬ Q g) : bq Q g = false := by
  cases e : bq Q g with
  | false => rfl
  | true => exact absurd (bq_t.mp e) h
theorem bq_ext {Q R : Nat → Prop} {g : Nat} (h : Q g ↔ R g) : bq Q g = bq R g := by
  by_cases k : Q g
  · rw [bq_t.mpr k, bq_t.mpr (h.mp k)]
  · rw [bq_f k, bq_f (fun z => k (h.mpr z))]
/-- how many of the first n members of ls have Q -/
noncomputable def ct (Q : Nat → Prop) (ls : Nat → Nat) (n : Nat) : Nat := (y_ls ls n).countP (bq Q)
theorem ct_0 {Q : Nat → Prop} {ls : Nat → Nat} : ct Q ls 0 = 0 := rfl
theorem ct_y {Q : Nat → Prop} {ls : Nat → Nat} {n : Nat} (h : Q (ls n)) : ct Q ls (n + 1) = ct Q ls n + 1 := by
  unfold ct y_ls
  rw [List.range_succ, List.map_append, List.countP_append, List.map_cons, List.map_nil, List.countP_cons_of_pos (bq_t.mpr h), List.countP_nil]
theorem ct_n {Q : Nat → Prop} {ls : Nat → Nat} {n : Nat} (h : ¬ Q (ls n)) : ct Q ls (n + 1) = ct Q ls n := by
  unfold ct y_ls
  rw [List.range_succ, List.map_append, List.countP_append, List.map_cons, List.map_nil, List.countP_cons_of_neg (by rw [bq_f h]; simp), List.countP_nil, Nat.add_zero]
theorem ct_le {Q : Nat → Prop} {ls : Nat → Nat} (n : Nat) : ct Q ls n ≤ n := by
  have h : (y_ls ls n).countP (bq Q) ≤ (y_ls ls n).length := List.countP_le_length
  rwa [y_ls_len] at h
/-- two listings of the same set count alike -/
theorem ct_eq {Q R : Nat → Prop} {ls ks : Nat → Nat} {n m : Nat} (hl : ∀ j k, j < n → k < n → ls j = ls k → j = k) (hk : ∀ j k, j < m → k < m → ks j = ks k → j = k) (hm : ∀ g, y_in ls n g ↔ y_in ks m g) (hQ : ∀ g, y_in ls n g → (Q g ↔ R g)) : ct Q ls n = ct R ks m := by
  have h1 : (y_ls ls n).countP (bq Q) = (y_ls ls n).countP (bq R) := List.countP_congr (fun g hg => by rw [bq_ext (hQ g (y_ls_mem.mp hg))])
  unfold ct
  rw [h1]
  exact gr_cnt (y_ls_nodup hl) (y_ls_nodup hk) (fun g => by rw [y_ls_mem, y_ls_mem, hm g]) _
theorem ct_len {ls ks : Nat → Nat} {n m : Nat} (hl : ∀ j k, j < n → k < n → ls j = ls k → j = k) (hk : ∀ j k, j < m → k < m → ks j = ks k → j = k) (hm : ∀ g, y_in ls n g ↔ y_in ks m g) : n = m := by
  have := gr_len (y_ls_nodup hl) (y_ls_nodup hk) (fun g => by rw [y_ls_mem, y_ls_mem, hm g])
  rwa [y_ls_len, y_ls_len] at this
section
variable {co bu sc wa ot ws : Int32} {ge ca cb st sl tr sf : Nat → Int32}
theorem xl_osz {post : Int32 → Prop} {ch : Nat → Nat → Option Nat} (hx : x_ch ch ca cb) {i : Nat} (hi : i < 6) : ∀ d t n acc, t + d = 6 → d < n → post (nI (acc + (el_O ch i t).length)) → wX_orbitSize_4 post (nI i) co bu sc wa ot ws ge ca cb st sl tr sf n (nI acc) (nI t) := by
  intro d
  induction d with
  | zero =>
    intro t n acc ht hn hp
    obtain ⟨n, rfl⟩ : ∃ q, n = q + 1 := ⟨n - 1, by omega⟩
    have : t = 6 := by omega
    subst this
    exact br_t (by decide) hp
  | succ d ih =>
    intro t n acc ht hn hp
    obtain ⟨n, rfl⟩ : ∃ q, n = q + 1 := ⟨n - 1, by omega⟩
    have ht6 : t < 6 := by omega
    refine br_f (nI_ge (b := 6) ht6 (by decide)) ⟨xc_in hi ht6, ?_⟩
    rw [xc_cl hi ht6]
    cases hc : ch i t with
    | none =>
      rw [el_On ht6 hc] at hp
      exact br_t ((hx i hi t ht6).2 hc) (nm_r (nI_1 t) (ih (t + 1) n acc (by omega) (by omega) hp))
    | some c =>
      rw [el_Os ht6 hc, List.length_cons] at hp
      rw [((hx i hi t ht6).1 c hc).1]
      refine br_f (ex_n4 c) (nm_r (nI_1 acc) (nm_r (nI_1 t) (ih (t + 1) n (acc + 1) (by omega) (by omega) ?_)))
      rw [show acc + 1 + (el_O ch i (t + 1)).length = acc + ((el_O ch i (t + 1)).length + 1) by omega]
      exact hp
theorem xw_osz {post : Int32 → Prop} {ch : Nat → Nat → Option Nat} (hx : x_ch ch ca cb) {i : Nat} (hi : i < 6) (hp : post (nI (el_O ch i 0).length)) : wpX_orbitSize post (co, bu, sc, wa, ot, ws, ge, ca, cb, st, sl, tr, sf) (nI i) :=
  ⟨7, xl_osz hx hi 6 0 7 0 rfl (by omega) (by rw [Nat.zero_add]; exact hp)⟩
theorem xl_ord {post : Int32 → SX → Prop} {ch : Nat → Nat → Option Nat} (hx : x_ch ch ca cb) : ∀ d i n s, i + d = 6 → d < n → post (nI (s * el_N ch d i)) (co, bu, sc, wa, ot, ws, ge, ca, cb, st, sl, tr, sf) → wX_order_8 post co bu sc wa ot ws ge ca cb st sl tr sf n (nI s) (nI i) := by
  intro d
  induction d with
  | zero =>
    intro i n s hi hn hp
    obtain ⟨n, rfl⟩ : ∃ q, n = q + 1 := ⟨n - 1, by omega⟩
    have : i = 6 := by omega
    subst this
    rw [show el_N ch 0 6 = 1 from rfl, Nat.mul_one] at hp
    exact br_t (by decide) hp
  | succ d ih =>
    intro i n s hi hn hp
    obtain ⟨n, rfl⟩ : ∃ q, n = q + 1 := ⟨n - 1, by omega⟩
    refine br_f (nI_ge (b := 6) (by omega) (by decide)) (xw_osz hx (by omega) (nm_r (pk_mul _ _) (nm_r (nI_1 i) (ih (i + 1) n _ (by omega) (by omega) ?_))))
    rw [show el_N ch (d + 1) i = (el_O ch i 0).length * el_N ch d (i + 1) from rfl, ← Nat.mul_assoc] at hp
    exact hp
/-- the valid chain, as the queries use it -/
def x_Vc (G0 : Nat → Prop) (ch : Nat → Nat → Option Nat) (ca cb : Nat → Int32) : Prop := cn_ok ch ∧ x_ch ch ca cb ∧ ∀ g, pe_P g → (cn_si ch 6 0 g = pe_id ↔ G0 g)
theorem xw_ord {post : Int32 → SX → Prop} {c : Nat} (hc : c ≤ 5) {gs : Nat → Nat} (hgs : ∀ k, k < c → pe_P (gs k)) (hge : ∀ k, k < c → ge k = ex (gs k)) (hb : bu = 0 ∨ (bu = 1 ∧ x_V (gr_G (gT c gs)) ca cb))
    (K : ∀ ch sc' ca' cb' st' sl', x_Vc (gr_G (gT c gs)) ch ca' cb' → post (nI (el_N ch 6 0)) (nI c, 1, sc', wa, ot, ws, ge, ca', cb', st', sl', tr, sf)) : wpX_order post (nI c, bu, sc, wa, ot, ws, ge, ca, cb, st, sl, tr, sf) := by
  unfold wpX_order
  dsimp only
  refine xw_build hc hgs hge hb ?_
  rintro sc' ca' cb' st' sl' ⟨ch, v1, v2, v3⟩
  refine ⟨7, xl_ord v2 6 0 7 1 rfl (by omega) ?_⟩
  rw [Nat.one_mul]
  exact K ch sc' ca' cb' st' sl' ⟨v1, v2, v3⟩
theorem xl_nth {post : Int32 → Prop} {ch : Nat → Nat → Option Nat} (hx : x_ch ch ca cb) {i : Nat} (hi : i < 6) : ∀ d t n w, t + d = 6 → d < n → w < 2 ^ 31 → post (ex ((el_O ch i t).getD w pe_id)) → wX_nthCarrier_5 post (nI i) co bu sc wa ot ws ge ca cb st sl tr sf n (nI w) (nI t) := by
  intro d
  induction d with
  | zero =>
    intro t n w ht hn hw hp
    obtain ⟨n, rfl⟩ : ∃ q, n = q + 1 := ⟨n - 1, by omega⟩
    have : t = 6 := by omega
    subst this
    rw [el_O6, List.getD_nil, ex_id] at hp
    exact br_t (by decide) hp
  | succ d ih =>
    intro t n w ht hn hw hp
    obtain ⟨n, rfl⟩ : ∃ q, n = q + 1 := ⟨n - 1, by omega⟩
    have ht6 : t < 6 := by omega
    refine br_f (nI_ge (b := 6) ht6 (by decide)) ⟨xc_in hi ht6, ?_⟩
    rw [xc_cl hi ht6]
    cases hc : ch i t with
    | none =>
      rw [el_On ht6 hc] at hp
      exact br_t ((hx i hi t ht6).2 hc) (nm_r (nI_1 t) (ih (t + 1) n w (by omega) (by omega) hw hp))
    | some c =>
      rw [el_Os ht6 hc] at hp
      rw [((hx i hi t ht6).1 c hc).1]
      refine br_f (ex_n4 c) ?_
      cases w with
      | zero =>
        rw [List.getD_cons_zero] at hp
        exact br_t rfl ⟨xc_in hi ht6, hp⟩
      | succ w =>
        rw [List.getD_cons_succ] at hp
        exact br_f (nI_ne0 (by omega) hw) (nm_r (pk_m1 w) (nm_r (nI_1 t) (ih (t + 1) n w (by omega) (by omega) (by omega) hp)))
theorem xl_elt {post : Int32 → Prop} {ch : Nat → Nat → Option Nat} (ok : cn_ok ch) (hx : x_ch ch ca cb) : ∀ d i n h k, i + d = 6 → d < n → k < 2 ^ 31 → post (ex (el_el ch d i h k)) → wX_element_8 post co bu sc wa ot ws ge ca cb st sl tr sf n (ex h) (nI k) (nI i) := by
  intro d
  induction d with
  | zero =>
    intro i n h k hi hn hk hp
    obtain ⟨n, rfl⟩ : ∃ q, n = q + 1 := ⟨n - 1, by omega⟩
    have : i = 6 := by omega
    subst this
    exact br_t (by decide) hp
  | succ d ih =>
    intro i n h k hi hn hk hp
    obtain ⟨n, rfl⟩ : ∃ q, n = q + 1 := ⟨n - 1, by omega⟩
    have hi6 : i < 6 := by omega
    have s1 := el_O_pos ok hi6
    have s2 := el_O_len ok hi6
    have hs0 : ¬ nI (el_O ch i 0).length ≤ 0 := nI_nle s1 (by omega)
    have hs1 : ¬ nI (el_O ch i 0).length = 0 := nI_ne0 s1 (by omega)
    have hm := Nat.mod_lt k s1
    refine br_f (nI_ge (b := 6) hi6 (by decide)) (xw_osz hx hi6 (br_f hs0 ⟨hs1, br_f hs0 ⟨hs1, ?_⟩⟩))
    rw [pk_rem hk s1 (by omega), pk_div hk s1 (by omega)]
    refine ⟨7, xl_nth hx hi6 6 0 7 _ rfl (by omega) (by omega) (xw_times (nm_r (nI_1 i) (ih (i + 1) n _ _ (by omega) (by omega) ?_ hp)))⟩
    exact Nat.lt_of_le_of_lt (Nat.div_le_self _ _) hk
theorem xw_elt {post : Int32 → Prop} {ch : Nat → Nat → Option Nat} (ok : cn_ok ch) (hx : x_ch ch ca cb) {k : Nat} (hk : k < 2 ^ 31) (hp : post (ex (el_el ch 6 0 pe_id k))) : wpX_element post (co, bu, sc, wa, ot, ws, ge, ca, cb, st, sl, tr, sf) (nI k) := by
  refine ⟨7, ?_⟩
  rw [← ex_id]
  exact xl_elt ok hx 6 0 7 pe_id k rfl (by omega) hk hp
end
/-- X's listing of the elements -/
theorem xe_inj {ch : Nat → Nat → Option Nat} (ok : cn_ok ch) : ∀ j k, j < el_N ch 6 0 → k < el_N ch 6 0 → el_el ch 6 0 pe_id j = el_el ch 6 0 pe_id k → j = k := by
  intro j k hj hk e
  have hd := el_E_nodup ok
  unfold el_E at hd
  rw [List.nodup_iff_pairwise_ne, List.pairwise_map] at hd
  rcases Nat.lt_trichotomy j k with h | h | h
  · exact absurd e (List.pairwise_iff_getElem.mp hd j k (by rw [List.length_range]; exact hj) (by rw [List.length_range]; exact hk) h |> fun z => by rwa [List.getElem_range, List.getElem_range] at z)
  · exact h
  · exact absurd e.symm (List.pairwise_iff_getElem.mp hd k j (by rw [List.length_range]; exact hk) (by rw [List.length_range]; exact hj) h |> fun z => by rwa [List.getElem_range, List.getElem_range] at z)
theorem xe_mem {ch : Nat → Nat → Option Nat} (ok : cn_ok ch) (g : Nat) : y_in (el_el ch 6 0 pe_id) (el_N ch 6 0) g ↔ pe_P g ∧ cn_si ch 6 0 g = pe_id := by
  rw [← el_T0_mem ok, ← el_E_mem ok, ← y_ls_mem]
  exact Iff.rfl
/-- the group, both ways -/
theorem xe_G {c : Nat} {gs : Nat → Nat} (hgs : ∀ k, k < c → pe_P (gs k)) {ch : Nat → Nat → Option Nat} {ca cb : Nat → Int32} (V : x_Vc (gr_G (gT c gs)) ch ca cb) (g : Nat) : y_in (el_el ch 6 0 pe_id) (el_N ch 6 0) g ↔ gr_G (gT c gs) g := by
  rw [xe_mem V.1]
  constructor
  · rintro ⟨h1, h2⟩
    exact (V.2.2 g h1).mp h2
  · intro h
    have hp : pe_P g := gr_P (by rintro t ⟨k, hk, rfl⟩; exact hgs k hk) h
    exact ⟨hp, (V.2.2 g hp).mpr h⟩
theorem xe_le {ch : Nat → Nat → Option Nat} (ok : cn_ok ch) : el_N ch 6 0 ≤ 720 := by
  rw [← el_T_len ch 6 0 pe_id]
  exact np_le (el_T_nodup ok 6 0 rfl pe_id pe_id_P) (fun g hg => ((el_T0_mem ok g).mp hg).1)
end
section
/-! orbits -/
/-- s is the set of the images of x under G0 -/
def ob_S (G0 : Nat → Prop) (x s : Nat) : Prop := s < 64 ∧ ∀ y, y < 6 → (s.testBit y = true ↔ ∃ g, G0 g ∧ pe_ap g x = y)
theorem ob_un {G0 : Nat → Prop} {x s t : Nat} (h : ob_S G0 x s) (k : ob_S G0 x t) : s = t :=
  im_ext h.1 k.1 (fun y hy => by rw [h.2 y hy, k.2 y hy])
def ob_e (s : Nat) : Nat → Option Nat := fun y => if s.testBit y = true then some 0 else none
theorem ob_e_iff {s y : Nat} : ob_e s y ≠ none ↔ s.testBit y = true := by
  unfold ob_e
  by_cases h : s.testBit y = true
  · rw [if_pos h]; simp [h]
  · rw [if_neg h]; simp [h]
def ob_cl (c : Nat) (gs : Nat → Nat) (s : Nat) : Prop := ∀ k y, k < c → y < 6 → s.testBit y = true → s.testBit (pe_ap (gs k) y) = true
/-- all of s is reached from x -/
def ob_R (G0 : Nat → Prop) (x s : Nat) : Prop := s < 64 ∧ s.testBit x = true ∧ ∀ y, y < 6 → s.testBit y = true → ∃ g, G0 g ∧ pe_ap g x = y
theorem ob_fin {c : Nat} {gs : Nat → Nat} {x s : Nat} (hx : x < 6) (h : ob_R (gr_G (gT c gs)) x s) (hc : ob_cl c gs s) : ob_S (gr_G (gT c gs)) x s := by
  refine ⟨h.1, fun y hy => ⟨h.2.2 y hy, ?_⟩⟩
  rintro ⟨g, hg, rfl⟩
  refine hg (fun g => s.testBit (pe_ap g x) = true) ?_ ?_
  · rw [pe_ap_id hx]; exact h.2.1
  · rintro a t ha ⟨k, hk, rfl⟩
    rw [pe_ap_mu _ _ hx]
    exact hc k _ hk (pe_ap_lt _ _) ha
theorem ob_or_bit {s g y : Nat} : (s ||| im s g).testBit y = true ↔ s.testBit y = true ∨ ∃ x, x < 6 ∧ s.testBit x = true ∧ pe_ap g x = y := by
  rw [Nat.testBit_or, Bool.or_eq_true]
  unfold im
  rw [im_bit]
theorem ob_R_or {c : Nat} {gs : Nat → Nat} {x s k : Nat} (hx : x < 6) (h : ob_R (gr_G (gT c gs)) x s) (hk : k < c) : ob_R (gr_G (gT c gs)) x (s ||| im s (gs k)) := by
  refine ⟨Nat.or_lt_two_pow (n := 6) h.1 (im_lt _ _ _), ob_or_bit.mpr (Or.inl h.2.1), ?_⟩
  intro y hy hb
  rcases ob_or_bit.mp hb with a | ⟨z, hz, a, e⟩
  · exact h.2.2 y hy a
  · obtain ⟨g, hg, e2⟩ := h.2.2 z hz a
    exact ⟨pe_mu g (gs k), gr_st hg ⟨k, hk, rfl⟩, by rw [pe_ap_mu _ _ hx, e2, e]⟩
/-- within one round that began with s0 -/
def ob_I (c : Nat) (gs : Nat → Nat) (s0 k s : Nat) : Prop :=
  ((s = s0 ∧ ∀ k' y, k' < k → y < 6 → s0.testBit y = true → s0.testBit (pe_ap (gs k') y) = true) ∨ qv_sz (ob_e s0) 6 < qv_sz (ob_e s) 6) ∧ (ob_cl c gs s0 → s = s0)
theorem ob_I_st {c : Nat} {gs : Nat → Nat} {s0 k s : Nat} (hs : s < 64) (h : ob_I c gs s0 k s) (hk : k < c) : ob_I c gs s0 (k + 1) (s ||| im s (gs k)) := by
  have h64 : s ||| im s (gs k) < 64 := Nat.or_lt_two_pow (n := 6) hs (im_lt _ _ _)
  by_cases hz : ∃ y, y < 6 ∧ s.testBit y = true ∧ ¬ s.testBit (pe_ap (gs k) y) = true
  · obtain ⟨y, hy, h1, h2⟩ := hz
    have hg : qv_sz (ob_e s) 6 < qv_sz (ob_e (s ||| im s (gs k))) 6 := by
      apply qv_sz_str (z := pe_ap (gs k) y) _ _ 6 (pe_ap_lt _ _)
      · intro z _ hn
        rw [ob_e_iff] at hn ⊢
        exact ob_or_bit.mpr (Or.inl hn)
      · exact if_neg h2
      · rw [ob_e_iff]
        exact ob_or_bit.mpr (Or.inr ⟨y, hy, h1, rfl⟩)
    refine ⟨Or.inr ?_, ?_⟩
    · rcases h.1 with ⟨e, _⟩ | e
      · rw [← e]; exact hg
      · omega
    · intro hc
      have e := h.2 hc
      subst e
      exact absurd (hc k y hk hy h1) h2
  · have hn : ∀ y, y < 6 → s.testBit y = true → s.testBit (pe_ap (gs k) y) = true := by
      intro y hy h1
      apply Classical.byContradiction
      intro h2
      exact hz ⟨y, hy, h1, h2⟩
    have e : s ||| im s (gs k) = s := by
      apply im_ext h64 hs
      intro y hy
      rw [ob_or_bit]
      constructor
      · rintro (a | ⟨z, hz, a, rfl⟩)
        · exact a
        · exact hn z hz a
      · exact Or.inl
    rw [e]
    refine ⟨?_, h.2⟩
    rcases h.1 with ⟨e1, hv⟩ | e1
    · refine Or.inl ⟨e1, ?_⟩
      intro k' y hk' hy hb
      rcases Nat.lt_or_ge k' k with a | a
      · exact hv k' y a hy hb
      · have : k' = k := by omega
        subst this
        rw [← e1] at hb ⊢
        exact hn y hy hb
    · exact Or.inr e1
section
variable {co bu sc wa ot ws : Int32} {ge ca cb st sl tr sf : Nat → Int32}
theorem xl_o27 {post : Int32 → Prop} {J : Int32 → Int32 → Prop} {c : Nat} (hc : c ≤ 5) {gs : Nat → Nat} (hge : ∀ k, k < c → ge k = ex (gs k)) {x : Nat} (hx : x < 6) {r s0 : Nat} (K : ∀ s, ob_R (gr_G (gT c gs)) x s → ob_I c gs s0 c s → J (nI s) (nI (r + 1))) :
    ∀ d k n s, k + d = c → d < n → ob_R (gr_G (gT c gs)) x s → ob_I c gs s0 k s → wX_orbit_27 post J (nI r) (nI c) bu sc wa ot ws ge ca cb st sl tr sf n (nI s) (nI k) := by
  intro d
  induction d with
  | zero =>
    intro k n s hk hn R I
    obtain ⟨n, rfl⟩ : ∃ q, n = q + 1 := ⟨n - 1, by omega⟩
    have : k = c := by omega
    subst this
    exact br_t (nI_le (by omega) (by omega)) (nm_r (nI_1 r) (K s R I))
  | succ d ih =>
    intro k n s hk hn R I
    obtain ⟨n, rfl⟩ : ∃ q, n = q + 1 := ⟨n - 1, by omega⟩
    refine br_f (nI_ge (by omega) (by omega)) ⟨vp_in_nI (by omega) (by decide), ?_⟩
    rw [nI_clamp (n := k) (by omega), hge k (by omega)]
    exact xw_im R.1 (nm_r (xb_or _ _) (nm_r (nI_1 k) (ih (k + 1) n _ (by omega) (by omega) (ob_R_or hx R (by omega)) (ob_I_st R.1 I (by omega)))))
theorem xl_o18 {post : Int32 → Prop} {c : Nat} (hc : c ≤ 5) {gs : Nat → Nat} (hge : ∀ k, k < c → ge k = ex (gs k)) {x : Nat} (hx : x < 6) (K : ∀ s, ob_S (gr_G (gT c gs)) x s → post (nI s)) :
    ∀ d r n s, r + d = 6 → d < n → ob_R (gr_G (gT c gs)) x s → (ob_cl c gs s ∨ r + 1 ≤ qv_sz (ob_e s) 6) → wX_orbit_18 post (nI c) bu sc wa ot ws ge ca cb st sl tr sf n (nI s) (nI r) := by
  intro d
  induction d with
  | zero =>
    intro r n s hr hn R hcl
    obtain ⟨n, rfl⟩ : ∃ q, n = q + 1 := ⟨n - 1, by omega⟩
    have : r = 6 := by omega
    subst this
    refine br_t (by decide) (K s (ob_fin hx R ?_))
    rcases hcl with h | h
    · exact h
    · have := qv_sz_le (ob_e s) 6
      omega
  | succ d ih =>
    intro r n s hr hn R hcl
    obtain ⟨n, rfl⟩ : ∃ q, n = q + 1 := ⟨n - 1, by omega⟩
    refine br_f (nI_ge (b := 6) (by omega) (by decide)) ⟨c + 1, xl_o27 hc hge hx (s0 := s) ?_ c 0 (c + 1) s (by omega) (by omega) R ⟨Or.inl ⟨rfl, fun _ _ h => absurd h (by omega)⟩, fun _ => rfl⟩⟩
    intro s' R' I'
    refine ih (r + 1) n s' (by omega) (by omega) R' ?_
    rcases I'.1 with ⟨e, hv⟩ | e
    · subst e
      exact Or.inl (fun k y hk hy hb => hv k y hk hy hb)
    · rcases hcl with k | k
      · rw [I'.2 k] at e
        omega
      · exact Or.inr (by omega)
theorem xw_orb {post : Int32 → Prop} {c : Nat} (hc : c ≤ 5) {gs : Nat → Nat} (hge : ∀ k, k < c → ge k = ex (gs k)) {x : Nat} (hx : x < 6) (K : ∀ s, ob_S (gr_G (gT c gs)) x s → post (nI s)) : wpX_orbit post (nI c, bu, sc, wa, ot, ws, ge, ca, cb, st, sl, tr, sf) (nI x) := by
  refine br_f (nI_pos (by omega)) (br_t (nI_lt (b := 6) hx (by decide)) (nm_r (xb_1shl (by omega)) ⟨7, xl_o18 hc hge hx K 6 0 7 (1 <<< x) rfl (by omega) ?_ (Or.inr ?_)⟩))
  · rw [pe_sh1]
    refine ⟨Nat.pow_lt_pow_right (n := 6) (by decide) hx, Nat.testBit_two_pow_self, ?_⟩
    intro y hy hb
    rw [Nat.testBit_two_pow, decide_eq_true_eq] at hb
    exact ⟨pe_id, gr_id, by rw [pe_ap_id hx]; exact hb⟩
  · exact (by decide : ∀ x, x < 6 → 0 + 1 ≤ qv_sz (ob_e (1 <<< x)) 6) x hx
end
/-! Y's orbit -/
def ob_y (ls : Nat → Nat) (x : Nat) : Nat → Nat
  | 0 => 0
  | n + 1 => ob_y ls x n ||| (1 <<< pe_ap (ls n) x)
theorem ob_y_lt (ls : Nat → Nat) (x : Nat) : ∀ n, ob_y ls x n < 64 := by
  intro n
  induction n with
  | zero => exact (by decide : 0 < 64)
  | succ n ih =>
    apply Nat.or_lt_two_pow (n := 6) ih
    rw [pe_sh1]
    exact Nat.pow_lt_pow_right (by decide) (pe_ap_lt _ _)
theorem ob_y_bit (ls : Nat → Nat) (x : Nat) : ∀ n y, (ob_y ls x n).testBit y = true ↔ ∃ j, j < n ∧ pe_ap (ls j) x = y := by
  intro n
  induction n with
  | zero => intro y; exact ⟨fun h => by simp [ob_y] at h, fun ⟨x, hx, _⟩ => absurd hx (by omega)⟩
  | succ n ih =>
    intro y
    show (ob_y ls x n ||| (1 <<< pe_ap (ls n) x)).testBit y = true ↔ _
    rw [Nat.testBit_or, Bool.or_eq_true, ih y, pe_sh1, Nat.testBit_two_pow, decide_eq_true_eq]
    constructor
    · rintro (⟨j, hj, e⟩ | e)
      · exact ⟨j, by omega, e⟩
      · exact ⟨n, by omega, e⟩
    · rintro ⟨j, hj, e⟩
      rcases Nat.lt_or_ge j n with h | h
      · exact Or.inl ⟨j, h, e⟩
      · have : j = n := by omega
        subst this
        exact Or.inr e
section
variable {yc fo : Int32} {gn li mk pw al : Nat → Int32}
theorem yl_orb {post : Int32 → Prop} (hw : y_pw pw) {ls : Nat → Nat} {m : Nat} (I : y_iv fo li mk ls m) {x : Nat} (hx : x < 6) (hp : post (nI (ob_y ls x m))) : ∀ d k n, k + d = m → d < n → wY_orbitOf_4 post (nI x) yc fo gn li mk pw al n (nI (ob_y ls x k)) (nI k) := by
  obtain ⟨rfl, h720, hli, hinj, hP, hm⟩ := I
  intro d
  induction d with
  | zero =>
    intro k n hk hn
    obtain ⟨n, rfl⟩ : ∃ q, n = q + 1 := ⟨n - 1, by omega⟩
    have : k = m := by omega
    subst this
    exact br_t (nI_le (by omega) (by omega)) hp
  | succ d ih =>
    intro k n hk hn
    obtain ⟨n, rfl⟩ : ∃ q, n = q + 1 := ⟨n - 1, by omega⟩
    have h6 := pe_ap_lt (ls k) x
    refine br_f (nI_ge (by omega) (by omega)) ⟨vp_in_nI (by omega) (by decide), ?_⟩
    rw [nI_clamp (n := k) (by omega), hli k (by omega)]
    refine yw_carried hw (hP k (by omega)).1 hx (nm_r ?_ (nm_r (nI_1 k) (ih (k + 1) n (by omega) (by omega))))
    rw [xb_1shl (by omega), xb_or]
    rfl
theorem yw_orbOf {post : Int32 → Prop} (hw : y_pw pw) {G0 : Nat → Prop} {ls : Nat → Nat} {m : Nat} (L : y_lst G0 fo li mk ls m) {x : Nat} (hx : x < 6) (K : ∀ s, ob_S G0 x s → post (nI s)) : wpY_orbitOf post (yc, fo, gn, li, mk, pw, al) (nI x) := by
  refine ⟨m + 1, yl_orb hw L.1 hx (K _ ⟨ob_y_lt _ _ _, ?_⟩) m 0 (m + 1) (by omega) (by omega)⟩
  intro y hy
  rw [ob_y_bit]
  constructor
  · rintro ⟨j, hj, e⟩
    exact ⟨ls j, (L.2 _).mpr ⟨j, hj, rfl⟩, e⟩
  · rintro ⟨g, hg, e⟩
    obtain ⟨j, hj, rfl⟩ := (L.2 g).mp hg
    exact ⟨j, hj, e⟩
end
/-! orbits: how many points are the first of their orbit -/
def ob_F (G0 : Nat → Prop) (x : Nat) : Prop := ∀ y, y < x → ¬ ∃ g, G0 g ∧ pe_ap g x = y
/-- the points of the orbits of points before x -/
def ob_B (G0 : Nat → Prop) (x s : Nat) : Prop := s < 64 ∧ ∀ y, y < 6 → (s.testBit y = true ↔ ∃ z g, z < x ∧ G0 g ∧ pe_ap g z = y)
theorem ob_sym {T : Nat → Prop} (hT : ∀ t, T t → pe_P t) {x y : Nat} (hx : x < 6) (h : ∃ g, gr_G T g ∧ pe_ap g x = y) : ∃ g, gr_G T g ∧ pe_ap g y = x := by
  obtain ⟨g, hg, rfl⟩ := h
  exact ⟨pe_iv g, gr_inv hT hg, pe_ap_iv' (gr_P hT hg) hx⟩
theorem ob_B_F {T : Nat → Prop} (hT : ∀ t, T t → pe_P t) {x s : Nat} (hx : x < 6) (h : ob_B (gr_G T) x s) : s.testBit x = false ↔ ob_F (gr_G T) x := by
  constructor
  · intro hb y hy k
    obtain ⟨g, hg, e⟩ := ob_sym hT hx k
    have := (h.2 x hx).mpr ⟨y, g, hy, hg, e⟩
    rw [hb] at this
    cases this
  · intro hF
    cases e : s.testBit x with
    | false => rfl
    | true =>
      obtain ⟨z, g, hz, hg, e2⟩ := (h.2 x hx).mp e
      exact absurd (ob_sym hT (by omega) ⟨g, hg, e2⟩) (hF z hz)
theorem ob_B_or {T : Nat → Prop} {x s t : Nat} (h : ob_B (gr_G T) x s) (k : ob_S (gr_G T) x t) : ob_B (gr_G T) (x + 1) (s ||| t) := by
  refine ⟨Nat.or_lt_two_pow (n := 6) h.1 k.1, ?_⟩
  intro y hy
  rw [Nat.testBit_or, Bool.or_eq_true, h.2 y hy, k.2 y hy]
  constructor
  · rintro (⟨z, g, hz, hg, e⟩ | ⟨g, hg, e⟩)
    · exact ⟨z, g, by omega, hg, e⟩
    · exact ⟨x, g, by omega, hg, e⟩
  · rintro ⟨z, g, hz, hg, e⟩
    rcases Nat.lt_or_ge z x with a | a
    · exact Or.inl ⟨z, g, a, hg, e⟩
    · have : z = x := by omega
      subst this
      exact Or.inr ⟨g, hg, e⟩
theorem ob_B_same {T : Nat → Prop} (hT : ∀ t, T t → pe_P t) {x s : Nat} (hx : x < 6) (h : ob_B (gr_G T) x s) (hb : s.testBit x = true) : ob_B (gr_G T) (x + 1) s := by
  refine ⟨h.1, ?_⟩
  intro y hy
  rw [h.2 y hy]
  constructor
  · rintro ⟨z, g, hz, hg, e⟩
    exact ⟨z, g, by omega, hg, e⟩
  · rintro ⟨z, g, hz, hg, e⟩
    rcases Nat.lt_or_ge z x with a | a
    · exact ⟨z, g, a, hg, e⟩
    · have : z = x := by omega
      subst this
      obtain ⟨w, k, hw, hk, e2⟩ := (h.2 z hx).mp hb
      exact ⟨w, pe_mu k g, hw, gr_mul hT hk hg, by rw [pe_ap_mu _ _ (by omega), e2, e]⟩
section
variable {co bu sc wa ot ws : Int32} {ge ca cb st sl tr sf : Nat → Int32}
theorem xl_orbs {post : Int32 → Prop} {c : Nat} (hc : c ≤ 5) {gs : Nat → Nat} (hgs : ∀ k, k < c → pe_P (gs k)) (hge : ∀ k, k < c → ge k = ex (gs k)) (hp : post (nI (ct (ob_F (gr_G (gT c gs))) (fun x => x) 6))) :
    ∀ d x n s, x + d = 6 → d < n → ob_B (gr_G (gT c gs)) x s → wX_orbits_6 post (nI c) bu sc wa ot ws ge ca cb st sl tr sf n (nI (ct (ob_F (gr_G (gT c gs))) (fun x => x) x)) (nI s) (nI x) := by
  have hT0 : ∀ t, gT c gs t → pe_P t := by
    rintro t ⟨k, hk, rfl⟩
    exact hgs k hk
  intro d
  induction d with
  | zero =>
    intro x n s hx hn B
    obtain ⟨n, rfl⟩ : ∃ q, n = q + 1 := ⟨n - 1, by omega⟩
    have : x = 6 := by omega
    subst this
    exact br_t (by decide) hp
  | succ d ih =>
    intro x n s hx hn B
    obtain ⟨n, rfl⟩ : ∃ q, n = q + 1 := ⟨n - 1, by omega⟩
    have hs := B.1
    refine br_f (nI_ge (b := 6) (by omega) (by decide)) ?_
    by_cases hb : s.testBit x = false
    · refine br_t ((xb_bit0 (by omega) (by omega)).mpr hb) (xw_orb hc hge (by omega) ?_)
      intro t ht
      refine nm_r (xb_or _ _) (nm_r (nI_1 _) (nm_r (nI_1 x) ?_))
      have hF := (ob_B_F hT0 (by omega) B).mp hb
      have e := ct_y (Q := ob_F (gr_G (gT c gs))) (ls := fun x => x) (n := x) hF
      rw [← e]
      exact ih (x + 1) n _ (by omega) (by omega) (ob_B_or B ht)
    · have hF : ¬ ob_F (gr_G (gT c gs)) x := fun h => hb ((ob_B_F hT0 (by omega) B).mpr h)
      have e := ct_n (Q := ob_F (gr_G (gT c gs))) (ls := fun x => x) (n := x) hF
      refine br_f (fun z => hb ((xb_bit0 (by omega) (by omega)).mp z)) (nm_r (nI_1 x) ?_)
      rw [← e]
      refine ih (x + 1) n _ (by omega) (by omega) (ob_B_same hT0 (by omega) B ?_)
      cases h : s.testBit x with
      | false => exact absurd h hb
      | true => rfl
theorem xw_orbs {post : Int32 → Prop} {c : Nat} (hc : c ≤ 5) {gs : Nat → Nat} (hgs : ∀ k, k < c → pe_P (gs k)) (hge : ∀ k, k < c → ge k = ex (gs k)) (hp : post (nI (ct (ob_F (gr_G (gT c gs))) (fun x => x) 6))) : wpX_orbits post (nI c, bu, sc, wa, ot, ws, ge, ca, cb, st, sl, tr, sf) :=
  ⟨7, xl_orbs hc hgs hge hp 6 0 7 0 rfl (by omega) ⟨by decide, fun y _ => ⟨fun h => by simp at h, fun ⟨z, g, hz, _⟩ => absurd hz (by omega)⟩⟩⟩
end
theorem ob_low {s x : Nat} (hx : x < 6) (hs : s < 64) : (nI s &&& (((1 : Int32) <<< (nI x &&& 31)) - 1) = 0) ↔ ∀ y, y < x → s.testBit y = false := by
  have e : (1 : Int32) <<< (nI x &&& 31) - 1 = nI (2 ^ x - 1) := by
    rw [xb_1shl (by omega), pe_sh1]
    exact pk_sub (b := 1) (Nat.pow_pos (by decide))
  have hl : s % 2 ^ x ≤ s := Nat.mod_le _ _
  rw [e, nx_and, Nat.and_two_pow_sub_one_eq_mod, show (0 : Int32) = nI 0 from rfl, nI_eq (by omega) (by omega)]
  constructor
  · intro h y hy
    have := Nat.testBit_mod_two_pow s x y
    rw [h] at this
    simp [hy] at this
    exact this
  · intro h
    apply Nat.eq_of_testBit_eq
    intro y
    rw [Nat.testBit_mod_two_pow]
    by_cases hy : y < x
    · rw [h y hy]; simp
    · simp [hy]
section
variable {yc fo : Int32} {gn li mk pw al : Nat → Int32}
theorem yl_orbs {post : Int32 → Prop} (hw : y_pw pw) {G0 : Nat → Prop} {ls : Nat → Nat} {m : Nat} (L : y_lst G0 fo li mk ls m) (hp : post (nI (ct (ob_F G0) (fun x => x) 6))) :
    ∀ d x n, x + d = 6 → d < n → wY_orbits_4 post yc fo gn li mk pw al n (nI (ct (ob_F G0) (fun x => x) x)) (nI x) := by
  intro d
  induction d with
  | zero =>
    intro x n hx hn
    obtain ⟨n, rfl⟩ : ∃ q, n = q + 1 := ⟨n - 1, by omega⟩
    have : x = 6 := by omega
    subst this
    exact br_t (by decide) hp
  | succ d ih =>
    intro x n hx hn
    obtain ⟨n, rfl⟩ : ∃ q, n = q + 1 := ⟨n - 1, by omega⟩
    refine br_f (nI_ge (b := 6) (by omega) (by decide)) (yw_orbOf hw L (by omega) ?_)
    intro s hs
    refine nm_e ?_
    by_cases hF : ob_F G0 x
    · have e := ct_y (Q := ob_F G0) (ls := fun x => x) (n := x) hF
      refine br_t ((ob_low (by omega) hs.1).mpr ?_) (nm_r (nI_1 _) (nm_r (nI_1 x) ?_))
      · intro y hy
        cases h : s.testBit y with
        | false => rfl
        | true => exact absurd ((hs.2 y (by omega)).mp h) (hF y hy)
      · rw [← e]
        exact ih (x + 1) n (by omega) (by omega)
    · have e := ct_n (Q := ob_F G0) (ls := fun x => x) (n := x) hF
      refine br_f (fun z => hF ?_) (nm_r (nI_1 x) ?_)
      · intro y hy k
        have h1 := (ob_low (by omega) hs.1).mp z y hy
        rw [(hs.2 y (by omega)).mpr k] at h1
        cases h1
      · rw [← e]
        exact ih (x + 1) n (by omega) (by omega)
theorem yw_orbs {post : Int32 → Prop} (hw : y_pw pw) {G0 : Nat → Prop} {ls : Nat → Nat} {m : Nat} (L : y_lst G0 fo li mk ls m) (hp : post (nI (ct (ob_F G0) (fun x => x) 6))) : wpY_orbits post (yc, fo, gn, li, mk, pw, al) :=
  ⟨7, yl_orbs hw L hp 6 0 7 rfl (by omega)⟩
end
end
section
/-! X's search -/
/-- what a question asks of the images of the points before i -/
def sr_ok (PQ : Nat → Nat → Prop) : Prop := (∀ i r h, i ≤ 6 → cn_fx i r → (PQ i (pe_mu r h) ↔ PQ i h)) ∧ (∀ i h, i < 6 → PQ (i + 1) h → PQ i h) ∧ ∀ h, PQ 0 h
def sr_K : Nat → Nat
  | 0 => 1
  | n + 1 => 7 + (n + 1) * sr_K n
theorem sr_down {PQ : Nat → Nat → Prop} (ok : sr_ok PQ) {h : Nat} : ∀ d i, i + d = 6 → PQ 6 h → PQ i h := by
  intro d
  induction d with
  | zero => intro i hi hp; have : i = 6 := by omega
            subst this; exact hp
  | succ d ih => intro i hi hp; exact ok.2.1 i h (by omega) (ih (i + 1) (by omega) hp)
noncomputable def sr_c (ch : Nat → Nat → Option Nat) (PQ : Nat → Nat → Prop) (n i h : Nat) : Nat := (el_T ch n i h).countP (bq (PQ 6))
noncomputable def sr_t (ch : Nat → Nat → Option Nat) (PQ : Nat → Nat → Prop) (n i h t : Nat) : Nat := ((el_O ch i t).flatMap (fun c => el_T ch n (i + 1) (pe_mu c h))).countP (bq (PQ 6))
theorem sr_zero {ch : Nat → Nat → Option Nat} (cok : cn_ok ch) {PQ : Nat → Nat → Prop} (ok : sr_ok PQ) {n i h : Nat} (hi : i + n = 6) (hh : pe_P h) (hn : ¬ PQ i h) : sr_c ch PQ n i h = 0 := by
  unfold sr_c
  rw [List.countP_eq_zero]
  intro g hg hb
  obtain ⟨r, rp, rf, _, rfl⟩ := (el_T_mem cok n i hi h hh g).mp hg
  have h6 := bq_t.mp hb
  exact hn ((ok.1 i r h (by omega) rf).mp (sr_down ok n i hi h6))
theorem sr_leaf {ch : Nat → Nat → Option Nat} {PQ : Nat → Nat → Prop} {i h : Nat} (hp : PQ 6 h) : sr_c ch PQ 0 i h = 1 := by
  show [h].countP (bq (PQ 6)) = 1
  rw [List.countP_cons_of_pos (bq_t.mpr hp), List.countP_nil]
theorem sr_t6 {ch : Nat → Nat → Option Nat} {PQ : Nat → Nat → Prop} {n i h : Nat} : sr_t ch PQ n i h 6 = 0 := rfl
theorem sr_tn {ch : Nat → Nat → Option Nat} {PQ : Nat → Nat → Prop} {n i h t : Nat} (ht : t < 6) (hc : ch i t = none) : sr_t ch PQ n i h t = sr_t ch PQ n i h (t + 1) := by
  unfold sr_t
  rw [el_On ht hc]
theorem sr_ts {ch : Nat → Nat → Option Nat} {PQ : Nat → Nat → Prop} {n i h t c : Nat} (ht : t < 6) (hc : ch i t = some c) : sr_t ch PQ n i h t = sr_c ch PQ n (i + 1) (pe_mu c h) + sr_t ch PQ n i h (t + 1) := by
  unfold sr_t sr_c
  rw [el_Os ht hc, List.flatMap_cons, List.countP_append]
section
variable {co bu sc wa ot ws : Int32} {ge ca cb st sl tr sf : Nat → Int32}
theorem sr_exit {post : Int32 → SX → Prop} {q x4 x5 : Int32} {most F : Nat} (hF : 0 < F) (hp : post (nI most) (co, bu, sc, wa, ot, ws, ge, ca, cb, st, sl, tr, sf)) : wX_search_27 post q (nI most) co bu sc wa ot ws F (nI most) x4 x5 ge ca cb st sl tr sf := by
  obtain ⟨F, rfl⟩ : ∃ m, F = m + 1 := ⟨F - 1, by omega⟩
  exact br_c (fun _ => hp) (fun _ => br_c (fun _ => hp) (fun _ => br_t (Int32.le_refl _) hp))
/-- the question as the code asks it -/
def sr_W (PQ : Nat → Nat → Prop) (q wa ot ws : Int32) : Prop :=
  ∀ (post : Int32 → Prop) (co bu sc : Int32) (ge ca cb st sl tr sf : Nat → Int32) (i h : Nat), i < 6 → pe_P h → PQ i h → (PQ (i + 1) h → post 1) → (¬ PQ (i + 1) h → post 0) → wpX_hopeful post (co, bu, sc, wa, ot, ws, ge, ca, cb, st, sl, tr, sf) q (nI i) (nI (pe_ap h i)) (ex h)
/-- what a node asks: from here on with the count added, one level up; or the end when enough are found -/
def sr_C (post : Int32 → SX → Prop) (q : Int32) (most : Nat) (co bu sc wa ot ws : Int32) (ge ca cb st sl : Nat → Int32) (i k cnt F r f : Nat) (tr sf : Nat → Int32) : Prop :=
  (∀ F' r' tr' sf', F ≤ F' + k → r' ≤ r + k → (∀ j, j < i → tr' j = tr j ∧ sf' j = sf j) → f + cnt < most → wX_search_27 post q (nI most) co bu sc wa ot ws F' (nI (f + cnt)) (nI i + (-1)) (nI r') ge ca cb st sl tr' sf') ∧
  (∀ tr' sf', most ≤ f + cnt → post (nI most) (co, bu, sc, wa, ot, ws, ge, ca, cb, st, sl, tr', sf'))
def sr_N (ch : Nat → Nat → Option Nat) (PQ : Nat → Nat → Prop) (post : Int32 → SX → Prop) (q : Int32) (most : Nat) (co bu sc wa ot ws : Int32) (ge ca cb st sl : Nat → Int32) (n : Nat) : Prop :=
  ∀ i, i + n = 6 → ∀ F r f tr sf h, (n ≠ 0 → tr i = 0) → sf i = ex h → pe_P h → PQ i h → f < most → r + sr_K n < 20000 → sr_K n < F →
    sr_C post q most co bu sc wa ot ws ge ca cb st sl i (sr_K n) (sr_c ch PQ n i h) F r f tr sf → wX_search_27 post q (nI most) co bu sc wa ot ws F (nI f) (nI i) (nI r) ge ca cb st sl tr sf
theorem sr_node0 {ch : Nat → Nat → Option Nat} {PQ : Nat → Nat → Prop} {post : Int32 → SX → Prop} {q : Int32} {most : Nat} (hm : most < 2 ^ 31) : sr_N ch PQ post q most co bu sc wa ot ws ge ca cb st sl 0 := by
  intro i hi F r f tr sf h _ hsf hh hpq hf hr hF C
  have : i = 6 := by omega
  subst this
  have hK0 : sr_K 0 = 1 := rfl
  obtain ⟨F, rfl⟩ : ∃ m, F = m + 2 := ⟨F - 2, by omega⟩
  have hr' : r < 20000 := by omega
  refine br_f (nI_ge (b := 20000) hr' (by decide)) (br_f (by decide) (br_f (nI_ge hf hm) (br_t rfl (nm_r (nI_1 f) (nm_e (nm_r (nI_1 r) ?_))))))
  unfold sr_C at C
  rw [sr_leaf hpq] at C
  rcases Nat.lt_or_ge (f + 1) most with a | a
  · exact C.1 (F + 1) (r + 1) tr sf (by omega) (by omega) (fun _ _ => ⟨rfl, rfl⟩) a
  · have : f + 1 = most := by omega
    rw [this]
    exact sr_exit (by omega) (C.2 tr sf a)
theorem sr_try {ch : Nat → Nat → Option Nat} (cok : cn_ok ch) (hx : x_ch ch ca cb) {PQ : Nat → Nat → Prop} (ok : sr_ok PQ) {post : Int32 → SX → Prop} {q : Int32} (hW : sr_W PQ q wa ot ws) {most : Nat} (hm : most < 2 ^ 31) {n : Nat} (ih : sr_N ch PQ post q most co bu sc wa ot ws ge ca cb st sl n) {i : Nat} (hi : i + (n + 1) = 6) {h : Nat} (hh : pe_P h) (hpq : PQ i h) :
    ∀ d t, t + d = 6 → ∀ F r f tr sf, tr i = nI t → sf i = ex h → f < most → r + (1 + d + (el_O ch i t).length * sr_K n) < 20000 → 1 + d + (el_O ch i t).length * sr_K n < F →
      sr_C post q most co bu sc wa ot ws ge ca cb st sl i (1 + d + (el_O ch i t).length * sr_K n) (sr_t ch PQ n i h t) F r f tr sf → wX_search_27 post q (nI most) co bu sc wa ot ws F (nI f) (nI i) (nI r) ge ca cb st sl tr sf := by
  have hi6 : i < 6 := by omega
  have hn6 : ¬ nI i = 6 := fun z => by have := (nI_eq (b := 6) (by omega) (by decide)).mp z; omega
  have hin : vp_in (nI i) 7 := vp_in_nI (by omega) (by decide)
  intro d
  induction d with
  | zero =>
    intro t ht F r f tr sf htr hsf hf hr hF C
    have : t = 6 := by omega
    subst this
    obtain ⟨F, rfl⟩ : ∃ m, F = m + 1 := ⟨F - 1, by omega⟩
    refine br_f (nI_ge (b := 20000) (by omega) (by decide)) (br_f (nI_pos (by omega)) (br_f (nI_ge hf hm) (br_f hn6 ⟨hin, br_t ?_ (nm_e (nm_r (nI_1 r) ?_))⟩)))
    · rw [nI_clamp (by omega), htr]
      rfl
    · have := C.1 F (r + 1) tr sf (by omega) (by omega) (fun _ _ => ⟨rfl, rfl⟩) hf
      exact this
  | succ d ihd =>
    intro t ht F r f tr sf htr hsf hf hr hF C
    have ht6 : t < 6 := by omega
    obtain ⟨F, rfl⟩ : ∃ m, F = m + 1 := ⟨F - 1, by omega⟩
    have hnt : ¬ nI t = 6 := fun z => by have := (nI_eq (b := 6) (by omega) (by decide)).mp z; omega
    refine br_f (nI_ge (b := 20000) (by omega) (by decide)) (br_f (nI_pos (by omega)) (br_f (nI_ge hf hm) (br_f hn6 ⟨hin, ?_⟩)))
    rw [nI_clamp (n := i) (by omega), htr, hsf]
    refine br_f hnt ⟨hin, xc_in hi6 ht6, ?_⟩
    rw [xc_cl hi6 ht6]
    cases hc : ch i t with
    | none =>
      rw [sr_tn ht6 hc, el_On ht6 hc] at C
      rw [el_On ht6 hc] at hr hF
      rw [(hx i hi6 t ht6).2 hc]
      refine nm_e ⟨hin, hin, nm_r (e' := upd tr i (nI (t + 1))) (by rw [nI_1]) (br_t rfl (nm_r (nI_1 r) ?_))⟩
      refine ihd (t + 1) (by omega) F (r + 1) f _ sf pk_us hsf hf (by omega) (by omega) ⟨?_, C.2⟩
      intro F' r' tr' sf' h1 h2 h3 h4
      refine C.1 F' r' tr' sf' (by omega) (by omega) ?_ h4
      intro j hj
      obtain ⟨a, b⟩ := h3 j hj
      rw [pk_un (by omega)] at a
      exact ⟨a, b⟩
    | some c =>
      obtain ⟨cp, cf, ci⟩ := cok.2 i t c hi6 ht6 hc
      have hh' := pe_mu_P cp hh
      have hpq' : PQ i (pe_mu c h) := (ok.1 i c h (by omega) cf).mpr hpq
      rw [sr_ts ht6 hc, el_Os ht6 hc, List.length_cons, Nat.succ_mul] at C
      rw [el_Os ht6 hc, List.length_cons, Nat.succ_mul] at hr hF
      rw [((hx i hi6 t ht6).1 c hc).1]
      refine nm_e ⟨hin, hin, nm_r (e' := upd tr i (nI (t + 1))) (by rw [nI_1]) (br_f (ex_n4 c) ⟨hin, xw_times (xw_digit hi6 (hW _ _ _ _ _ _ _ _ _ _ _ i (pe_mu c h) hi6 hh' hpq' ?_ ?_))⟩)⟩
      · intro hg
        refine br_f (by decide) (nm_r (nI_1 i) ⟨vp_in_nI (by omega) (by decide), nm_e ⟨vp_in_nI (by omega) (by decide), nm_e (nm_r (nI_1 r) ?_)⟩⟩)
        rw [nI_clamp (n := i + 1) (by omega)]
        refine ih (i + 1) (by omega) F (r + 1) f _ _ (pe_mu c h) (fun _ => pk_us) pk_us hh' hg hf (by omega) (by omega) ⟨?_, ?_⟩
        · intro F' r' tr' sf' h1 h2 h3 h4
          rw [pk_m1]
          obtain ⟨a, b⟩ := h3 i (by omega)
          rw [pk_un (by omega), pk_us] at a
          rw [pk_un (by omega)] at b
          refine ihd (t + 1) (by omega) F' r' (f + sr_c ch PQ n (i + 1) (pe_mu c h)) tr' sf' a (b.trans hsf) h4 (by omega) (by omega) ⟨?_, ?_⟩
          · intro F2 r2 tr2 sf2 k1 k2 k3 k4
            have := C.1 F2 r2 tr2 sf2 (by omega) (by omega) ?_ (by omega)
            · rw [Nat.add_assoc]
              exact this
            · intro j hj
              obtain ⟨a2, b2⟩ := k3 j hj
              obtain ⟨a3, b3⟩ := h3 j (by omega)
              rw [pk_un (by omega), pk_un (by omega)] at a3
              rw [pk_un (by omega)] at b3
              exact ⟨a2.trans a3, b2.trans b3⟩
          · intro tr2 sf2 k
            exact C.2 tr2 sf2 (by omega)
        · intro tr' sf' k
          exact C.2 tr' sf' (by omega)
      · intro hg
        have hz := sr_zero cok ok (n := n) (i := i + 1) (by omega) hh' hg
        rw [hz, Nat.zero_add] at C
        refine br_t rfl (nm_r (nI_1 r) ?_)
        refine ihd (t + 1) (by omega) F (r + 1) f _ sf pk_us hsf hf (by omega) (by omega) ⟨?_, C.2⟩
        intro F' r' tr' sf' h1 h2 h3 h4
        refine C.1 F' r' tr' sf' (by omega) (by omega) ?_ h4
        intro j hj
        obtain ⟨a, b⟩ := h3 j hj
        rw [pk_un (by omega)] at a
        exact ⟨a, b⟩
theorem sr_node {ch : Nat → Nat → Option Nat} (cok : cn_ok ch) (hx : x_ch ch ca cb) {PQ : Nat → Nat → Prop} (ok : sr_ok PQ) {post : Int32 → SX → Prop} {q : Int32} (hW : sr_W PQ q wa ot ws) {most : Nat} (hm : most < 2 ^ 31) : ∀ n, n ≤ 6 → sr_N ch PQ post q most co bu sc wa ot ws ge ca cb st sl n := by
  intro n
  induction n with
  | zero => intro _; exact sr_node0 hm
  | succ n ih =>
    intro hn i hi F r f tr sf h htr hsf hh hpq hf hr hF C
    have hl := el_O_len cok (i := i) (by omega)
    have hk : (el_O ch i 0).length * sr_K n ≤ (n + 1) * sr_K n := Nat.mul_le_mul_right _ (by omega)
    have e : sr_K (n + 1) = 7 + (n + 1) * sr_K n := rfl
    rw [e] at hr hF C
    refine sr_try cok hx ok hW hm (ih (by omega)) hi hh hpq 6 0 rfl F r f tr sf (htr (by omega)) hsf hf (by omega) (by omega) ⟨?_, ?_⟩
    · intro F' r' tr' sf' h1 h2 h3 h4
      exact C.1 F' r' tr' sf' (by omega) (by omega) h3 h4
    · intro tr' sf' k
      exact C.2 tr' sf' k
theorem xw_search {post : Int32 → SX → Prop} {c : Nat} (hc : c ≤ 5) {gs : Nat → Nat} (hgs : ∀ k, k < c → pe_P (gs k)) (hge : ∀ k, k < c → ge k = ex (gs k)) (hb : bu = 0 ∨ (bu = 1 ∧ x_V (gr_G (gT c gs)) ca cb)) {PQ : Nat → Nat → Prop} (ok : sr_ok PQ) {q : Int32} (hW : sr_W PQ q wa ot ws) {most : Nat} (h0 : 0 < most) (hm : most < 2 ^ 31)
    (K : ∀ ch sc' ca' cb' st' sl' tr' sf', x_Vc (gr_G (gT c gs)) ch ca' cb' → post (nI (if ct (PQ 6) (el_el ch 6 0 pe_id) (el_N ch 6 0) < most then ct (PQ 6) (el_el ch 6 0 pe_id) (el_N ch 6 0) else most)) (nI c, 1, sc', wa, ot, ws, ge, ca', cb', st', sl', tr', sf')) : wpX_search post (nI c, bu, sc, wa, ot, ws, ge, ca, cb, st, sl, tr, sf) q (nI most) := by
  unfold wpX_search
  dsimp only
  refine xw_build hc hgs hge hb ?_
  rintro sc' ca' cb' st' sl' ⟨ch, v1, v2, v3⟩
  have e : ct (PQ 6) (el_el ch 6 0 pe_id) (el_N ch 6 0) = sr_c ch PQ 6 0 pe_id :=
    gr_cnt (el_E_nodup v1) (el_T_nodup v1 6 0 rfl pe_id pe_id_P) (el_E_mem v1) _
  refine nm_e (nm_e ⟨10000, sr_node v1 v2 ok hW hm 6 (by omega) 0 rfl 10000 0 0 _ _ pe_id (fun _ => pk_us) (by rw [ex_id]; exact pk_us) pe_id_P (ok.2.2 _) h0 (by decide) (by decide) ⟨?_, ?_⟩⟩)
  · intro F' r' tr' sf' h1 h2 h3 h4
    rw [Nat.zero_add] at h4 ⊢
    have hk : sr_K 6 = 9379 := by decide
    obtain ⟨F', rfl⟩ : ∃ m, F' = m + 1 := ⟨F' - 1, by omega⟩
    have := K ch sc' ca' cb' st' sl' tr' sf' ⟨v1, v2, v3⟩
    rw [e, if_pos h4] at this
    exact br_c (fun _ => this) (fun _ => br_t (by decide) this)
  · intro tr' sf' h4
    rw [Nat.zero_add] at h4
    have := K ch sc' ca' cb' st' sl' tr' sf' ⟨v1, v2, v3⟩
    rw [e, if_neg (by omega)] at this
    exact this
end
end
section
/-! the three questions -/
def qu_F (s i h : Nat) : Prop := ∀ j, j < i → s.testBit j = true → pe_ap h j = j
def qu_K (s i h : Nat) : Prop := ∀ j, j < i → (s.testBit j = true ↔ s.testBit (pe_ap h j) = true)
def qu_C (w o i h : Nat) : Prop := ∀ x, x < i → pe_ap w x < i → pe_ap o (pe_ap h x) = pe_ap h (pe_ap w x)
theorem qu_ap {i r h x : Nat} (hi : i ≤ 6) (hf : cn_fx i r) (hx : x < i) : pe_ap (pe_mu r h) x = pe_ap h x := by
  rw [pe_ap_mu _ _ (by omega), hf x hx]
theorem qu_F_ok (s : Nat) : sr_ok (qu_F s) := by
  refine ⟨?_, ?_, ?_⟩
  · intro i r h hi hf
    constructor
    · intro k j hj hb
      rw [← qu_ap hi hf hj]; exact k j hj hb
    · intro k j hj hb
      rw [qu_ap hi hf hj]; exact k j hj hb
  · intro i h _ k j hj
    exact k j (by omega)
  · intro h j hj
    omega
theorem qu_K_ok (s : Nat) : sr_ok (qu_K s) := by
  refine ⟨?_, ?_, ?_⟩
  · intro i r h hi hf
    constructor
    · intro k j hj
      rw [← qu_ap hi hf hj]; exact k j hj
    · intro k j hj
      rw [qu_ap hi hf hj]; exact k j hj
  · intro i h _ k j hj
    exact k j (by omega)
  · intro h j hj
    omega
theorem qu_C_ok (w o : Nat) : sr_ok (qu_C w o) := by
  refine ⟨?_, ?_, ?_⟩
  · intro i r h hi hf
    constructor
    · intro k x hx hw
      rw [← qu_ap hi hf hx, ← qu_ap hi hf hw]; exact k x hx hw
    · intro k x hx hw
      rw [qu_ap hi hf hx, qu_ap hi hf hw]; exact k x hx hw
  · intro i h _ k x hx hw
    exact k x (by omega) (by omega)
  · intro h x hx
    omega
theorem qu_F_st {s i h : Nat} (hp : qu_F s i h) : qu_F s (i + 1) h ↔ (s.testBit i = true → pe_ap h i = i) := by
  constructor
  · intro k
    exact k i (by omega)
  · intro k j hj hb
    rcases Nat.lt_or_ge j i with a | a
    · exact hp j a hb
    · have : j = i := by omega
      subst this
      exact k hb
theorem qu_K_st {s i h : Nat} (hp : qu_K s i h) : qu_K s (i + 1) h ↔ (s.testBit i = true ↔ s.testBit (pe_ap h i) = true) := by
  constructor
  · intro k
    exact k i (by omega)
  · intro k j hj
    rcases Nat.lt_or_ge j i with a | a
    · exact hp j a
    · have : j = i := by omega
      subst this
      exact k
theorem qu_F_W {s : Nat} (hs : s < 64) {wa ot : Int32} : sr_W (qu_F s) 0 wa ot (nI s) := by
  intro post co bu sc ge ca cb st sl tr sf i h hi hh hpq h1 h0
  have h6 := pe_ap_lt h i
  rw [qu_F_st hpq] at h1 h0
  refine br_c (fun hb => ?_) (fun hb => ?_)
  · have hb' := (xb_bit1 (by omega) (by omega)).mp hb
    refine br_t rfl (br_f (by decide) (pk_eq (pe_ap h i) i (fun e => h1 (fun _ => e)) (fun e => h0 (fun k => e (k hb')))))
  · have hb' : ¬ s.testBit i = true := fun z => hb ((xb_bit1 (by omega) (by omega)).mpr z)
    exact br_t rfl (br_t rfl (h1 (fun z => absurd z hb')))
theorem qu_K_W {s : Nat} (hs : s < 64) {wa ot : Int32} : sr_W (qu_K s) 1 wa ot (nI s) := by
  intro post co bu sc ge ca cb st sl tr sf i h hi hh hpq h1 h0
  have h6 := pe_ap_lt h i
  rw [qu_K_st hpq] at h1 h0
  have e1 := xb_bit1 (s := s) (k := i) (by omega) (by omega)
  have e2 := xb_bit1 (s := s) (k := pe_ap h i) (by omega) (by omega)
  refine br_c (fun hb => ?_) (fun hb => ?_)
  · refine br_f (by decide) (br_t rfl (br_c (fun hy => ?_) (fun hy => ?_)))
    · exact br_t rfl (h1 ⟨fun _ => e2.mp hy, fun _ => e1.mp hb⟩)
    · exact br_f (by decide) (h0 (fun k => hy (e2.mpr (k.mp (e1.mp hb)))))
  · refine br_f (by decide) (br_t rfl (br_c (fun hy => ?_) (fun hy => ?_)))
    · exact br_f (by decide) (h0 (fun k => hb (e1.mpr (k.mpr (e2.mp hy)))))
    · exact br_t rfl (h1 ⟨fun z => absurd (e1.mpr z) hb, fun z => absurd (e2.mpr z) hy⟩)
section
variable {co bu sc wa ot ws : Int32} {ge ca cb st sl tr sf : Nat → Int32}
theorem xl_car {post : Int32 → Prop} {w o h i : Nat} (hi : i < 6) (h1 : qu_C w o (i + 1) h → post 1) (h0 : ¬ qu_C w o (i + 1) h → post 0) : ∀ d x n, x + d = i + 1 → d < n → (∀ x', x' < x → pe_ap w x' < i + 1 → pe_ap o (pe_ap h x') = pe_ap h (pe_ap w x')) → wX_carries_2 post (nI i) (ex h) co bu sc (ex w) (ex o) ws ge ca cb st sl tr sf n (nI x) := by
  intro d
  induction d with
  | zero =>
    intro x n hx hn hv
    obtain ⟨n, rfl⟩ : ∃ q, n = q + 1 := ⟨n - 1, by omega⟩
    have : x = i + 1 := by omega
    subst this
    exact br_t (nI_lt (by omega) (by omega)) (h1 hv)
  | succ d ih =>
    intro x n hx hn hv
    obtain ⟨n, rfl⟩ : ∃ q, n = q + 1 := ⟨n - 1, by omega⟩
    have h6 := pe_ap_lt w x
    refine br_f (nI_nlt (by omega) (by omega)) (xw_digit (by omega) ?_)
    by_cases hz : i < pe_ap w x
    · refine br_t (nI_lt hz (by omega)) (nm_r (nI_1 x) (ih (x + 1) n (by omega) (by omega) ?_))
      intro x' hx' hw'
      rcases Nat.lt_or_ge x' x with a | a
      · exact hv x' a hw'
      · have : x' = x := by omega
        subst this
        omega
    · have h7 := pe_ap_lt o (pe_ap h x)
      have h8 := pe_ap_lt h (pe_ap w x)
      refine br_f (nI_nlt (by omega) (by omega)) (xw_digit (by omega) (xw_digit (pe_ap_lt _ _) (xw_digit h6 ?_)))
      refine pk_eq (pe_ap o (pe_ap h x)) (pe_ap h (pe_ap w x)) (fun e => nm_r (nI_1 x) (ih (x + 1) n (by omega) (by omega) ?_)) (fun e => h0 (fun k => e (k x (by omega) (by omega))))
      intro x' hx' hw'
      rcases Nat.lt_or_ge x' x with a | a
      · exact hv x' a hw'
      · have : x' = x := by omega
        subst this
        exact e
end
theorem qu_C_W (w o : Nat) {ws : Int32} : sr_W (qu_C w o) 2 (ex w) (ex o) ws := by
  intro post co bu sc ge ca cb st sl tr sf i h hi hh hpq h1 h0
  refine br_c (fun hb => ?_) (fun hb => ?_)
  · exact br_f (by decide) (br_f (by decide) ⟨i + 2, xl_car hi (fun k => ⟨narrow_b1, h1 k⟩) (fun k => ⟨narrow_b0, h0 k⟩) (i + 1) 0 (i + 2) (by omega) (by omega) (fun _ h => absurd h (by omega))⟩)
  · exact br_f (by decide) (br_f (by decide) ⟨i + 2, xl_car hi (fun k => ⟨narrow_b1, h1 k⟩) (fun k => ⟨narrow_b0, h0 k⟩) (i + 1) 0 (i + 2) (by omega) (by omega) (fun _ h => absurd h (by omega))⟩)
/-! what they mean for a whole permutation -/
theorem qu_K_im {s g : Nat} (hs : s < 64) (hg : pe_P g) : qu_K s 6 g ↔ im s g = s := by
  constructor
  · intro k
    apply im_ext (im_lt _ _ _) hs
    intro y hy
    rw [im_bit]
    constructor
    · rintro ⟨x, hx, hb, rfl⟩
      exact (k x hx).mp hb
    · intro hb
      obtain ⟨x, hx, e⟩ := pe_sur hg hy
      subst e
      exact ⟨x, hx, (k x hx).mpr hb, rfl⟩
  · intro k j hj
    have e := im_bit s g 6 (pe_ap g j)
    rw [show im_ s g 6 = s from k] at e
    constructor
    · intro hb
      exact e.mpr ⟨j, hj, hb, rfl⟩
    · intro hb
      obtain ⟨x, hx, hb2, e2⟩ := e.mp hb
      rw [← pe_P_inj hg hx hj e2]
      exact hb2
theorem qu_C_mu {w o g : Nat} : qu_C w o 6 g ↔ pe_mu w g = pe_mu g o := by
  constructor
  · intro k
    apply pe_ext (pe_mu_lt _ _) (pe_mu_lt _ _)
    intro x hx
    rw [pe_ap_mu _ _ hx, pe_ap_mu _ _ hx, k x hx (pe_ap_lt _ _)]
  · intro k x hx _
    have := congrArg (fun g => pe_ap g x) k
    have e : pe_ap (pe_mu w g) x = pe_ap (pe_mu g o) x := this
    rw [pe_ap_mu _ _ hx, pe_ap_mu _ _ hx] at e
    exact e.symm
/-! images of a set: fibres -/
theorem im_mu (s a b : Nat) : im s (pe_mu a b) = im (im s a) b := by
  apply im_ext (im_lt _ _ _) (im_lt _ _ _)
  intro y _
  unfold im
  rw [im_bit, im_bit]
  constructor
  · rintro ⟨x, hx, hb, e⟩
    rw [pe_ap_mu _ _ hx] at e
    exact ⟨pe_ap a x, pe_ap_lt _ _, (im_bit _ _ _ _).mpr ⟨x, hx, hb, rfl⟩, e⟩
  · rintro ⟨z, hz, hb, e⟩
    obtain ⟨x, hx, hb2, e2⟩ := (im_bit _ _ _ _).mp hb
    exact ⟨x, hx, hb2, by rw [pe_ap_mu _ _ hx, e2, e]⟩
theorem im_idn {s : Nat} (hs : s < 64) : im s pe_id = s := by
  apply im_ext (im_lt _ _ _) hs
  intro y hy
  rw [im_bit]
  constructor
  · rintro ⟨x, hx, hb, e⟩
    rw [pe_ap_id hx] at e
    rw [← e]; exact hb
  · intro hb
    exact ⟨y, hy, hb, pe_ap_id hy⟩
theorem ct_add {Q R S : Nat → Prop} {ls : Nat → Nat} (h : ∀ g, S g ↔ Q g ∨ R g) (hd : ∀ g, Q g → ¬ R g) : ∀ n, ct S ls n = ct Q ls n + ct R ls n := by
  intro n
  induction n with
  | zero => rfl
  | succ n ih =>
    by_cases hq : Q (ls n)
    · rw [ct_y ((h _).mpr (Or.inl hq)), ct_y hq, ct_n (hd _ hq), ih]
      omega
    · by_cases hr : R (ls n)
      · rw [ct_y ((h _).mpr (Or.inr hr)), ct_n hq, ct_y hr, ih]
        omega
      · rw [ct_n (fun z => ((h _).mp z).elim hq hr), ct_n hq, ct_n hr, ih]
theorem ct_none {Q : Nat → Prop} {ls : Nat → Nat} : ∀ n, (∀ j, j < n → ¬ Q (ls j)) → ct Q ls n = 0 := by
  intro n
  induction n with
  | zero => intro _; rfl
  | succ n ih => intro h; rw [ct_n (h n (by omega))]; exact ih (fun j hj => h j (by omega))
theorem ct_all {Q : Nat → Prop} {ls : Nat → Nat} : ∀ n, ct Q ls n = n ↔ ∀ j, j < n → Q (ls j) := by
  intro n
  induction n with
  | zero => exact ⟨fun _ j hj => absurd hj (by omega), fun _ => rfl⟩
  | succ n ih =>
    have hl := ct_le (Q := Q) (ls := ls) n
    by_cases hq : Q (ls n)
    · rw [ct_y hq]
      constructor
      · intro h j hj
        rcases Nat.lt_or_ge j n with a | a
        · exact ih.mp (by omega) j a
        · have : j = n := by omega
          subst this
          exact hq
      · intro h
        rw [ih.mpr (fun j hj => h j (by omega))]
    · rw [ct_n hq]
      exact ⟨fun h => by omega, fun h => absurd (h n (by omega)) hq⟩
theorem ct_pos {Q : Nat → Prop} {ls : Nat → Nat} {n : Nat} : 0 < ct Q ls n ↔ ∃ j, j < n ∧ Q (ls j) := by
  constructor
  · intro h
    apply Classical.byContradiction
    intro hn
    rw [ct_none n (fun j hj hq => hn ⟨j, hj, hq⟩)] at h
    omega
  · rintro ⟨j, hj, hq⟩
    apply Classical.byContradiction
    intro hn
    have h0 : ct Q ls n = 0 := by omega
    unfold ct at h0
    rw [List.countP_eq_zero] at h0
    exact h0 (ls j) (y_ls_mem.mpr ⟨j, hj, rfl⟩) (bq_t.mpr hq)
theorem ct_filter {Q : Nat → Prop} {ls : Nat → Nat} {n : Nat} : ct Q ls n = ((y_ls ls n).filter (bq Q)).length := List.countP_eq_length_filter
/-- each fibre has as many members as the stabiliser -/
theorem im_fib {T : Nat → Prop} (hT : ∀ t, T t → pe_P t) {ls : Nat → Nat} {m : Nat} (hinj : ∀ j k, j < m → k < m → ls j = ls k → j = k) (hG : ∀ g, gr_G T g ↔ y_in ls m g) {s : Nat} (hs : s < 64) {g0 : Nat} (h0 : gr_G T g0) : ct (fun g => im s g = im s g0) ls m = ct (fun g => im s g = s) ls m := by
  rw [ct_filter, ct_filter]
  have hd := y_ls_nodup hinj
  have p0 := gr_P hT h0
  have h1 : (((y_ls ls m).filter (bq (fun g => im s g = s))).map (fun a => pe_mu a g0)).Nodup := by
    apply np_map_nodup _ (List.Nodup.sublist List.filter_sublist hd)
    intro a ha b hb e
    have ga := (hG a).mpr (y_ls_mem.mp (List.mem_filter.mp ha).1)
    have gb := (hG b).mpr (y_ls_mem.mp (List.mem_filter.mp hb).1)
    exact pe_mu_cr p0 (gr_P hT ga).1 (gr_P hT gb).1 e
  have h2 := gr_len h1 (List.Nodup.sublist (List.filter_sublist (p := bq (fun g => im s g = im s g0))) hd) ?_
  · rw [List.length_map] at h2
    exact h2.symm
  · intro g
    rw [List.mem_map, List.mem_filter, y_ls_mem, ← hG, bq_t]
    constructor
    · rintro ⟨a, ha, rfl⟩
      rw [List.mem_filter, y_ls_mem, ← hG, bq_t] at ha
      refine ⟨gr_mul hT ha.1 h0, ?_⟩
      rw [im_mu, ha.2]
    · rintro ⟨hg, e⟩
      have pg := gr_P hT hg
      refine ⟨pe_mu g (pe_iv g0), ?_, pe_mu_ivl p0 pg.1⟩
      rw [List.mem_filter, y_ls_mem, ← hG, bq_t]
      refine ⟨gr_mul hT hg (gr_inv hT h0), ?_⟩
      rw [im_mu, e, ← im_mu, pe_mu_iv p0, im_idn hs]
theorem im_count {T : Nat → Prop} (hT : ∀ t, T t → pe_P t) {ls : Nat → Nat} {m : Nat} (hinj : ∀ j k, j < m → k < m → ls j = ls k → j = k) (hG : ∀ g, gr_G T g ↔ y_in ls m g) {s : Nat} (hs : s < 64) : ct (fun v => ∃ j, j < m ∧ im s (ls j) = v) (fun v => v) 64 * ct (fun g => im s g = s) ls m = m := by
  have k : ∀ B, ct (fun v => ∃ j, j < m ∧ im s (ls j) = v) (fun v => v) B * ct (fun g => im s g = s) ls m = ct (fun g => im s g < B) ls m := by
    intro B
    induction B with
    | zero =>
      rw [ct_none (Q := fun g => im s g < 0) m (fun _ _ => Nat.not_lt_zero _), ct_0, Nat.zero_mul]
    | succ B ih =>
      rw [ct_add (S := fun g => im s g < B + 1) (Q := fun g => im s g < B) (R := fun g => im s g = B) (fun g => by omega) (fun g => by omega) m]
      by_cases hM : ∃ j, j < m ∧ im s (ls j) = B
      · rw [ct_y (Q := fun v => ∃ j, j < m ∧ im s (ls j) = v) (ls := fun v => v) (n := B) hM, Nat.succ_mul, ih]
        obtain ⟨j, hj, e⟩ := hM
        have := im_fib hT hinj hG hs ((hG (ls j)).mpr ⟨j, hj, rfl⟩)
        rw [e] at this
        rw [this]
      · rw [ct_n (Q := fun v => ∃ j, j < m ∧ im s (ls j) = v) (ls := fun v => v) (n := B) hM, ih, ct_none (Q := fun g => im s g = B) m (fun j hj e => hM ⟨j, hj, e⟩), Nat.add_zero]
  rw [k 64]
  exact (ct_all m).mpr (fun j _ => im_lt _ _ _)
end
section
/-! Y's loops over the list -/
theorem se_ex (v : Int32) : (∃ s, s < 64 ∧ v = nI s) ∨ ∀ s, s < 64 → v ≠ nI s := by
  by_cases h : ∃ s, s < 64 ∧ v = nI s
  · exact Or.inl h
  · exact Or.inr (fun s hs e => h ⟨s, hs, e⟩)
theorem pe_ex (v : Int32) : (∃ g, pe_P g ∧ v = nI g) ∨ ∀ g, pe_P g → v ≠ nI g := by
  by_cases h : ∃ g, pe_P g ∧ v = nI g
  · exact Or.inl h
  · exact Or.inr (fun s hs e => h ⟨s, hs, e⟩)
def cw (c : Nat) (gs : Nat → Nat) (g : Nat) : Prop := ∀ k, k < c → pe_mu g (gs k) = pe_mu (gs k) g
def nm (G0 : Nat → Prop) (c : Nat) (gs : Nat → Nat) (h : Nat) : Prop := ∀ k, k < c → G0 (pe_mu (pe_mu (pe_iv h) (gs k)) h)
/-- the least member with Q, if there is one -/
def mnS (Q : Nat → Prop) (ls : Nat → Nat) (n : Nat) (o : Option Nat) : Prop :=
  (o = none → ∀ j, j < n → ¬ Q (ls j)) ∧ ∀ v, o = some v → (∃ j, j < n ∧ ls j = v ∧ Q v) ∧ ∀ j, j < n → Q (ls j) → v ≤ ls j
def mnV (o : Option Nat) : Int32 := match o with
  | none => -4
  | some v => nI v
theorem mn_0 {Q : Nat → Prop} {ls : Nat → Nat} : mnS Q ls 0 none := ⟨fun _ j hj => absurd hj (by omega), fun v h => by cases h⟩
theorem mn_skip {Q : Nat → Prop} {ls : Nat → Nat} {n : Nat} {o : Option Nat} (h : mnS Q ls n o) (hn : ¬ Q (ls n)) : mnS Q ls (n + 1) o := by
  constructor
  · intro e j hj
    rcases Nat.lt_or_ge j n with a | a
    · exact h.1 e j a
    · have : j = n := by omega
      subst this
      exact hn
  · intro v e
    obtain ⟨⟨j, hj, h1, h2⟩, h3⟩ := h.2 v e
    refine ⟨⟨j, by omega, h1, h2⟩, ?_⟩
    intro j hj hq
    rcases Nat.lt_or_ge j n with a | a
    · exact h3 j a hq
    · have : j = n := by omega
      subst this
      exact absurd hq hn
theorem mn_first {Q : Nat → Prop} {ls : Nat → Nat} {n : Nat} (h : mnS Q ls n none) (hq : Q (ls n)) : mnS Q ls (n + 1) (some (ls n)) := by
  refine ⟨(fun e => by cases e), ?_⟩
  intro v e
  have := Option.some.inj e
  subst this
  refine ⟨⟨n, by omega, rfl, hq⟩, ?_⟩
  intro j hj hj2
  rcases Nat.lt_or_ge j n with a | a
  · exact absurd hj2 (h.1 rfl j a)
  · have : j = n := by omega
    subst this
    exact Nat.le_refl _
theorem mn_less {Q : Nat → Prop} {ls : Nat → Nat} {n v : Nat} (h : mnS Q ls n (some v)) (hq : Q (ls n)) (hl : ls n < v) : mnS Q ls (n + 1) (some (ls n)) := by
  refine ⟨(fun e => by cases e), ?_⟩
  intro w e
  have := Option.some.inj e
  subst this
  refine ⟨⟨n, by omega, rfl, hq⟩, ?_⟩
  intro j hj hj2
  rcases Nat.lt_or_ge j n with a | a
  · have := (h.2 v rfl).2 j a hj2
    omega
  · have : j = n := by omega
    subst this
    exact Nat.le_refl _
theorem mn_keep {Q : Nat → Prop} {ls : Nat → Nat} {n v : Nat} (h : mnS Q ls n (some v)) (hl : v ≤ ls n) : mnS Q ls (n + 1) (some v) := by
  refine ⟨(fun e => by cases e), ?_⟩
  intro w e
  have := Option.some.inj e
  subst this
  obtain ⟨⟨j, hj, h1, h2⟩, h3⟩ := h.2 v rfl
  refine ⟨⟨j, by omega, h1, h2⟩, ?_⟩
  intro j hj hj2
  rcases Nat.lt_or_ge j n with a | a
  · exact h3 j a hj2
  · have : j = n := by omega
    subst this
    exact hl
theorem mn_un {Q : Nat → Prop} {ls ks : Nat → Nat} {n m : Nat} {o p : Option Nat} (hm : ∀ g, y_in ls n g ↔ y_in ks m g) (h : mnS Q ls n o) (k : mnS Q ks m p) : o = p := by
  cases o with
  | none =>
    cases p with
    | none => rfl
    | some v =>
      obtain ⟨⟨j, hj, h1, h2⟩, _⟩ := k.2 v rfl
      obtain ⟨i, hi, e⟩ := (hm v).mpr ⟨j, hj, h1⟩
      exact absurd (by rw [e]; exact h2) (h.1 rfl i hi)
  | some v =>
    obtain ⟨⟨j, hj, h1, h2⟩, h3⟩ := h.2 v rfl
    obtain ⟨i, hi, e⟩ := (hm v).mp ⟨j, hj, h1⟩
    cases p with
    | none => exact absurd (by rw [e]; exact h2) (k.1 rfl i hi)
    | some w =>
      obtain ⟨⟨j', hj', k1, k2⟩, k3⟩ := k.2 w rfl
      obtain ⟨i', hi', e'⟩ := (hm w).mpr ⟨j', hj', k1⟩
      have a1 := k3 i hi (by rw [e]; exact h2)
      have a2 := h3 i' hi' (by rw [e']; exact k2)
      rw [e] at a1
      rw [e'] at a2
      exact congrArg some (by omega)
theorem mn_n4 {v : Nat} (h : v < 46656) : ¬ nI v = -4 := by
  intro e
  have h2 : (nI v).toInt = (v : Int) := nI_toInt (by omega)
  rw [e, show (-4 : Int32).toInt = -4 by decide] at h2
  omega
section
variable {yc fo : Int32} {gn li mk pw al : Nat → Int32}
theorem yw_set_t {post : Int32 → Prop} {u : SY} {s : Nat} (hs : s < 64) (hp : post 1) : wpY_isSet post u (nI s) := by
  obtain ⟨yc, fo, gn, li, mk, pw, al⟩ := u
  exact br_f (nI_pos (by omega)) (br_f (nI_nlt (a := 63) (by omega) (by decide)) hp)
theorem yw_set_f {post : Int32 → Prop} {u : SY} {v : Int32} (hv : ∀ s, s < 64 → v ≠ nI s) (hp : post 0) : wpY_isSet post u v := by
  obtain ⟨yc, fo, gn, li, mk, pw, al⟩ := u
  refine br_c (fun _ => hp) (fun h0 => br_c (fun _ => hp) (fun h1 => ?_))
  obtain ⟨s, hs, rfl⟩ := nI_of2 (x := v) (M := 63) (n := 63) (by decide) h0 (Int32.not_lt.mp h1)
  exact absurd rfl (hv s (by omega))
theorem yl_fixes {post : Int32 → Prop} (hw : y_pw pw) {s g : Nat} (hs : s < 64) (hg : g < 46656) (h1 : qu_F s 6 g → post 1) (h0 : ¬ qu_F s 6 g → post 0) : ∀ d x n, x + d = 6 → d < n → (∀ j, j < x → s.testBit j = true → pe_ap g j = j) → wY_fixes_2 post (nI s) (nI g) yc fo gn li mk pw al n (nI x) := by
  intro d
  induction d with
  | zero =>
    intro x n hx hn hv
    obtain ⟨n, rfl⟩ : ∃ q, n = q + 1 := ⟨n - 1, by omega⟩
    have : x = 6 := by omega
    subst this
    exact br_t (by decide) (h1 hv)
  | succ d ih =>
    intro x n hx hn hv
    obtain ⟨n, rfl⟩ : ∃ q, n = q + 1 := ⟨n - 1, by omega⟩
    have h6 := pe_ap_lt g x
    refine br_f (nI_ge (b := 6) (by omega) (by decide)) (br_c (fun hb => ?_) (fun hb => ?_))
    · have hb' := (xb_bit1 (by omega) (by omega)).mp hb
      refine yw_carried hw hg (by omega) (pk_eq (pe_ap g x) x (fun e => nm_r (nI_1 x) (ih (x + 1) n (by omega) (by omega) ?_)) (fun e => h0 (fun k => e (k x (by omega) hb'))))
      intro j hj hb2
      rcases Nat.lt_or_ge j x with a | a
      · exact hv j a hb2
      · have : j = x := by omega
        subst this
        exact e
    · refine nm_r (nI_1 x) (ih (x + 1) n (by omega) (by omega) ?_)
      intro j hj hb2
      rcases Nat.lt_or_ge j x with a | a
      · exact hv j a hb2
      · have : j = x := by omega
        subst this
        exact absurd ((xb_bit1 (by omega) (by omega)).mpr hb2) hb
theorem yw_fixes {post : Int32 → Prop} (hw : y_pw pw) {s g : Nat} (hs : s < 64) (hg : g < 46656) (h1 : qu_F s 6 g → post 1) (h0 : ¬ qu_F s 6 g → post 0) : wpY_fixes post (yc, fo, gn, li, mk, pw, al) (nI s) (nI g) :=
  ⟨7, yl_fixes hw hs hg h1 h0 6 0 7 rfl (by omega) (fun _ h => absurd h (by omega))⟩
theorem yl_fix {post : Int32 → Prop} (hw : y_pw pw) {ls : Nat → Nat} {m : Nat} (I : y_iv fo li mk ls m) {s : Nat} (hs : s < 64) (hp : post (nI (ct (qu_F s 6) ls m))) : ∀ d k n, k + d = m → d < n → wY_fixing_14 post (nI s) yc fo gn li mk pw al n (nI (ct (qu_F s 6) ls k)) (nI k) := by
  obtain ⟨rfl, h720, hli, hinj, hP, hm⟩ := I
  intro d
  induction d with
  | zero =>
    intro k n hk hn
    obtain ⟨n, rfl⟩ : ∃ q, n = q + 1 := ⟨n - 1, by omega⟩
    have : k = m := by omega
    subst this
    exact br_t (nI_le (by omega) (by omega)) hp
  | succ d ih =>
    intro k n hk hn
    obtain ⟨n, rfl⟩ : ∃ q, n = q + 1 := ⟨n - 1, by omega⟩
    refine br_f (nI_ge (by omega) (by omega)) ⟨vp_in_nI (by omega) (by decide), ?_⟩
    rw [nI_clamp (n := k) (by omega), hli k (by omega)]
    refine yw_fixes hw hs (hP k (by omega)).1 (fun hq => ?_) (fun hq => ?_)
    · refine br_f (by decide) (nm_r (nI_1 _) (nm_r (nI_1 k) ?_))
      rw [← ct_y hq]
      exact ih (k + 1) n (by omega) (by omega)
    · refine br_t rfl (nm_r (nI_1 k) ?_)
      rw [← ct_n hq]
      exact ih (k + 1) n (by omega) (by omega)
theorem yl_keep {post : Int32 → Prop} (hw : y_pw pw) {ls : Nat → Nat} {m : Nat} (I : y_iv fo li mk ls m) {s : Nat} (hs : s < 64) (hp : post (nI (ct (fun g => im s g = s) ls m))) : ∀ d k n, k + d = m → d < n → wY_keeping_14 post (nI s) yc fo gn li mk pw al n (nI (ct (fun g => im s g = s) ls k)) (nI k) := by
  obtain ⟨rfl, h720, hli, hinj, hP, hm⟩ := I
  intro d
  induction d with
  | zero =>
    intro k n hk hn
    obtain ⟨n, rfl⟩ : ∃ q, n = q + 1 := ⟨n - 1, by omega⟩
    have : k = m := by omega
    subst this
    exact br_t (nI_le (by omega) (by omega)) hp
  | succ d ih =>
    intro k n hk hn
    obtain ⟨n, rfl⟩ : ∃ q, n = q + 1 := ⟨n - 1, by omega⟩
    refine br_f (nI_ge (by omega) (by omega)) ⟨vp_in_nI (by omega) (by decide), ?_⟩
    rw [nI_clamp (n := k) (by omega), hli k (by omega)]
    have h64 : im s (ls k) < 64 := im_lt _ _ _
    refine yw_im hw hs (hP k (by omega)).1 (pk_eq (im s (ls k)) s (fun hq => ?_) (fun hq => ?_))
    · refine nm_r (nI_1 _) (nm_r (nI_1 k) ?_)
      rw [← ct_y (Q := fun g => im s g = s) hq]
      exact ih (k + 1) n (by omega) (by omega)
    · refine nm_r (nI_1 k) ?_
      rw [← ct_n (Q := fun g => im s g = s) hq]
      exact ih (k + 1) n (by omega) (by omega)
theorem yl_comm {post : Int32 → Prop} (hw : y_pw pw) {ls : Nat → Nat} {m : Nat} (I : y_iv fo li mk ls m) {w : Nat} (hww : w < 46656) (hp : post (nI (ct (fun g => pe_mu w g = pe_mu g w) ls m))) : ∀ d k n, k + d = m → d < n → wY_commuting_14 post (nI w) yc fo gn li mk pw al n (nI (ct (fun g => pe_mu w g = pe_mu g w) ls k)) (nI k) := by
  obtain ⟨rfl, h720, hli, hinj, hP, hm⟩ := I
  intro d
  induction d with
  | zero =>
    intro k n hk hn
    obtain ⟨n, rfl⟩ : ∃ q, n = q + 1 := ⟨n - 1, by omega⟩
    have : k = m := by omega
    subst this
    exact br_t (nI_le (by omega) (by omega)) hp
  | succ d ih =>
    intro k n hk hn
    obtain ⟨n, rfl⟩ : ∃ q, n = q + 1 := ⟨n - 1, by omega⟩
    have hin : vp_in (nI k) 720 := vp_in_nI (by omega) (by decide)
    refine br_f (nI_ge (by omega) (by omega)) ⟨hin, ?_⟩
    rw [nI_clamp (n := k) (by omega), hli k (by omega)]
    have b1 := pe_mu_lt w (ls k)
    have b2 := pe_mu_lt (ls k) w
    refine yw_times hw hww (hP k (by omega)).1 ⟨hin, yw_times hw (hP k (by omega)).1 hww (pk_eq (pe_mu w (ls k)) (pe_mu (ls k) w) (fun hq => ?_) (fun hq => ?_))⟩
    · refine nm_r (nI_1 _) (nm_r (nI_1 k) ?_)
      rw [← ct_y (Q := fun g => pe_mu w g = pe_mu g w) hq]
      exact ih (k + 1) n (by omega) (by omega)
    · refine nm_r (nI_1 k) ?_
      rw [← ct_n (Q := fun g => pe_mu w g = pe_mu g w) hq]
      exact ih (k + 1) n (by omega) (by omega)
theorem yl_alike {post : Int32 → Prop} (hw : y_pw pw) {ls : Nat → Nat} {m : Nat} (I : y_iv fo li mk ls m) {w o : Nat} (hww : w < 46656) (hoo : o < 46656) (h1 : (∃ j, j < m ∧ pe_mu w (ls j) = pe_mu (ls j) o) → post 1) (h0 : (¬ ∃ j, j < m ∧ pe_mu w (ls j) = pe_mu (ls j) o) → post 0) : ∀ d k n, k + d = m → d < n → (∀ j, j < k → ¬ pe_mu w (ls j) = pe_mu (ls j) o) → wY_alike_20 post (nI w) (nI o) yc fo gn li mk pw al n (nI k) := by
  obtain ⟨rfl, h720, hli, hinj, hP, hm⟩ := I
  intro d
  induction d with
  | zero =>
    intro k n hk hn hv
    obtain ⟨n, rfl⟩ : ∃ q, n = q + 1 := ⟨n - 1, by omega⟩
    have : k = m := by omega
    subst this
    exact br_t (nI_le (by omega) (by omega)) (h0 (fun ⟨j, hj, e⟩ => hv j hj e))
  | succ d ih =>
    intro k n hk hn hv
    obtain ⟨n, rfl⟩ : ∃ q, n = q + 1 := ⟨n - 1, by omega⟩
    have hin : vp_in (nI k) 720 := vp_in_nI (by omega) (by decide)
    refine br_f (nI_ge (by omega) (by omega)) ⟨hin, ?_⟩
    rw [nI_clamp (n := k) (by omega), hli k (by omega)]
    have b1 := pe_mu_lt w (ls k)
    have b2 := pe_mu_lt (ls k) o
    refine yw_times hw hww (hP k (by omega)).1 ⟨hin, yw_times hw (hP k (by omega)).1 hoo (pk_eq (pe_mu w (ls k)) (pe_mu (ls k) o) (fun hq => h1 ⟨k, by omega, hq⟩) (fun hq => nm_r (nI_1 k) (ih (k + 1) n (by omega) (by omega) ?_)))⟩
    intro j hj
    rcases Nat.lt_or_ge j k with a | a
    · exact hv j a
    · have : j = k := by omega
      subst this
      exact hq
theorem yl_cen {post : Int32 → Prop} (hw : y_pw pw) {c : Nat} (hc : c ≤ 5) {gs : Nat → Nat} (hgs : ∀ k, k < c → pe_P (gs k)) (hgn : ∀ k, k < c → gn k = nI (gs k)) {g : Nat} (hg : g < 46656) (h1 : cw c gs g → post 1) (h0 : ¬ cw c gs g → post 0) : ∀ d k n, k + d = c → d < n → (∀ k', k' < k → pe_mu g (gs k') = pe_mu (gs k') g) → wY_isCentral_2 post (nI g) (nI c) fo gn li mk pw al n (nI k) := by
  intro d
  induction d with
  | zero =>
    intro k n hk hn hv
    obtain ⟨n, rfl⟩ : ∃ q, n = q + 1 := ⟨n - 1, by omega⟩
    have : k = c := by omega
    subst this
    exact br_t (nI_le (by omega) (by omega)) (h1 hv)
  | succ d ih =>
    intro k n hk hn hv
    obtain ⟨n, rfl⟩ : ∃ q, n = q + 1 := ⟨n - 1, by omega⟩
    have hin : vp_in (nI k) 5 := vp_in_nI (by omega) (by decide)
    have hk1 := (hgs k (by omega)).1
    refine br_f (nI_ge (by omega) (by omega)) ⟨hin, ?_⟩
    rw [nI_clamp (n := k) (by omega), hgn k (by omega)]
    have b1 := pe_mu_lt g (gs k)
    have b2 := pe_mu_lt (gs k) g
    refine yw_times hw hg hk1 ⟨hin, yw_times hw hk1 hg (pk_eq (pe_mu g (gs k)) (pe_mu (gs k) g) (fun hq => nm_r (nI_1 k) (ih (k + 1) n (by omega) (by omega) ?_)) (fun hq => h0 (fun z => hq (z k (by omega)))))⟩
    intro j hj
    rcases Nat.lt_or_ge j k with a | a
    · exact hv j a
    · have : j = k := by omega
      subst this
      exact hq
theorem yw_cen {post : Int32 → Prop} (hw : y_pw pw) {c : Nat} (hc : c ≤ 5) {gs : Nat → Nat} (hgs : ∀ k, k < c → pe_P (gs k)) (hgn : ∀ k, k < c → gn k = nI (gs k)) {g : Nat} (hg : g < 46656) (h1 : cw c gs g → post 1) (h0 : ¬ cw c gs g → post 0) : wpY_isCentral post (nI c, fo, gn, li, mk, pw, al) (nI g) :=
  ⟨c + 1, yl_cen hw hc hgs hgn hg h1 h0 c 0 (c + 1) (by omega) (by omega) (fun _ h => absurd h (by omega))⟩
theorem yl_centre {post : Int32 → Prop} (hw : y_pw pw) {c : Nat} (hc : c ≤ 5) {gs : Nat → Nat} (hgs : ∀ k, k < c → pe_P (gs k)) (hgn : ∀ k, k < c → gn k = nI (gs k)) {ls : Nat → Nat} {m : Nat} (I : y_iv fo li mk ls m) (hp : post (nI (ct (cw c gs) ls m))) : ∀ d k n, k + d = m → d < n → wY_centre_4 post (nI c) fo gn li mk pw al n (nI (ct (cw c gs) ls k)) (nI k) := by
  obtain ⟨rfl, h720, hli, hinj, hP, hm⟩ := I
  intro d
  induction d with
  | zero =>
    intro k n hk hn
    obtain ⟨n, rfl⟩ : ∃ q, n = q + 1 := ⟨n - 1, by omega⟩
    have : k = m := by omega
    subst this
    exact br_t (nI_le (by omega) (by omega)) hp
  | succ d ih =>
    intro k n hk hn
    obtain ⟨n, rfl⟩ : ∃ q, n = q + 1 := ⟨n - 1, by omega⟩
    refine br_f (nI_ge (by omega) (by omega)) ⟨vp_in_nI (by omega) (by decide), ?_⟩
    rw [nI_clamp (n := k) (by omega), hli k (by omega)]
    refine yw_cen hw hc hgs hgn (hP k (by omega)).1 (fun hq => ?_) (fun hq => ?_)
    · refine br_f (by decide) (nm_r (nI_1 _) (nm_r (nI_1 k) ?_))
      rw [← ct_y hq]
      exact ih (k + 1) n (by omega) (by omega)
    · refine br_t rfl (nm_r (nI_1 k) ?_)
      rw [← ct_n hq]
      exact ih (k + 1) n (by omega) (by omega)
theorem yw_centre {post : Int32 → Prop} (hw : y_pw pw) {c : Nat} (hc : c ≤ 5) {gs : Nat → Nat} (hgs : ∀ k, k < c → pe_P (gs k)) (hgn : ∀ k, k < c → gn k = nI (gs k)) {ls : Nat → Nat} {m : Nat} (I : y_iv fo li mk ls m) (hp : post (nI (ct (cw c gs) ls m))) : wpY_centre post (nI c, fo, gn, li, mk, pw, al) :=
  ⟨m + 1, yl_centre hw hc hgs hgn I hp m 0 (m + 1) (by omega) (by omega)⟩
theorem yl_carrier {post : Int32 → Prop} (hw : y_pw pw) {ls : Nat → Nat} {m : Nat} (I : y_iv fo li mk ls m) {x y : Nat} (hx : x < 6) (hy : y < 6) (hp : ∀ o, mnS (fun g => pe_ap g x = y) ls m o → post (mnV o)) : ∀ d k n o, k + d = m → d < n → mnS (fun g => pe_ap g x = y) ls k o → wY_carrier_26 post (nI x) (nI y) yc fo gn li mk pw al n (mnV o) (nI k) := by
  obtain ⟨rfl, h720, hli, hinj, hP, hm⟩ := I
  intro d
  induction d with
  | zero =>
    intro k n o hk hn hS
    obtain ⟨n, rfl⟩ : ∃ q, n = q + 1 := ⟨n - 1, by omega⟩
    have : k = m := by omega
    subst this
    exact br_t (nI_le (by omega) (by omega)) (hp o hS)
  | succ d ih =>
    intro k n o hk hn hS
    obtain ⟨n, rfl⟩ : ∃ q, n = q + 1 := ⟨n - 1, by omega⟩
    have hin : vp_in (nI k) 720 := vp_in_nI (by omega) (by decide)
    have hk1 := (hP k (by omega)).1
    refine br_f (nI_ge (by omega) (by omega)) ⟨hin, ?_⟩
    rw [nI_clamp (n := k) (by omega), hli k (by omega)]
    have h6 := pe_ap_lt (ls k) x
    refine yw_carried hw hk1 hx (pk_eq (pe_ap (ls k) x) y (fun hq => ?_) (fun hq => nm_r (nI_1 k) (ih (k + 1) n o (by omega) (by omega) (mn_skip hS hq))))
    cases o with
    | none => exact br_t rfl ⟨hin, nm_e (nm_r (nI_1 k) (ih (k + 1) n (some (ls k)) (by omega) (by omega) (mn_first hS hq)))⟩
    | some v =>
      have hv : v < 46656 := by
        obtain ⟨⟨j, hj, e, _⟩, _⟩ := hS.2 v rfl
        rw [← e]
        exact (hP j (by omega)).1
      refine br_f (mn_n4 hv) ⟨hin, pk_le v (ls k) (fun hl => nm_r (nI_1 k) (ih (k + 1) n (some v) (by omega) (by omega) (mn_keep hS hl))) (fun hl => ⟨hin, nm_e (nm_r (nI_1 k) (ih (k + 1) n (some (ls k)) (by omega) (by omega) (mn_less hS hq hl)))⟩)⟩
theorem yl_nrm {post : Int32 → Prop} (hw : y_pw pw) {c : Nat} (hc : c ≤ 5) {gs : Nat → Nat} (hgs : ∀ k, k < c → pe_P (gs k)) (hgn : ∀ k, k < c → gn k = nI (gs k)) {G0 : Nat → Prop} {ls : Nat → Nat} {m : Nat} (L : y_lst G0 fo li mk ls m) {h : Nat} (hh : pe_P h) (h1 : nm G0 c gs h → post 1) (h0 : ¬ nm G0 c gs h → post 0) : ∀ d k n, k + d = c → d < n → (∀ k', k' < k → G0 (pe_mu (pe_mu (pe_iv h) (gs k')) h)) → wY_normalises_2 post (nI h) (nI c) fo gn li mk pw al n (nI k) := by
  intro d
  induction d with
  | zero =>
    intro k n hk hn hv
    obtain ⟨n, rfl⟩ : ∃ q, n = q + 1 := ⟨n - 1, by omega⟩
    have : k = c := by omega
    subst this
    exact br_t (nI_le (by omega) (by omega)) (h1 hv)
  | succ d ih =>
    intro k n hk hn hv
    obtain ⟨n, rfl⟩ : ∃ q, n = q + 1 := ⟨n - 1, by omega⟩
    have hk1 := (hgs k (by omega)).1
    have b1 := pe_mu_lt (pe_mu (pe_iv h) (gs k)) h
    have hmk := L.1.2.2.2.2.2 _ b1
    rw [← L.2] at hmk
    refine br_f (nI_ge (by omega) (by omega)) ⟨vp_in_nI (by omega) (by decide), ?_⟩
    rw [nI_clamp (n := k) (by omega), hgn k (by omega)]
    refine yw_conj hw hk1 hh (yw_marked b1 (fun hq => br_f (by decide) (nm_r (nI_1 k) (ih (k + 1) n (by omega) (by omega) ?_))) (fun hq => br_t rfl (h0 (fun z => ?_))))
    · intro j hj
      rcases Nat.lt_or_ge j k with a | a
      · exact hv j a
      · have : j = k := by omega
        subst this
        exact hmk.mp hq
    · have := hmk.mpr (z k (by omega))
      rw [hq] at this
      cases this
/-- all permutations in an array -/
def y_all (al : Nat → Int32) (as : Nat → Nat) : Prop := (∀ i, i < 720 → al i = nI (as i)) ∧ (∀ j k, j < 720 → k < 720 → as j = as k → j = k) ∧ ∀ g, pe_P g ↔ y_in as 720 g
theorem yl_nmr {post : Int32 → Prop} (hw : y_pw pw) {c : Nat} (hc : c ≤ 5) {gs : Nat → Nat} (hgs : ∀ k, k < c → pe_P (gs k)) (hgn : ∀ k, k < c → gn k = nI (gs k)) {G0 : Nat → Prop} {ls : Nat → Nat} {m : Nat} (L : y_lst G0 fo li mk ls m) {as : Nat → Nat} (A : y_all al as) (hp : post (nI (ct (nm G0 c gs) as 720))) : ∀ d k n, k + d = 720 → d < n → wY_normaliser_4 post (nI c) fo gn li mk pw al n (nI (ct (nm G0 c gs) as k)) (nI k) := by
  intro d
  induction d with
  | zero =>
    intro k n hk hn
    obtain ⟨n, rfl⟩ : ∃ q, n = q + 1 := ⟨n - 1, by omega⟩
    have : k = 720 := by omega
    subst this
    exact br_t (by decide) hp
  | succ d ih =>
    intro k n hk hn
    obtain ⟨n, rfl⟩ : ∃ q, n = q + 1 := ⟨n - 1, by omega⟩
    have hP := (A.2.2 (as k)).mpr ⟨k, by omega, rfl⟩
    refine br_f (nI_ge (b := 720) (by omega) (by decide)) ⟨vp_in_nI (by omega) (by decide), ?_⟩
    rw [nI_clamp (n := k) (by omega), A.1 k (by omega)]
    refine ⟨c + 1, yl_nrm hw hc hgs hgn L hP (fun hq => ?_) (fun hq => ?_) c 0 (c + 1) (by omega) (by omega) (fun _ h => absurd h (by omega))⟩
    · refine br_f (by decide) (nm_r (nI_1 _) (nm_r (nI_1 k) ?_))
      rw [← ct_y hq]
      exact ih (k + 1) n (by omega) (by omega)
    · refine br_t rfl (nm_r (nI_1 k) ?_)
      rw [← ct_n hq]
      exact ih (k + 1) n (by omega) (by omega)
end
end
section
/-! Y's images: a set of masks in a long -/
theorem i6_s : ∀ n, n < 64 → (((nI n).toInt64 &&& 63).toBitVec.smod 64).toNat = n := by decide +kernel
theorem i6_1 : ∀ n, n < 64 → ((1 : Int64) <<< ((nI n).toInt64 &&& 63)).toBitVec = BitVec.twoPow 64 n := by decide +kernel
theorem i6_bit (x : Int64) {k : Nat} (hk : k < 64) : ((x >>> ((nI k).toInt64 &&& 63)) &&& 1) = 1 ↔ x.toBitVec.getLsbD k = true := by
  rw [← Int64.toBitVec_inj, Int64.toBitVec_and, Int64.toBitVec_shiftRight]
  show (x.toBitVec.sshiftRight (((nI k).toInt64 &&& 63).toBitVec.smod 64).toNat &&& 1#64) = 1#64 ↔ _
  rw [i6_s k hk, BitVec.and_one_eq_setWidth_ofBool_getLsbD, BitVec.getLsbD_sshiftRight]
  simp only [Nat.add_zero, hk]
  cases h : x.toBitVec.getLsbD k
  · simp
  · simp
theorem i6_set (x : Int64) {k i : Nat} (hk : k < 64) : (x ||| ((1 : Int64) <<< ((nI k).toInt64 &&& 63))).toBitVec.getLsbD i = true ↔ x.toBitVec.getLsbD i = true ∨ i = k := by
  rw [Int64.toBitVec_or, BitVec.getLsbD_or, i6_1 k hk, BitVec.getLsbD_twoPow, Bool.or_eq_true, Bool.and_eq_true, decide_eq_true_eq, decide_eq_true_eq]
  constructor
  · rintro (h | h)
    · exact Or.inl h
    · exact Or.inr h.2.symm
  · rintro (h | h)
    · exact Or.inl h
    · exact Or.inr ⟨hk, h.symm⟩
/-- the long holds the masks of the first k members -/
def i6_M (s : Nat) (ls : Nat → Nat) (k : Nat) (x : Int64) : Prop := ∀ v, v < 64 → (x.toBitVec.getLsbD v = true ↔ ∃ j, j < k ∧ im s (ls j) = v)
section
variable {yc fo : Int32} {gn li mk pw al : Nat → Int32}
theorem yl_i57 {post : Int32 → Prop} {s : Nat} {ls : Nat → Nat} {m : Nat} {x : Int64} (hM : i6_M s ls m x) (hp : post (nI (ct (fun v => ∃ j, j < m ∧ im s (ls j) = v) (fun v => v) 64))) : ∀ d k n, k + d = 64 → d < n → wY_images_57 post x yc fo gn li mk pw al n (nI (ct (fun v => ∃ j, j < m ∧ im s (ls j) = v) (fun v => v) k)) (nI k) := by
  intro d
  induction d with
  | zero =>
    intro k n hk hn
    obtain ⟨n, rfl⟩ : ∃ q, n = q + 1 := ⟨n - 1, by omega⟩
    have : k = 64 := by omega
    subst this
    exact br_t (by decide) hp
  | succ d ih =>
    intro k n hk hn
    obtain ⟨n, rfl⟩ : ∃ q, n = q + 1 := ⟨n - 1, by omega⟩
    have hb := i6_bit x (k := k) (by omega)
    rw [hM k (by omega)] at hb
    refine br_f (nI_ge (b := 64) (by omega) (by decide)) (br_c (fun h => nm_r (nI_1 _) (nm_r (nI_1 k) ?_)) (fun h => nm_r (nI_1 k) ?_))
    · rw [← ct_y (Q := fun v => ∃ j, j < m ∧ im s (ls j) = v) (ls := fun v => v) (n := k) (hb.mp h)]
      exact ih (k + 1) n (by omega) (by omega)
    · rw [← ct_n (Q := fun v => ∃ j, j < m ∧ im s (ls j) = v) (ls := fun v => v) (n := k) (fun z => h (hb.mpr z))]
      exact ih (k + 1) n (by omega) (by omega)
theorem yl_i15 {post : Int32 → Prop} (hw : y_pw pw) {ls : Nat → Nat} {m : Nat} (I : y_iv fo li mk ls m) {s : Nat} (hs : s < 64) (hp : post (nI (ct (fun v => ∃ j, j < m ∧ im s (ls j) = v) (fun v => v) 64))) : ∀ d k n x, k + d = m → d < n → i6_M s ls k x → wY_images_15 post (nI s) yc fo gn li mk pw al n x (nI k) := by
  obtain ⟨rfl, h720, hli, hinj, hP, hm⟩ := I
  intro d
  induction d with
  | zero =>
    intro k n x hk hn hM
    obtain ⟨n, rfl⟩ : ∃ q, n = q + 1 := ⟨n - 1, by omega⟩
    have : k = m := by omega
    subst this
    exact br_t (nI_le (by omega) (by omega)) ⟨65, yl_i57 hM hp 64 0 65 rfl (by omega)⟩
  | succ d ih =>
    intro k n x hk hn hM
    obtain ⟨n, rfl⟩ : ∃ q, n = q + 1 := ⟨n - 1, by omega⟩
    refine br_f (nI_ge (by omega) (by omega)) ⟨vp_in_nI (by omega) (by decide), ?_⟩
    rw [nI_clamp (n := k) (by omega), hli k (by omega)]
    have h64 : im s (ls k) < 64 := im_lt _ _ _
    refine yw_im hw hs (hP k (by omega)).1 (nm_e (nm_r (nI_1 k) (ih (k + 1) n _ (by omega) (by omega) ?_)))
    intro v hv
    rw [i6_set x h64, hM v hv]
    constructor
    · rintro (⟨j, hj, e⟩ | e)
      · exact ⟨j, by omega, e⟩
      · exact ⟨k, by omega, e.symm⟩
    · rintro ⟨j, hj, e⟩
      rcases Nat.lt_or_ge j k with a | a
      · exact Or.inl ⟨j, a, e⟩
      · have : j = k := by omega
        subst this
        exact Or.inr e.symm
theorem yw_images {post : Int32 → Prop} (hw : y_pw pw) {ls : Nat → Nat} {m : Nat} (I : y_iv fo li mk ls m) {s : Nat} (hs : s < 64) (hp : post (nI (ct (fun v => ∃ j, j < m ∧ im s (ls j) = v) (fun v => v) 64))) : wpY_images post (yc, fo, gn, li, mk, pw, al) (nI s) := by
  unfold wpY_images
  dsimp only
  refine yw_set_t hs (br_f (by decide) ⟨m + 1, yl_i15 hw I hs hp m 0 (m + 1) 0 (by omega) (by omega) ?_⟩)
  intro v _
  constructor
  · intro h
    have : (0 : Int64).toBitVec.getLsbD v = false := BitVec.getLsbD_zero
    rw [this] at h
    cases h
  · rintro ⟨j, hj, _⟩
    omega
end
end
section
/-! X: centre, commutative, carrier, normaliser -/
section
variable {co bu sc wa ot ws : Int32} {ge ca cb st sl tr sf : Nat → Int32}
theorem xw_set_t {post : Int32 → Prop} {u : SX} {s : Nat} (hs : s < 64) (hp : post 0) : wpX_badSet post u (nI s) := by
  obtain ⟨co, bu, sc, wa, ot, ws, ge, ca, cb, st, sl, tr, sf⟩ := u
  exact br_f (nI_pos (by omega)) (br_t (nI_le (b := 63) (by omega) (by decide)) hp)
theorem xw_set_f {post : Int32 → Prop} {u : SX} {v : Int32} (hv : ∀ s, s < 64 → v ≠ nI s) (hp : post 1) : wpX_badSet post u v := by
  obtain ⟨co, bu, sc, wa, ot, ws, ge, ca, cb, st, sl, tr, sf⟩ := u
  refine br_c (fun _ => hp) (fun h0 => br_c (fun h1 => ?_) (fun _ => hp))
  obtain ⟨s, hs, rfl⟩ := nI_of2 (x := v) (M := 63) (n := 63) (by decide) h0 h1
  exact absurd rfl (hv s (by omega))
theorem xl_cw {post : Int32 → Prop} {c : Nat} (hc : c ≤ 5) {gs : Nat → Nat} (hge : ∀ k, k < c → ge k = ex (gs k)) {g : Nat} (h1 : cw c gs g → post 1) (h0 : ¬ cw c gs g → post 0) : ∀ d k n, k + d = c → d < n → (∀ k', k' < k → pe_mu g (gs k') = pe_mu (gs k') g) → wX_commutesWithAll_2 post (ex g) (nI c) bu sc wa ot ws ge ca cb st sl tr sf n (nI k) := by
  intro d
  induction d with
  | zero =>
    intro k n hk hn hv
    obtain ⟨n, rfl⟩ : ∃ q, n = q + 1 := ⟨n - 1, by omega⟩
    have : k = c := by omega
    subst this
    exact br_t (nI_le (by omega) (by omega)) (h1 hv)
  | succ d ih =>
    intro k n hk hn hv
    obtain ⟨n, rfl⟩ : ∃ q, n = q + 1 := ⟨n - 1, by omega⟩
    have hin : vp_in (nI k) 5 := vp_in_nI (by omega) (by decide)
    refine br_f (nI_ge (by omega) (by omega)) ⟨hin, ?_⟩
    rw [nI_clamp (n := k) (by omega), hge k (by omega)]
    refine xw_times ⟨hin, xw_times (br_c (fun hq => nm_r (nI_1 k) (ih (k + 1) n (by omega) (by omega) ?_)) (fun hq => h0 (fun z => hq (congrArg ex (z k (by omega))))))⟩
    intro j hj
    rcases Nat.lt_or_ge j k with a | a
    · exact hv j a
    · have : j = k := by omega
      subst this
      exact ex_inj (pe_mu_lt _ _) (pe_mu_lt _ _) hq
theorem xw_cw {post : Int32 → Prop} {c : Nat} (hc : c ≤ 5) {gs : Nat → Nat} (hge : ∀ k, k < c → ge k = ex (gs k)) {g : Nat} (h1 : cw c gs g → post 1) (h0 : ¬ cw c gs g → post 0) : wpX_commutesWithAll post (nI c, bu, sc, wa, ot, ws, ge, ca, cb, st, sl, tr, sf) (ex g) :=
  ⟨c + 1, xl_cw hc hge h1 h0 c 0 (c + 1) (by omega) (by omega) (fun _ h => absurd h (by omega))⟩
theorem xl_centre {post : Int32 → SX → Prop} {c : Nat} (hc : c ≤ 5) {gs : Nat → Nat} (hge : ∀ k, k < c → ge k = ex (gs k)) {ch : Nat → Nat → Option Nat} (ok : cn_ok ch) (hx : x_ch ch ca cb) (hp : post (nI (ct (cw c gs) (el_el ch 6 0 pe_id) (el_N ch 6 0))) (nI c, bu, sc, wa, ot, ws, ge, ca, cb, st, sl, tr, sf)) : ∀ d k n, k + d = el_N ch 6 0 → d < n → wX_centre_9 post (nI (el_N ch 6 0)) (nI c) bu sc wa ot ws ge ca cb st sl tr sf n (nI (ct (cw c gs) (el_el ch 6 0 pe_id) k)) (nI k) := by
  have h720 := xe_le ok
  intro d
  induction d with
  | zero =>
    intro k n hk hn
    obtain ⟨n, rfl⟩ : ∃ q, n = q + 1 := ⟨n - 1, by omega⟩
    have : k = el_N ch 6 0 := by omega
    subst this
    exact br_t (nI_le (by omega) (by omega)) hp
  | succ d ih =>
    intro k n hk hn
    obtain ⟨n, rfl⟩ : ∃ q, n = q + 1 := ⟨n - 1, by omega⟩
    refine br_f (nI_ge (by omega) (by omega)) (br_f (nI_ge (b := 720) (by omega) (by decide)) (xw_elt ok hx (by omega) (xw_cw hc hge (fun hq => ?_) (fun hq => ?_))))
    · refine br_f (by decide) (nm_r (nI_1 _) (nm_r (nI_1 k) ?_))
      rw [← ct_y hq]
      exact ih (k + 1) n (by omega) (by omega)
    · refine br_t rfl (nm_r (nI_1 k) ?_)
      rw [← ct_n hq]
      exact ih (k + 1) n (by omega) (by omega)
theorem xl_commu {post : Int32 → Prop} {c : Nat} (hc : c ≤ 5) {gs : Nat → Nat} (hge : ∀ k, k < c → ge k = ex (gs k)) (h1 : (∀ k, k < c → cw c gs (gs k)) → post 1) (h0 : (¬ ∀ k, k < c → cw c gs (gs k)) → post 0) : ∀ d k n, k + d = c → d < n → (∀ k', k' < k → cw c gs (gs k')) → wX_commutative_2 post (nI c) bu sc wa ot ws ge ca cb st sl tr sf n (nI k) := by
  intro d
  induction d with
  | zero =>
    intro k n hk hn hv
    obtain ⟨n, rfl⟩ : ∃ q, n = q + 1 := ⟨n - 1, by omega⟩
    have : k = c := by omega
    subst this
    exact br_t (nI_le (by omega) (by omega)) (h1 hv)
  | succ d ih =>
    intro k n hk hn hv
    obtain ⟨n, rfl⟩ : ∃ q, n = q + 1 := ⟨n - 1, by omega⟩
    refine br_f (nI_ge (by omega) (by omega)) ⟨vp_in_nI (by omega) (by decide), ?_⟩
    rw [nI_clamp (n := k) (by omega), hge k (by omega)]
    refine xw_cw hc hge (fun hq => br_f (by decide) (nm_r (nI_1 k) (ih (k + 1) n (by omega) (by omega) ?_))) (fun hq => br_t rfl (h0 (fun z => hq (z k (by omega)))))
    intro j hj
    rcases Nat.lt_or_ge j k with a | a
    · exact hv j a
    · have : j = k := by omega
      subst this
      exact hq
theorem xl_carrier {post : Int32 → SX → Prop} {ch : Nat → Nat → Option Nat} (ok : cn_ok ch) (hx : x_ch ch ca cb) {x y : Nat} (hx6 : x < 6) (hy : y < 6) (hp : ∀ o, mnS (fun g => pe_ap g x = y) (el_el ch 6 0 pe_id) (el_N ch 6 0) o → post (mnV o) (co, bu, sc, wa, ot, ws, ge, ca, cb, st, sl, tr, sf)) : ∀ d k n o, k + d = el_N ch 6 0 → d < n → mnS (fun g => pe_ap g x = y) (el_el ch 6 0 pe_id) k o → wX_carrier_34 post (nI x) (nI y) (nI (el_N ch 6 0)) co bu sc wa ot ws ge ca cb st sl tr sf n (mnV o) (nI k) := by
  have h720 := xe_le ok
  have hP : ∀ j, j < el_N ch 6 0 → pe_P (el_el ch 6 0 pe_id j) := fun j hj => ((xe_mem ok _).mp ⟨j, hj, rfl⟩).1
  intro d
  induction d with
  | zero =>
    intro k n o hk hn hS
    obtain ⟨n, rfl⟩ : ∃ q, n = q + 1 := ⟨n - 1, by omega⟩
    have : k = el_N ch 6 0 := by omega
    subst this
    exact br_t (nI_le (by omega) (by omega)) (hp o hS)
  | succ d ih =>
    intro k n o hk hn hS
    obtain ⟨n, rfl⟩ : ∃ q, n = q + 1 := ⟨n - 1, by omega⟩
    have hk1 := (hP k (by omega)).1
    have h6 := pe_ap_lt (el_el ch 6 0 pe_id k) x
    refine br_f (nI_ge (by omega) (by omega)) (br_f (nI_ge (b := 720) (by omega) (by decide)) (xw_elt ok hx (by omega) (xw_digit hx6 (pk_eq (pe_ap (el_el ch 6 0 pe_id k) x) y (fun hq => xw_to hk1 ?_) (fun hq => nm_r (nI_1 k) (ih (k + 1) n o (by omega) (by omega) (mn_skip hS hq)))))))
    cases o with
    | none => exact br_t (show (-4 : Int32) < 0 by decide) (nm_r (nI_1 k) (ih (k + 1) n (some _) (by omega) (by omega) (mn_first hS hq)))
    | some v =>
      have hv : v < 46656 := by
        obtain ⟨⟨j, hj, e, _⟩, _⟩ := hS.2 v rfl
        rw [← e]
        exact (hP j (by omega)).1
      exact br_f (nI_pos (n := v) (by omega)) (pk_le v (el_el ch 6 0 pe_id k) (fun hl => nm_r (nI_1 k) (ih (k + 1) n (some v) (by omega) (by omega) (mn_keep hS hl))) (fun hl => nm_r (nI_1 k) (ih (k + 1) n (some _) (by omega) (by omega) (mn_less hS hq hl))))
theorem xl_cg {post : Int32 → Prop} {c : Nat} (hc : c ≤ 5) {gs : Nat → Nat} (hgs : ∀ k, k < c → pe_P (gs k)) (hge : ∀ k, k < c → ge k = ex (gs k)) {G0 : Nat → Prop} {ch : Nat → Nat → Option Nat} (V : x_Vc G0 ch ca cb) {h : Nat} (hh : pe_P h) (h1 : nm G0 c gs h → post 1) (h0 : ¬ nm G0 c gs h → post 0) : ∀ d k n, k + d = c → d < n → (∀ k', k' < k → G0 (pe_mu (pe_mu (pe_iv h) (gs k')) h)) → wX_carriesGroup_2 post (ex h) (nI c) bu sc wa ot ws ge ca cb st sl tr sf n (nI k) := by
  intro d
  induction d with
  | zero =>
    intro k n hk hn hv
    obtain ⟨n, rfl⟩ : ∃ q, n = q + 1 := ⟨n - 1, by omega⟩
    have : k = c := by omega
    subst this
    exact br_t (nI_le (by omega) (by omega)) (h1 hv)
  | succ d ih =>
    intro k n hk hn hv
    obtain ⟨n, rfl⟩ : ∃ q, n = q + 1 := ⟨n - 1, by omega⟩
    have hcp : pe_P (pe_mu (pe_mu (pe_iv h) (gs k)) h) := pe_mu_P (pe_mu_P (pe_iv_P hh) (hgs k (by omega))) hh
    have hiff := V.2.2 _ hcp
    have hres := (cn_res V.1 6 0 rfl _ hcp (fun _ h => absurd h (by omega))).1
    refine br_f (nI_ge (by omega) (by omega)) ⟨vp_in_nI (by omega) (by decide), ?_⟩
    rw [nI_clamp (n := k) (by omega), hge k (by omega)]
    refine xw_conj hh (xw_sift V.2.1 (br_c (fun hq => nm_r (nI_1 k) (ih (k + 1) n (by omega) (by omega) ?_)) (fun hq => h0 (fun z => hq ?_))))
    · rw [← ex_id] at hq
      have e := ex_inj hres.1 (by decide) hq
      intro j hj
      rcases Nat.lt_or_ge j k with a | a
      · exact hv j a
      · have : j = k := by omega
        subst this
        exact hiff.mp e
    · rw [hiff.mpr (z k (by omega)), ex_id]
end
/-! the n-th permutation -/
theorem np_w0 {W : Nat} : nI W = 0 ↔ W % 4294967296 = 0 := by
  rw [← Int32.toBitVec_inj]
  show BitVec.ofNat 32 W = BitVec.ofNat 32 0 ↔ _
  rw [← BitVec.toNat_inj, BitVec.toNat_ofNat, BitVec.toNat_ofNat]
theorem np_wr (a : Nat) : nI (a + 4294967296) = nI a := by
  rw [← nI_add, show nI 4294967296 = 0 by decide, Int32.add_zero]
theorem np_in_lt (L : Nat) : ∀ d W y k, k + d ≤ 6 → y < 6 → np_in L d W y k < 6 := by
  intro d
  induction d with
  | zero => intro W y k _ hy; exact hy
  | succ d ih =>
    intro W y k hk hy
    show (if L.testBit k = true then np_in L d (W - 1) (if W = 4294967296 then k else y) (k + 1) else np_in L d W y (k + 1)) < 6
    split
    · apply ih _ _ _ (by omega)
      split <;> omega
    · exact ih _ _ _ (by omega) hy
section
variable {co bu sc wa ot ws : Int32} {ge ca cb st sl tr sf : Nat → Int32}
theorem xl_n44 {post : Int32 → Prop} {J : Int32 → Int32 → Int32 → Int32 → Prop} {o L x : Nat} {x4 : Int32} (hL : L < 64) (hx : x < 6) {W0 : Nat}
    (K : J (nI (o ||| (np_in L 6 W0 0 0 <<< (3 * x)))) (nI (L &&& ((1 <<< np_in L 6 W0 0 0) ^^^ 4294967295))) x4 (nI (x + 1))) :
    ∀ d k n W y, k + d = 6 → d < n → 4294967296 ≤ W + k → W < 4294967296 + 6 → y < 6 → np_in L d W y k = np_in L 6 W0 0 0 → wX_nthPermutation_44 post J (nI o) (nI L) x4 (nI x) co bu sc wa ot ws ge ca cb st sl tr sf n (nI W) (nI y) (nI k) := by
  intro d
  induction d with
  | zero =>
    intro k n W y hk hn h1 h2 hy e
    obtain ⟨n, rfl⟩ : ∃ q, n = q + 1 := ⟨n - 1, by omega⟩
    have : k = 6 := by omega
    subst this
    have e' : y = np_in L 6 W0 0 0 := e
    rw [← e'] at K
    refine br_t (by decide) (nm_r ?_ (nm_r ?_ (nm_r (nI_1 x) K)))
    · rw [xb_1shl (by omega), show (-1 : Int32) = nI 4294967295 by decide, nx_xor, nx_and]
    · have hb : 2 ^ (3 * x) ≤ 2 ^ 15 := Nat.pow_le_pow_right (by decide) (by omega)
      have hm : y * 2 ^ (3 * x) ≤ 5 * 2 ^ 15 := Nat.mul_le_mul (by omega) hb
      rw [xb_3, xb_shl (by omega) (by omega), xb_or]
  | succ d ih =>
    intro k n W y hk hn h1 h2 hy e
    obtain ⟨n, rfl⟩ : ∃ q, n = q + 1 := ⟨n - 1, by omega⟩
    have e' : (if L.testBit k = true then np_in L d (W - 1) (if W = 4294967296 then k else y) (k + 1) else np_in L d W y (k + 1)) = np_in L 6 W0 0 0 := e
    refine br_f (nI_ge (b := 6) (by omega) (by decide)) ?_
    by_cases hb : L.testBit k = true
    · rw [if_pos hb] at e'
      have em : nI W + (-1) = nI (W - 1) := by
        have := pk_m1 (W - 1)
        rwa [show W - 1 + 1 = W by omega] at this
      refine br_t ((xb_bit1 (by omega) (by omega)).mpr hb) ?_
      by_cases hw : W = 4294967296
      · rw [if_pos hw] at e'
        exact br_t (np_w0.mpr (by omega)) (nm_r em (nm_r (nI_1 k) (ih (k + 1) n (W - 1) k (by omega) (by omega) (by omega) (by omega) (by omega) e')))
      · rw [if_neg hw] at e'
        exact br_f (fun z => hw (by have := np_w0.mp z; omega)) (nm_r em (nm_r (nI_1 k) (ih (k + 1) n (W - 1) y (by omega) (by omega) (by omega) (by omega) hy e')))
    · rw [if_neg hb] at e'
      exact br_f (fun z => hb ((xb_bit1 (by omega) (by omega)).mp z)) (nm_r (nI_1 k) (ih (k + 1) n W y (by omega) (by omega) (by omega) h2 hy e'))
theorem xl_n11 {post : Int32 → Prop} : ∀ d x n o L R, x + d = 6 → d < n → L < 64 → R < 2 ^ 31 → post (nI (np_out d o L R x)) → wX_nthPermutation_11 post co bu sc wa ot ws ge ca cb st sl tr sf n (nI o) (nI L) (nI R) (nI x) := by
  intro d
  induction d with
  | zero =>
    intro x n o L R hx hn hL hR hp
    obtain ⟨n, rfl⟩ : ∃ q, n = q + 1 := ⟨n - 1, by omega⟩
    have : x = 6 := by omega
    subst this
    exact br_t (by decide) hp
  | succ d ih =>
    intro x n o L R hx hn hL hR hp
    obtain ⟨n, rfl⟩ : ∃ q, n = q + 1 := ⟨n - 1, by omega⟩
    have e6 : (6 : Int32) - nI x = nI (6 - x) := pk_sub (a := 6) (by omega)
    have hne : ¬ nI (6 - x) = 0 := nI_ne0 (by omega) (by omega)
    have hm := Nat.mod_lt R (show 0 < 6 - x by omega)
    refine br_f (nI_ge (b := 6) (by omega) (by decide)) ?_
    rw [e6, pk_rem hR (by omega) (by omega), pk_div hR (by omega) (by omega)]
    refine ⟨hne, nm_r (np_wr _).symm ⟨hne, nm_e ⟨7, ?_⟩⟩⟩
    refine xl_n44 hL (by omega) (W0 := R % (6 - x) + 4294967296) ?_ 6 0 7 _ 0 rfl (by omega) (by omega) (by omega) (by omega) rfl
    refine ih (x + 1) n _ _ (R / (6 - x)) (by omega) (by omega) ?_ (Nat.lt_of_le_of_lt (Nat.div_le_self _ _) hR) hp
    exact Nat.lt_of_le_of_lt Nat.and_le_left hL
theorem xw_nth {post : Int32 → Prop} {u : SX} {k : Nat} (hk : k < 720) (hp : post (ex (np_nth k))) : wpX_nthPermutation post u (nI k) := by
  obtain ⟨co, bu, sc, wa, ot, ws, ge, ca, cb, st, sl, tr, sf⟩ := u
  refine ⟨7, xl_n11 6 0 7 0 63 k rfl (by omega) (by omega) (by omega) ?_⟩
  unfold ex at hp
  rw [(np_A hk).2.1] at hp
  exact hp
theorem xl_nmr {post : Int32 → SX → Prop} {c : Nat} (hc : c ≤ 5) {gs : Nat → Nat} (hgs : ∀ k, k < c → pe_P (gs k)) (hge : ∀ k, k < c → ge k = ex (gs k)) {G0 : Nat → Prop} {ch : Nat → Nat → Option Nat} (V : x_Vc G0 ch ca cb) (hp : post (nI (ct (nm G0 c gs) np_nth 720)) (nI c, bu, sc, wa, ot, ws, ge, ca, cb, st, sl, tr, sf)) : ∀ d k n, k + d = 720 → d < n → wX_normaliser_8 post (nI c) bu sc wa ot ws ge ca cb st sl tr sf n (nI (ct (nm G0 c gs) np_nth k)) (nI k) := by
  intro d
  induction d with
  | zero =>
    intro k n hk hn
    obtain ⟨n, rfl⟩ : ∃ q, n = q + 1 := ⟨n - 1, by omega⟩
    have : k = 720 := by omega
    subst this
    exact br_t (by decide) hp
  | succ d ih =>
    intro k n hk hn
    obtain ⟨n, rfl⟩ : ∃ q, n = q + 1 := ⟨n - 1, by omega⟩
    have hP := (np_A (n := k) (by omega)).1
    refine br_f (nI_ge (b := 720) (by omega) (by decide)) (xw_nth (by omega) ⟨c + 1, xl_cg hc hgs hge V hP (fun hq => ?_) (fun hq => ?_) c 0 (c + 1) (by omega) (by omega) (fun _ h => absurd h (by omega))⟩)
    · refine br_f (by decide) (nm_r (nI_1 _) (nm_r (nI_1 k) ?_))
      rw [← ct_y hq]
      exact ih (k + 1) n (by omega) (by omega)
    · refine br_t rfl (nm_r (nI_1 k) ?_)
      rw [← ct_n hq]
      exact ih (k + 1) n (by omega) (by omega)
end
end
section
/-! Y's constructor: all permutations from a cycle and an exchange -/
def yi_a : Nat := yb_pt (fun x => (x + 1) % 6) 6
def yi_b : Nat := yb_pt (fun x => if x < 2 then 1 - x else x) 6
def yi_g : Nat → Nat := fun k => if k = 0 then yi_a else yi_b
theorem yi_aP : pe_P yi_a := ⟨by decide, by decide⟩
theorem yi_bP : pe_P yi_b := ⟨by decide, by decide⟩
theorem yi_P : ∀ k, k < 2 → pe_P (yi_g k) := by
  intro k hk
  rcases (by omega : k = 0 ∨ k = 1) with rfl | rfl
  · exact yi_aP
  · exact yi_bP
theorem yi_TP : ∀ t, gT 2 yi_g t → pe_P t := by
  rintro t ⟨k, hk, rfl⟩
  exact yi_P k hk
/-- the exchange of i and y -/
def yi_t (i y : Nat) : Nat := pe_cd (fun x => if x = i then y else if x = y then i else x)
theorem yi_c1 : ∀ k, k < 4 → pe_mu (pe_mu (pe_iv yi_a) (yi_t k (k + 1))) yi_a = yi_t (k + 1) (k + 2) := by decide +kernel
theorem yi_c2 : ∀ i, i < 6 → ∀ y, y < 5 → i < y → pe_mu (pe_mu (yi_t y (y + 1)) (yi_t i y)) (yi_t y (y + 1)) = yi_t i (y + 1) := by decide +kernel
theorem yi_c3 : ∀ i, i < 6 → yi_t i i = pe_id := by decide +kernel
theorem yi_c4 : yi_b = yi_t 0 1 := by decide +kernel
theorem yi_c5 : ∀ i, i < 6 → ∀ y, y < 6 → i ≤ y → (yi_t i y < 46656 ∧ pe_mk (yi_t i y) 6 = 63) ∧ (∀ j, j < i → pe_ap (yi_t i y) j = j) ∧ pe_ap (yi_t i y) i = y := by decide +kernel
theorem yi_s : ∀ k, k < 5 → gr_G (gT 2 yi_g) (yi_t k (k + 1)) := by
  have ha : gr_G (gT 2 yi_g) yi_a := gr_in yi_TP ⟨0, by omega, rfl⟩
  intro k
  induction k with
  | zero =>
    intro _
    rw [← yi_c4]
    exact gr_in yi_TP ⟨1, by omega, rfl⟩
  | succ k ih =>
    intro hk
    rw [← yi_c1 k (by omega)]
    exact gr_mul yi_TP (gr_mul yi_TP (gr_inv yi_TP ha) (ih (by omega))) ha
theorem yi_d : ∀ d i, i + d + 1 < 6 → gr_G (gT 2 yi_g) (yi_t i (i + d + 1)) := by
  intro d
  induction d with
  | zero => intro i hi; exact yi_s i (by omega)
  | succ d ih =>
    intro i hi
    have h1 := ih i (by omega)
    have h2 := yi_s (i + d + 1) (by omega)
    have e := yi_c2 i (by omega) (i + d + 1) (by omega) (by omega)
    rw [show i + (d + 1) + 1 = i + d + 1 + 1 by omega, ← e]
    exact gr_mul yi_TP (gr_mul yi_TP h2 h1) h2
def yi_ch : Nat → Nat → Option Nat := fun i y => if y < i then none else some (yi_t i y)
theorem yi_ch_n {i y : Nat} (h : yi_ch i y = none) : y < i := by
  unfold yi_ch at h
  by_cases k : y < i
  · exact k
  · rw [if_neg k] at h; cases h
theorem yi_ch_s {i y c : Nat} (h : yi_ch i y = some c) : i ≤ y ∧ c = yi_t i y := by
  unfold yi_ch at h
  by_cases k : y < i
  · rw [if_pos k] at h; cases h
  · rw [if_neg k] at h
    exact ⟨by omega, (Option.some.inj h).symm⟩
theorem yi_ok : cn_ok yi_ch := by
  constructor
  · intro i hi
    unfold yi_ch
    rw [if_neg (by omega), yi_c3 i hi]
  · intro i y c hi hy hc
    obtain ⟨h1, rfl⟩ := yi_ch_s hc
    exact yi_c5 i hi y hy h1
theorem yi_full (g : Nat) : gr_G (gT 2 yi_g) g ↔ pe_P g := by
  constructor
  · exact gr_P yi_TP
  · intro hp
    refine (cn_in yi_ok yi_TP 6 0 rfl ?_ g hp).mpr ?_
    · intro j y c _ hj hy hc
      obtain ⟨h1, rfl⟩ := yi_ch_s hc
      by_cases e : j = y
      · subst e
        rw [yi_c3 j hj]
        exact gr_id
      · have := yi_d (y - j - 1) j (by omega)
        rwa [show j + (y - j - 1) + 1 = y by omega] at this
    · obtain ⟨rp, rc⟩ := cn_res yi_ok 6 0 rfl g hp (fun _ h => absurd h (by omega))
      rcases rc with e | ⟨j, hj, jf, jn⟩
      · rw [e]; exact gr_id
      · have h1 := yi_ch_n jn
        have h2 := jf _ h1
        have := pe_P_inj rp (pe_ap_lt _ _) hj h2
        omega
section
variable {yc fo : Int32} {gn li mk pw al : Nat → Int32}
theorem yl_i50 {post : SY → Prop} (K : ∀ pw', y_pw pw' → ∃ n76 : Nat, wY_init_76 post yc fo n76 0 gn li mk pw' al) : ∀ d k n pw, k + d = 6 → d < n → (∀ j, j < k → pw j = nI (6 ^ j)) → wY_init_50 post yc fo n (nI (6 ^ k)) (nI k) gn li mk pw al := by
  intro d
  induction d with
  | zero =>
    intro k n pw hk hn hv
    obtain ⟨n, rfl⟩ : ∃ q, n = q + 1 := ⟨n - 1, by omega⟩
    have : k = 6 := by omega
    subst this
    exact br_t (by decide) (K pw hv)
  | succ d ih =>
    intro k n pw hk hn hv
    obtain ⟨n, rfl⟩ : ∃ q, n = q + 1 := ⟨n - 1, by omega⟩
    refine br_f (nI_ge (b := 6) (by omega) (by decide)) ⟨vp_in_nI (by omega) (by decide), nm_r (e' := upd pw k (nI (6 ^ k))) (by rw [nI_clamp (by omega)]) (nm_r (e' := nI (6 ^ (k + 1))) ?_ (nm_r (nI_1 k) (ih (k + 1) n _ (by omega) (by omega) ?_)))⟩
    · rw [Nat.pow_succ, Nat.mul_comm]
      exact pk_mul 6 (6 ^ k)
    · intro j hj
      rcases Nat.lt_or_ge j k with a | a
      · rw [pk_un (by omega)]; exact hv j a
      · have : j = k := by omega
        subst this
        exact pk_us
theorem yl_i76 {post : SY → Prop} (hw : y_pw pw) (K : ∀ m gn', gn' 0 = nI yi_a → gn' 1 = nI yi_b → wY_init_76 post yc fo (m + 1) (nI 6) gn' li mk pw al) : ∀ d k n gn, k + d = 6 → d < n → gn 0 = nI (yb_pt (fun x => (x + 1) % 6) k) → gn 1 = nI (yb_pt (fun x => if x < 2 then 1 - x else x) k) → wY_init_76 post yc fo n (nI k) gn li mk pw al := by
  intro d
  induction d with
  | zero =>
    intro k n gn hk hn h0 h1
    obtain ⟨n, rfl⟩ : ∃ q, n = q + 1 := ⟨n - 1, by omega⟩
    have : k = 6 := by omega
    subst this
    exact K n gn h0 h1
  | succ d ih =>
    intro k n gn hk hn h0 h1
    obtain ⟨n, rfl⟩ : ∃ q, n = q + 1 := ⟨n - 1, by omega⟩
    have hin : vp_in (nI k) 6 := vp_in_nI (by omega) (by decide)
    have e6 : nI (k + 1) - nI (k + 1) / 6 * 6 = nI ((k + 1) % 6) := pk_rem (d := 6) (by omega) (by omega) (by omega)
    have ep : pw (nI k).toNatClampNeg = nI (6 ^ k) := by rw [nI_clamp (by omega), hw k (by omega)]
    have e0 : gn 0 + pw (nI k).toNatClampNeg * (nI k + 1 - (nI k + 1) / 6 * 6) = nI (yb_pt (fun x => (x + 1) % 6) (k + 1)) := by
      rw [h0, ep, nI_1, e6, pk_mul, nI_add]
      rfl
    refine br_f (nI_ge (b := 6) (by omega) (by decide)) ⟨hin, by decide, nm_r (e' := upd gn 0 (nI (yb_pt (fun x => (x + 1) % 6) (k + 1)))) (by rw [e0]) ⟨hin, ?_⟩⟩
    refine pk_le 2 k (fun hk2 => ?_) (fun hk2 => ?_)
    · refine nm_r (e' := upd (upd gn 0 (nI (yb_pt (fun x => (x + 1) % 6) (k + 1)))) 1 (nI (yb_pt (fun x => if x < 2 then 1 - x else x) (k + 1)))) ?_ (nm_r (nI_1 k) (ih (k + 1) n _ (by omega) (by omega) ?_ pk_us))
      · rw [pk_un (by omega), h1, ep, pk_mul, nI_add]
        have : yb_pt (fun x => if x < 2 then 1 - x else x) (k + 1) = yb_pt (fun x => if x < 2 then 1 - x else x) k + 6 ^ k * (if k < 2 then 1 - k else k) := rfl
        rw [this, if_neg (by omega)]
      · rw [pk_un (by omega)]
        exact pk_us
    · refine nm_r (e' := upd (upd gn 0 (nI (yb_pt (fun x => (x + 1) % 6) (k + 1)))) 1 (nI (yb_pt (fun x => if x < 2 then 1 - x else x) (k + 1)))) ?_ (nm_r (nI_1 k) (ih (k + 1) n _ (by omega) (by omega) ?_ pk_us))
      · have es : (1 : Int32) - nI k = nI (1 - k) := pk_sub (a := 1) (by omega)
        rw [pk_un (by omega), h1, ep, es, pk_mul, nI_add]
        have : yb_pt (fun x => if x < 2 then 1 - x else x) (k + 1) = yb_pt (fun x => if x < 2 then 1 - x else x) k + 6 ^ k * (if k < 2 then 1 - k else k) := rfl
        rw [this, if_pos (by omega)]
      · rw [pk_un (by omega)]
        exact pk_us
theorem yl_i157 {post : SY → Prop} (K : ∀ m al', (∀ j, j < 720 → al' j = li j) → wY_init_157 post yc fo (m + 1) (nI 720) gn li mk pw al') : ∀ d k n al, k + d = 720 → d < n → (∀ j, j < k → al j = li j) → wY_init_157 post yc fo n (nI k) gn li mk pw al := by
  intro d
  induction d with
  | zero =>
    intro k n al hk hn hv
    obtain ⟨n, rfl⟩ : ∃ q, n = q + 1 := ⟨n - 1, by omega⟩
    have : k = 720 := by omega
    subst this
    exact K n al hv
  | succ d ih =>
    intro k n al hk hn hv
    obtain ⟨n, rfl⟩ : ∃ q, n = q + 1 := ⟨n - 1, by omega⟩
    have hin : vp_in (nI k) 720 := vp_in_nI (by omega) (by decide)
    refine br_f (nI_ge (b := 720) (by omega) (by decide)) ⟨hin, hin, nm_r (e' := upd al k (li k)) (by rw [nI_clamp (by omega)]) (nm_r (nI_1 k) (ih (k + 1) n _ (by omega) (by omega) ?_))⟩
    intro j hj
    rcases Nat.lt_or_ge j k with a | a
    · rw [pk_un (by omega)]; exact hv j a
    · have : j = k := by omega
      subst this
      exact pk_us
end
theorem yi_all {fo : Int32} {li mk al : Nat → Int32} {ls : Nat → Nat} {m : Nat} (L : y_lst (gr_G (gT 2 yi_g)) fo li mk ls m) (h : ∀ j, j < 720 → al j = li j) : y_all al ls := by
  obtain ⟨⟨e, h720, hli, hinj, hP, hm⟩, hG⟩ := L
  have hi : ∀ g, y_in ls m g ↔ y_in np_nth 720 g := by
    intro g
    rw [← hG, yi_full, ← np_al_mem, ← y_ls_mem]
    exact Iff.rfl
  have hn : ∀ j k, j < 720 → k < 720 → np_nth j = np_nth k → j = k := by
    intro j k hj hk e
    rw [← (np_A hj).2.2, e, (np_A hk).2.2]
  have := ct_len hinj hn hi
  subst this
  exact ⟨fun i hi => (h i hi).trans (hli i hi), hinj, fun g => by rw [← hG, yi_full]⟩
theorem yw_init {post : SY → Prop} (K : ∀ fo gn li mk pw al ls m as, y_pw pw → y_all al as → y_lst (gr_G (gT 0 (fun _ => 0))) fo li mk ls m → post (nI 0, fo, gn, li, mk, pw, al)) : wpY_init post := by
  refine ⟨7, yl_i50 ?_ 6 0 7 _ rfl (by omega) (fun _ h => absurd h (by omega))⟩
  intro pw hw
  refine ⟨7, yl_i76 hw ?_ 6 0 7 _ rfl (by omega) rfl rfl⟩
  intro m gn h0 h1
  refine br_t (by decide) (yw_list (c := 2) hw (by omega) (gs := yi_g) ?_ yi_P ?_)
  · intro k hk
    rcases (by omega : k = 0 ∨ k = 1) with rfl | rfl
    · exact h0
    · exact h1
  · intro fo li mk ls n L
    refine ⟨721, yl_i157 ?_ 720 0 721 _ rfl (by omega) (fun _ h => absurd h (by omega))⟩
    intro m2 al hal
    have A := yi_all L hal
    refine br_t (by decide) (yw_list (c := 0) hw (by omega) (gs := fun _ => 0) (fun _ h => absurd h (by omega)) (fun _ h => absurd h (by omega)) ?_)
    intro fo2 li2 mk2 ls2 n2 L2
    exact K fo2 gn li2 mk2 pw al ls2 n2 ls hw A L2
end
section
/-! the relation -/
def rl_R (c : Nat) (gs : Nat → Nat) (bu : Int32) (ge ca cb : Nat → Int32) (fo : Int32) (gn li mk pw al : Nat → Int32) : Prop :=
  c ≤ 5 ∧ (∀ k, k < c → pe_P (gs k)) ∧ (∀ k, k < c → ge k = ex (gs k)) ∧ (bu = 0 ∨ (bu = 1 ∧ x_V (gr_G (gT c gs)) ca cb)) ∧ (∀ k, k < c → gn k = nI (gs k)) ∧ y_pw pw ∧ (∃ as, y_all al as) ∧ ∃ ls m, y_lst (gr_G (gT c gs)) fo li mk ls m
/-- both hold the same generators; X's chain, if built, and Y's list are those of the group -/
def i_Rel (_ : Nat) (u : SX) (v : SY) : Prop := match u, v with
  | (co, bu, sc, wa, ot, ws, ge, ca, cb, st, sl, tr, sf), (yc, fo, gn, li, mm, pw, al) => ∃ c gs, co = nI c ∧ yc = nI c ∧ rl_R c gs bu ge ca cb fo gn li mm pw al
theorem i_up {k : Nat} {u : SX} {v : SY} (h : i_Rel k u v) : i_Rel (k + 3) u v := h
theorem rl_TP {c : Nat} {gs : Nat → Nat} (h : ∀ k, k < c → pe_P (gs k)) : ∀ t, gT c gs t → pe_P t := by
  rintro t ⟨k, hk, rfl⟩
  exact h k hk
theorem rl_el {k : Nat} {P : SX → SY → Prop} {u : SX} {v : SY} (h : ∀ (c : Nat) (gs : Nat → Nat) (bu sc wa ot ws : Int32) (ge ca cb st sl tr sf : Nat → Int32) (fo : Int32) (gn li mk pw al : Nat → Int32), rl_R c gs bu ge ca cb fo gn li mk pw al → P (nI c, bu, sc, wa, ot, ws, ge, ca, cb, st, sl, tr, sf) (nI c, fo, gn, li, mk, pw, al)) (I : i_Rel k u v) : P u v := by
  obtain ⟨co, bu, sc, wa, ot, ws, ge, ca, cb, st, sl, tr, sf⟩ := u
  obtain ⟨yc, fo, gn, li, mk, pw, al⟩ := v
  obtain ⟨c, gs, rfl, rfl, R⟩ := I
  exact h c gs bu sc wa ot ws ge ca cb st sl tr sf fo gn li mk pw al R
section
variable {co bu sc wa ot ws : Int32} {ge ca cb st sl tr sf : Nat → Int32} {yc fo : Int32} {gn li mk pw al : Nat → Int32}
theorem rl_mk {k c : Nat} {gs : Nat → Nat} (R : rl_R c gs bu ge ca cb fo gn li mk pw al) : i_Rel k (nI c, bu, sc, wa, ot, ws, ge, ca, cb, st, sl, tr, sf) (nI c, fo, gn, li, mk, pw, al) := ⟨c, gs, rfl, rfl, R⟩
/-- the chain may be built -/
theorem rl_b {c : Nat} {gs : Nat → Nat} {ca' cb' : Nat → Int32} {ch : Nat → Nat → Option Nat} (R : rl_R c gs bu ge ca cb fo gn li mk pw al) (V : x_Vc (gr_G (gT c gs)) ch ca' cb') : rl_R c gs 1 ge ca' cb' fo gn li mk pw al :=
  ⟨R.1, R.2.1, R.2.2.1, Or.inr ⟨rfl, ch, V⟩, R.2.2.2.2⟩
/-- X's listing against Y's -/
theorem rl_in {c : Nat} {gs : Nat → Nat} (hgs : ∀ k, k < c → pe_P (gs k)) {ch : Nat → Nat → Option Nat} (V : x_Vc (gr_G (gT c gs)) ch ca cb) {ls : Nat → Nat} {m : Nat} (L : y_lst (gr_G (gT c gs)) fo li mk ls m) (g : Nat) : y_in (el_el ch 6 0 pe_id) (el_N ch 6 0) g ↔ y_in ls m g := by
  rw [xe_G hgs V, L.2]
theorem rl_ct {c : Nat} {gs : Nat → Nat} (hgs : ∀ k, k < c → pe_P (gs k)) {ch : Nat → Nat → Option Nat} (V : x_Vc (gr_G (gT c gs)) ch ca cb) {ls : Nat → Nat} {m : Nat} (L : y_lst (gr_G (gT c gs)) fo li mk ls m) {Q Q' : Nat → Prop} (h : ∀ g, pe_P g → (Q g ↔ Q' g)) : ct Q (el_el ch 6 0 pe_id) (el_N ch 6 0) = ct Q' ls m :=
  ct_eq (xe_inj V.1) L.1.2.2.2.1 (rl_in hgs V L) (fun g hg => h g ((xe_mem V.1 g).mp hg).1)
theorem rl_len {c : Nat} {gs : Nat → Nat} (hgs : ∀ k, k < c → pe_P (gs k)) {ch : Nat → Nat → Option Nat} (V : x_Vc (gr_G (gT c gs)) ch ca cb) {ls : Nat → Nat} {m : Nat} (L : y_lst (gr_G (gT c gs)) fo li mk ls m) : el_N ch 6 0 = m :=
  ct_len (xe_inj V.1) L.1.2.2.2.1 (rl_in hgs V L)
end
/-! conjugation of all generators -/
def cj (h : Nat) (gs : Nat → Nat) : Nat → Nat := fun k => pe_mu (pe_mu (pe_iv h) (gs k)) h
section
variable {co bu sc wa ot ws : Int32} {ge ca cb st sl tr sf : Nat → Int32}
theorem xl_cja {post : Int32 → SX → Prop} {c : Nat} (hc : c ≤ 5) {gs : Nat → Nat} {h : Nat} (hh : pe_P h) (K : ∀ ge', (∀ k, k < c → ge' k = ex (cj h gs k)) → post (nI c) (nI c, 0, sc, wa, ot, ws, ge', ca, cb, st, sl, tr, sf)) : ∀ d k n ge, k + d = c → d < n → (∀ j, j < k → ge j = ex (cj h gs j)) → (∀ j, k ≤ j → j < c → ge j = ex (gs j)) → wX_conjugateAll_18 post (ex h) (nI c) bu sc wa ot ws n (nI k) ge ca cb st sl tr sf := by
  intro d
  induction d with
  | zero =>
    intro k n ge hk hn h1 h2
    obtain ⟨n, rfl⟩ : ∃ q, n = q + 1 := ⟨n - 1, by omega⟩
    have : k = c := by omega
    subst this
    exact br_t (nI_le (by omega) (by omega)) (K ge h1)
  | succ d ih =>
    intro k n ge hk hn h1 h2
    obtain ⟨n, rfl⟩ : ∃ q, n = q + 1 := ⟨n - 1, by omega⟩
    have hin : vp_in (nI k) 5 := vp_in_nI (by omega) (by decide)
    refine br_f (nI_ge (by omega) (by omega)) ⟨hin, ?_⟩
    rw [nI_clamp (n := k) (by omega), h2 k (by omega) (by omega)]
    refine xw_conj hh ⟨hin, nm_e (nm_r (nI_1 k) (ih (k + 1) n _ (by omega) (by omega) ?_ ?_))⟩
    · intro j hj
      rcases Nat.lt_or_ge j k with a | a
      · rw [pk_un (by omega)]; exact h1 j a
      · have : j = k := by omega
        subst this
        exact pk_us
    · intro j hj hjc
      rw [pk_un (by omega)]
      exact h2 j (by omega) hjc
end
section
variable {yc fo : Int32} {gn li mk pw al : Nat → Int32}
theorem yl_cja {post : Int32 → SY → Prop} (hw : y_pw pw) {c : Nat} (hc : c ≤ 5) {gs : Nat → Nat} (hgs : ∀ k, k < c → pe_P (gs k)) {h : Nat} (hh : pe_P h) (K : ∀ m gn', (∀ k, k < c → gn' k = nI (cj h gs k)) → wY_conjugateAll_12 post (nI h) (nI c) fo (m + 1) (nI c) gn' li mk pw al) : ∀ d k n gn, k + d = c → d < n → (∀ j, j < k → gn j = nI (cj h gs j)) → (∀ j, k ≤ j → j < c → gn j = nI (gs j)) → wY_conjugateAll_12 post (nI h) (nI c) fo n (nI k) gn li mk pw al := by
  intro d
  induction d with
  | zero =>
    intro k n gn hk hn h1 h2
    obtain ⟨n, rfl⟩ : ∃ q, n = q + 1 := ⟨n - 1, by omega⟩
    have : k = c := by omega
    subst this
    exact K n gn h1
  | succ d ih =>
    intro k n gn hk hn h1 h2
    obtain ⟨n, rfl⟩ : ∃ q, n = q + 1 := ⟨n - 1, by omega⟩
    have hin : vp_in (nI k) 5 := vp_in_nI (by omega) (by decide)
    refine br_f (nI_ge (by omega) (by omega)) ⟨hin, ?_⟩
    rw [nI_clamp (n := k) (by omega), h2 k (by omega) (by omega)]
    refine yw_conj hw (hgs k (by omega)).1 hh ⟨hin, nm_e (nm_r (nI_1 k) (ih (k + 1) n _ (by omega) (by omega) ?_ ?_))⟩
    · intro j hj
      rcases Nat.lt_or_ge j k with a | a
      · rw [pk_un (by omega)]; exact h1 j a
      · have : j = k := by omega
        subst this
        exact pk_us
    · intro j hj hjc
      rw [pk_un (by omega)]
      exact h2 j (by omega) hjc
end
theorem cj_P {c : Nat} {gs : Nat → Nat} (hgs : ∀ k, k < c → pe_P (gs k)) {h : Nat} (hh : pe_P h) : ∀ k, k < c → pe_P (cj h gs k) := fun k hk => pe_mu_P (pe_mu_P (pe_iv_P hh) (hgs k hk)) hh
/-! commutative groups -/
theorem co_iff {c : Nat} {gs : Nat → Nat} (hgs : ∀ k, k < c → pe_P (gs k)) {ls : Nat → Nat} {m : Nat} (hG : ∀ g, gr_G (gT c gs) g ↔ y_in ls m g) : ct (cw c gs) ls m = m ↔ ∀ k, k < c → cw c gs (gs k) := by
  rw [ct_all]
  constructor
  · intro h k hk
    obtain ⟨j, hj, e⟩ := (hG (gs k)).mp (gr_in (rl_TP hgs) ⟨k, hk, rfl⟩)
    rw [← e]
    exact h j hj
  · intro h j hj
    have hg := (hG (ls j)).mpr ⟨j, hj, rfl⟩
    refine hg (cw c gs) ?_ ?_
    · intro k hk
      rw [pe_id_mu (hgs k hk).1, pe_mu_id (hgs k hk).1]
    · rintro a t ha ⟨i, hi, rfl⟩ k hk
      rw [pe_mu_assoc, h i hi k hk, ← pe_mu_assoc, ha k hk, pe_mu_assoc]
end
section
/-! what is owed: constructor, generators, products -/
theorem i_vc0 : wpX_init (fun u => wpY_init (fun v => i_Rel 0 u v)) := by
  unfold wpX_init
  refine yw_init ?_
  intro fo gn li mk pw al ls m as hw A L
  exact ⟨0, fun _ => 0, rfl, rfl, by omega, fun _ h => absurd h (by omega), fun _ h => absurd h (by omega), Or.inl rfl, fun _ h => absurd h (by omega), hw, ⟨as, A⟩, ls, m, L⟩
theorem i_vc_add {k : Nat} {u : SX} {v : SY} (I : i_Rel k u v) (hk : k + 3 ≤ 1536) (v1 : Int32) : wpX_add (fun r u' => wpY_add (fun r' v' => r' = r ∧ i_Rel (k + 3) u' v') v v1) u v1 := by
  refine rl_el (P := fun u v => wpX_add (fun r u' => wpY_add (fun r' v' => r' = r ∧ i_Rel (k + 3) u' v') v v1) u v1) ?_ I
  intro c gs bu sc wa ot ws ge ca cb st sl tr sf fo gn li mk pw al R
  have hw := R.2.2.2.2.2.1
  have hc := R.1
  unfold wpX_add
  dsimp only
  rcases pe_ex v1 with ⟨g, hg, rfl⟩ | hv
  · refine xw_bad_t hg (br_t rfl (pk_eq c 5 (fun e => ?_) (fun e => ?_)))
    · unfold wpY_add
      dsimp only
      refine yw_perm_t hw hg (br_f (by decide) (br_t (congrArg nI e) ⟨rfl, rl_mk R⟩))
    · refine xw_from hg.1 ⟨vp_in_nI (by omega) (by decide), nm_r (e' := upd ge c (ex g)) (by rw [nI_clamp (by omega)]) (nm_r (nI_1 c) ?_)⟩
      unfold wpY_add
      dsimp only
      have hne : ¬ nI c = 5 := fun z => e ((nI_eq (b := 5) (by omega) (by decide)).mp z)
      have hP : ∀ j, j < c + 1 → pe_P (xB_ns gs c g j) := by
        intro j hj
        rcases Nat.lt_or_ge j c with a | a
        · rw [xB_ns_o a]; exact R.2.1 j a
        · have : j = c := by omega
          subst this
          rw [xB_ns_s]; exact hg
      have hG : ∀ j, j < c + 1 → upd gn c (nI g) j = nI (xB_ns gs c g j) := by
        intro j hj
        rcases Nat.lt_or_ge j c with a | a
        · rw [pk_un (by omega), xB_ns_o a]; exact R.2.2.2.2.1 j a
        · have : j = c := by omega
          subst this
          rw [xB_ns_s, pk_us]
      refine yw_perm_t hw hg (br_f (by decide) (br_f hne ⟨vp_in_nI (by omega) (by decide), nm_r (e' := upd gn c (nI g)) (by rw [nI_clamp (by omega)]) (nm_r (nI_1 c) (yw_list hw (by omega) hG hP ?_))⟩))
      intro fo' li' mk' ls' m' L
      refine ⟨rfl, rl_mk (gs := xB_ns gs c g) ⟨by omega, hP, ?_, Or.inl rfl, hG, hw, R.2.2.2.2.2.2.1, ls', m', L⟩⟩
      intro j hj
      rcases Nat.lt_or_ge j c with a | a
      · rw [pk_un (by omega), xB_ns_o a]; exact R.2.2.1 j a
      · have : j = c := by omega
        subst this
        rw [xB_ns_s, pk_us]
  · refine xw_bad_f hv (br_f (by decide) ?_)
    unfold wpY_add
    dsimp only
    exact yw_perm_f hw hv (br_t rfl ⟨rfl, rl_mk R⟩)
theorem i_vc_remove {k : Nat} {u : SX} {v : SY} (I : i_Rel k u v) (hk : k + 3 ≤ 1536) : wpX_remove (fun r u' => wpY_remove (fun r' v' => r' = r ∧ i_Rel (k + 3) u' v') v) u := by
  refine rl_el (P := fun u v => wpX_remove (fun r u' => wpY_remove (fun r' v' => r' = r ∧ i_Rel (k + 3) u' v') v) u) ?_ I
  intro c gs bu sc wa ot ws ge ca cb st sl tr sf fo gn li mk pw al R
  have hw := R.2.2.2.2.2.1
  have hc := R.1
  cases c with
  | zero => exact br_t rfl (br_t rfl ⟨rfl, rl_mk R⟩)
  | succ c =>
    have hne : ¬ nI (c + 1) = 0 := nI_ne0 (by omega) (by omega)
    refine br_f hne (nm_r (nI_pred c) ⟨vp_in_nI (by omega) (by decide), ?_⟩)
    rw [nI_clamp (n := c) (by omega), R.2.2.1 c (by omega)]
    refine xw_to (R.2.1 c (by omega)).1 ?_
    refine br_f hne (nm_r (nI_pred c) (yw_list hw (by omega) (gs := gs) (fun j hj => R.2.2.2.2.1 j (by omega)) (fun j hj => R.2.1 j (by omega)) ?_))
    intro fo' li' mk' ls' m' L
    refine ⟨vp_in_nI (by omega) (by decide), ?_⟩
    rw [nI_clamp (n := c) (by omega), R.2.2.2.2.1 c (by omega)]
    exact ⟨rfl, rl_mk (gs := gs) ⟨by omega, fun j hj => R.2.1 j (by omega), fun j hj => R.2.2.1 j (by omega), Or.inl rfl, fun j hj => R.2.2.2.2.1 j (by omega), hw, R.2.2.2.2.2.2.1, ls', m', L⟩⟩
theorem i_vc_conjugateAll {k : Nat} {u : SX} {v : SY} (I : i_Rel k u v) (hk : k + 3 ≤ 1536) (v1 : Int32) : wpX_conjugateAll (fun r u' => wpY_conjugateAll (fun r' v' => r' = r ∧ i_Rel (k + 3) u' v') v v1) u v1 := by
  refine rl_el (P := fun u v => wpX_conjugateAll (fun r u' => wpY_conjugateAll (fun r' v' => r' = r ∧ i_Rel (k + 3) u' v') v v1) u v1) ?_ I
  intro c gs bu sc wa ot ws ge ca cb st sl tr sf fo gn li mk pw al R
  have hw := R.2.2.2.2.2.1
  have hc := R.1
  unfold wpX_conjugateAll
  dsimp only
  rcases pe_ex v1 with ⟨h, hh, rfl⟩ | hv
  · refine xw_bad_t hh (br_t rfl (xw_from hh.1 ⟨c + 1, xl_cja hc (gs := gs) hh ?_ c 0 (c + 1) ge (by omega) (by omega) (fun _ h => absurd h (by omega)) (fun j _ hj => R.2.2.1 j hj)⟩))
    intro ge' hge'
    unfold wpY_conjugateAll
    dsimp only
    refine yw_perm_t hw hh (br_f (by decide) ⟨c + 1, yl_cja hw hc R.2.1 hh ?_ c 0 (c + 1) gn (by omega) (by omega) (fun _ h => absurd h (by omega)) (fun j _ hj => R.2.2.2.2.1 j hj)⟩)
    intro m gn' hgn'
    refine br_t (nI_le (by omega) (by omega)) (yw_list hw hc hgn' (cj_P R.2.1 hh) ?_)
    intro fo' li' mk' ls' m' L
    exact ⟨rfl, rl_mk (gs := cj h gs) ⟨hc, cj_P R.2.1 hh, hge', Or.inl rfl, hgn', hw, R.2.2.2.2.2.2.1, ls', m', L⟩⟩
  · refine xw_bad_f hv (br_f (by decide) ?_)
    unfold wpY_conjugateAll
    dsimp only
    exact yw_perm_f hw hv (br_t rfl ⟨rfl, rl_mk R⟩)
theorem i_vc_generators {k : Nat} {u : SX} {v : SY} (I : i_Rel k u v) (hk : k + 3 ≤ 1536) : wpX_generators (fun r => wpY_generators (fun r' => r' = r ∧ i_Rel (k + 3) u v) v) u := by
  refine rl_el (P := fun u v => wpX_generators (fun r => wpY_generators (fun r' => r' = r ∧ i_Rel (k + 3) u v) v) u) ?_ I
  intro c gs bu sc wa ot ws ge ca cb st sl tr sf fo gn li mk pw al R
  exact And.intro rfl (rl_mk R)
theorem i_vc_product {k : Nat} {u : SX} {v : SY} (I : i_Rel k u v) (hk : k + 3 ≤ 1536) (v1 : Int32) (v2 : Int32) : wpX_product (fun r => wpY_product (fun r' => r' = r ∧ i_Rel (k + 3) u v) v v1 v2) u v1 v2 := by
  refine rl_el (P := fun u v => wpX_product (fun r => wpY_product (fun r' => r' = r ∧ i_Rel (k + 3) u v) v v1 v2) u v1 v2) ?_ I
  intro c gs bu sc wa ot ws ge ca cb st sl tr sf fo gn li mk pw al R
  have hw := R.2.2.2.2.2.1
  unfold wpX_product
  dsimp only
  rcases pe_ex v1 with ⟨g, hg, rfl⟩ | hv
  · refine xw_bad_t hg (br_t rfl ?_)
    rcases pe_ex v2 with ⟨h, hh, rfl⟩ | hv
    · refine xw_bad_t hh (br_t rfl (xw_from hg.1 (xw_from hh.1 (xw_times (xw_to (pe_mu_lt _ _) ?_)))))
      unfold wpY_product
      dsimp only
      exact yw_perm_t hw hg (br_f (by decide) (yw_perm_t hw hh (br_f (by decide) (yw_times hw hg.1 hh.1 ⟨rfl, rl_mk R⟩))))
    · refine xw_bad_f hv (br_f (by decide) ?_)
      unfold wpY_product
      dsimp only
      exact yw_perm_t hw hg (br_f (by decide) (yw_perm_f hw hv (br_t rfl ⟨rfl, rl_mk R⟩)))
  · refine xw_bad_f hv (br_f (by decide) ?_)
    unfold wpY_product
    dsimp only
    exact yw_perm_f hw hv (br_t rfl ⟨rfl, rl_mk R⟩)
theorem i_vc_inverse {k : Nat} {u : SX} {v : SY} (I : i_Rel k u v) (hk : k + 3 ≤ 1536) (v1 : Int32) : wpX_inverse (fun r => wpY_inverse (fun r' => r' = r ∧ i_Rel (k + 3) u v) v v1) u v1 := by
  refine rl_el (P := fun u v => wpX_inverse (fun r => wpY_inverse (fun r' => r' = r ∧ i_Rel (k + 3) u v) v v1) u v1) ?_ I
  intro c gs bu sc wa ot ws ge ca cb st sl tr sf fo gn li mk pw al R
  have hw := R.2.2.2.2.2.1
  unfold wpX_inverse
  dsimp only
  rcases pe_ex v1 with ⟨g, hg, rfl⟩ | hv
  · refine xw_bad_t hg (br_t rfl (xw_from hg.1 (xw_inv hg (xw_to (pe_iv_lt _) ?_))))
    unfold wpY_inverse
    dsimp only
    exact yw_perm_t hw hg (br_f (by decide) (yw_inv hw hg ⟨rfl, rl_mk R⟩))
  · refine xw_bad_f hv (br_f (by decide) ?_)
    unfold wpY_inverse
    dsimp only
    exact yw_perm_f hw hv (br_t rfl ⟨rfl, rl_mk R⟩)
end
section
/-! what is owed: the queries -/
theorem i_vc_order {k : Nat} {u : SX} {v : SY} (I : i_Rel k u v) (hk : k + 3 ≤ 1536) : wpX_order (fun r u' => wpY_order (fun r' => r' = r ∧ i_Rel (k + 3) u' v) v) u := by
  refine rl_el (P := fun u v => wpX_order (fun r u' => wpY_order (fun r' => r' = r ∧ i_Rel (k + 3) u' v) v) u) ?_ I
  intro c gs bu sc wa ot ws ge ca cb st sl tr sf fo gn li mk pw al R
  have hw := R.2.2.2.2.2.1
  have hc := R.1
  have hgs := R.2.1
  have hge := R.2.2.1
  have hb := R.2.2.2.1
  have hgn := R.2.2.2.2.1
  obtain ⟨ls, m, L⟩ := R.2.2.2.2.2.2.2
  refine xw_ord hc hgs hge hb ?_
  intro ch sc' ca' cb' st' sl' V
  refine And.intro ?_ (rl_mk (rl_b R V))
  rw [rl_len hgs V L]
  exact L.1.1
theorem i_vc_has {k : Nat} {u : SX} {v : SY} (I : i_Rel k u v) (hk : k + 3 ≤ 1536) (v1 : Int32) : wpX_has (fun r u' => wpY_has (fun r' => r' = r ∧ i_Rel (k + 3) u' v) v v1) u v1 := by
  refine rl_el (P := fun u v => wpX_has (fun r u' => wpY_has (fun r' => r' = r ∧ i_Rel (k + 3) u' v) v v1) u v1) ?_ I
  intro c gs bu sc wa ot ws ge ca cb st sl tr sf fo gn li mk pw al R
  have hw := R.2.2.2.2.2.1
  have hc := R.1
  have hgs := R.2.1
  have hge := R.2.2.1
  have hb := R.2.2.2.1
  have hgn := R.2.2.2.2.1
  obtain ⟨ls, m, L⟩ := R.2.2.2.2.2.2.2
  unfold wpX_has
  dsimp only
  rcases pe_ex v1 with ⟨g, hg, rfl⟩ | hv
  · refine xw_bad_t hg (br_t rfl (xw_build hc hgs hge hb ?_))
    rintro sc' ca' cb' st' sl' ⟨ch, V⟩
    have hiff := V.2.2 g hg
    have hres := (cn_res V.1 6 0 rfl g hg (fun _ h => absurd h (by omega))).1
    have hmk := L.1.2.2.2.2.2 g hg.1
    rw [← L.2, ← hiff] at hmk
    refine xw_from hg.1 (xw_sift V.2.1 ?_)
    by_cases e : cn_si ch 6 0 g = pe_id
    · refine br_t (by rw [e, ex_id]) ?_
      unfold wpY_has
      dsimp only
      refine yw_perm_t hw hg (br_f (by decide) (yw_marked hg.1 (fun hq => br_f (by decide) ⟨rfl, rl_mk (rl_b R V)⟩) (fun hq => ?_)))
      rw [hmk.mpr e] at hq
      cases hq
    · refine br_f (fun z => e (ex_inj hres.1 (by decide) (by rw [z, ex_id]))) ?_
      unfold wpY_has
      dsimp only
      refine yw_perm_t hw hg (br_f (by decide) (yw_marked hg.1 (fun hq => absurd (hmk.mp hq) e) (fun hq => br_t rfl ⟨rfl, rl_mk (rl_b R V)⟩)))
  · refine xw_bad_f hv (br_f (by decide) ?_)
    unfold wpY_has
    dsimp only
    exact yw_perm_f hw hv (br_t rfl ⟨rfl, rl_mk R⟩)
theorem i_vc_orbit {k : Nat} {u : SX} {v : SY} (I : i_Rel k u v) (hk : k + 3 ≤ 1536) (v1 : Int32) : wpX_orbit (fun r => wpY_orbit (fun r' => r' = r ∧ i_Rel (k + 3) u v) v v1) u v1 := by
  refine rl_el (P := fun u v => wpX_orbit (fun r => wpY_orbit (fun r' => r' = r ∧ i_Rel (k + 3) u v) v v1) u v1) ?_ I
  intro c gs bu sc wa ot ws ge ca cb st sl tr sf fo gn li mk pw al R
  have hw := R.2.2.2.2.2.1
  have hc := R.1
  have hgs := R.2.1
  have hge := R.2.2.1
  have hb := R.2.2.2.1
  have hgn := R.2.2.2.2.1
  obtain ⟨ls, m, L⟩ := R.2.2.2.2.2.2.2
  by_cases hx : ∃ x, x < 6 ∧ v1 = nI x
  · obtain ⟨x, hx, rfl⟩ := hx
    refine xw_orb hc hge hx ?_
    intro s hs
    refine br_f (nI_pos (by omega)) (br_t (nI_le (b := 5) (by omega) (by decide)) (yw_orbOf hw L hx ?_))
    intro t ht
    exact ⟨by rw [ob_un ht hs], rl_mk R⟩
  · have hf : wpY_orbit (fun r' => r' = -1 ∧ i_Rel (k + 3) (nI c, bu, sc, wa, ot, ws, ge, ca, cb, st, sl, tr, sf) (nI c, fo, gn, li, mk, pw, al)) (nI c, fo, gn, li, mk, pw, al) v1 := by
      refine br_c (fun _ => ⟨rfl, rl_mk R⟩) (fun h0 => br_c (fun h1 => ?_) (fun _ => ⟨rfl, rl_mk R⟩))
      obtain ⟨x, hx1, rfl⟩ := nI_of2 (x := v1) (M := 5) (n := 5) (by decide) h0 h1
      exact absurd ⟨x, by omega, rfl⟩ hx
    refine br_c (fun _ => hf) (fun h0 => br_c (fun h1 => ?_) (fun _ => hf))
    obtain ⟨x, hx1, rfl⟩ := nI_of h0
    rw [show (6 : Int32) = nI 6 from rfl, nI_ltI hx1 (by omega)] at h1
    exact absurd ⟨x, h1, rfl⟩ hx
theorem i_vc_orbits {k : Nat} {u : SX} {v : SY} (I : i_Rel k u v) (hk : k + 3 ≤ 1536) : wpX_orbits (fun r => wpY_orbits (fun r' => r' = r ∧ i_Rel (k + 3) u v) v) u := by
  refine rl_el (P := fun u v => wpX_orbits (fun r => wpY_orbits (fun r' => r' = r ∧ i_Rel (k + 3) u v) v) u) ?_ I
  intro c gs bu sc wa ot ws ge ca cb st sl tr sf fo gn li mk pw al R
  have hw := R.2.2.2.2.2.1
  have hc := R.1
  have hgs := R.2.1
  have hge := R.2.2.1
  have hb := R.2.2.2.1
  have hgn := R.2.2.2.2.1
  obtain ⟨ls, m, L⟩ := R.2.2.2.2.2.2.2
  refine xw_orbs hc hgs hge ?_
  exact yw_orbs hw L ⟨rfl, rl_mk R⟩
theorem i_vc_fixing {k : Nat} {u : SX} {v : SY} (I : i_Rel k u v) (hk : k + 3 ≤ 1536) (v1 : Int32) : wpX_fixing (fun r u' => wpY_fixing (fun r' => r' = r ∧ i_Rel (k + 3) u' v) v v1) u v1 := by
  refine rl_el (P := fun u v => wpX_fixing (fun r u' => wpY_fixing (fun r' => r' = r ∧ i_Rel (k + 3) u' v) v v1) u v1) ?_ I
  intro c gs bu sc wa ot ws ge ca cb st sl tr sf fo gn li mk pw al R
  have hw := R.2.2.2.2.2.1
  have hc := R.1
  have hgs := R.2.1
  have hge := R.2.2.1
  have hb := R.2.2.2.1
  have hgn := R.2.2.2.2.1
  obtain ⟨ls, m, L⟩ := R.2.2.2.2.2.2.2
  unfold wpX_fixing
  dsimp only
  rcases se_ex v1 with ⟨s, hs, rfl⟩ | hv
  · refine xw_set_t hs (br_t rfl (xw_search hc hgs hge hb (qu_F_ok s) (qu_F_W hs) (most := 721) (by omega) (by omega) ?_))
    intro ch sc' ca' cb' st' sl' tr' sf' V
    have hl := L.1.2.1
    have e := rl_ct hgs V L (Q := qu_F s 6) (Q' := qu_F s 6) (fun g _ => Iff.rfl)
    have hle := ct_le (Q := qu_F s 6) (ls := ls) m
    rw [e, if_pos (by omega)]
    unfold wpY_fixing
    dsimp only
    exact yw_set_t hs (br_f (by decide) ⟨m + 1, yl_fix hw L.1 hs ⟨rfl, rl_mk (rl_b R V)⟩ m 0 (m + 1) (by omega) (by omega)⟩)
  · refine xw_set_f hv (br_f (by decide) ?_)
    unfold wpY_fixing
    dsimp only
    exact yw_set_f hv (br_t rfl ⟨rfl, rl_mk R⟩)
theorem i_vc_keeping {k : Nat} {u : SX} {v : SY} (I : i_Rel k u v) (hk : k + 3 ≤ 1536) (v1 : Int32) : wpX_keeping (fun r u' => wpY_keeping (fun r' => r' = r ∧ i_Rel (k + 3) u' v) v v1) u v1 := by
  refine rl_el (P := fun u v => wpX_keeping (fun r u' => wpY_keeping (fun r' => r' = r ∧ i_Rel (k + 3) u' v) v v1) u v1) ?_ I
  intro c gs bu sc wa ot ws ge ca cb st sl tr sf fo gn li mk pw al R
  have hw := R.2.2.2.2.2.1
  have hc := R.1
  have hgs := R.2.1
  have hge := R.2.2.1
  have hb := R.2.2.2.1
  have hgn := R.2.2.2.2.1
  obtain ⟨ls, m, L⟩ := R.2.2.2.2.2.2.2
  unfold wpX_keeping
  dsimp only
  rcases se_ex v1 with ⟨s, hs, rfl⟩ | hv
  · refine xw_set_t hs (br_t rfl (xw_search hc hgs hge hb (qu_K_ok s) (qu_K_W hs) (most := 721) (by omega) (by omega) ?_))
    intro ch sc' ca' cb' st' sl' tr' sf' V
    have hl := L.1.2.1
    have e := rl_ct hgs V L (Q := qu_K s 6) (Q' := fun g => im s g = s) (fun g hg => qu_K_im hs hg)
    have hle := ct_le (Q := fun g => im s g = s) (ls := ls) m
    rw [e, if_pos (by omega)]
    unfold wpY_keeping
    dsimp only
    exact yw_set_t hs (br_f (by decide) ⟨m + 1, yl_keep hw L.1 hs ⟨rfl, rl_mk (rl_b R V)⟩ m 0 (m + 1) (by omega) (by omega)⟩)
  · refine xw_set_f hv (br_f (by decide) ?_)
    unfold wpY_keeping
    dsimp only
    exact yw_set_f hv (br_t rfl ⟨rfl, rl_mk R⟩)
theorem i_vc_images {k : Nat} {u : SX} {v : SY} (I : i_Rel k u v) (hk : k + 3 ≤ 1536) (v1 : Int32) : wpX_images (fun r u' => wpY_images (fun r' => r' = r ∧ i_Rel (k + 3) u' v) v v1) u v1 := by
  refine rl_el (P := fun u v => wpX_images (fun r u' => wpY_images (fun r' => r' = r ∧ i_Rel (k + 3) u' v) v v1) u v1) ?_ I
  intro c gs bu sc wa ot ws ge ca cb st sl tr sf fo gn li mk pw al R
  have hw := R.2.2.2.2.2.1
  have hc := R.1
  have hgs := R.2.1
  have hge := R.2.2.1
  have hb := R.2.2.2.1
  have hgn := R.2.2.2.2.1
  obtain ⟨ls, m, L⟩ := R.2.2.2.2.2.2.2
  unfold wpX_images
  dsimp only
  rcases se_ex v1 with ⟨s, hs, rfl⟩ | hv
  · refine xw_set_t hs (br_t rfl ?_)
    unfold wpX_keeping
    dsimp only
    refine xw_set_t hs (br_t rfl (xw_search hc hgs hge hb (qu_K_ok s) (qu_K_W hs) (most := 721) (by omega) (by omega) ?_))
    intro ch sc' ca' cb' st' sl' tr' sf' V
    have hl := L.1.2.1
    have e := rl_ct hgs V L (Q := qu_K s 6) (Q' := fun g => im s g = s) (fun g hg => qu_K_im hs hg)
    have hle := ct_le (Q := fun g => im s g = s) (ls := ls) m
    have hcnt := im_count (rl_TP hgs) L.1.2.2.2.1 L.2 hs
    have hpos : 0 < ct (fun g => im s g = s) ls m := by
      obtain ⟨j, hj, ej⟩ := (L.2 pe_id).mp gr_id
      exact ct_pos.mpr ⟨j, hj, by rw [ej]; exact im_idn hs⟩
    rw [e, if_pos (by omega)]
    refine br_f (nI_nle hpos (by omega)) (xw_ord hc hgs hge (Or.inr ⟨rfl, ch, V⟩) ?_)
    intro ch2 sc2 ca2 cb2 st2 sl2 V2
    refine ⟨nI_ne0 hpos (by omega), ?_⟩
    rw [rl_len hgs V2 L, pk_div (by omega) hpos (by omega)]
    refine yw_images hw L.1 hs ⟨congrArg nI ?_, rl_mk (rl_b R V2)⟩
    exact (Nat.div_eq_of_eq_mul_left hpos hcnt.symm).symm
  · refine xw_set_f hv (br_f (by decide) ?_)
    unfold wpY_images
    dsimp only
    exact yw_set_f hv (br_t rfl ⟨rfl, rl_mk R⟩)
theorem i_vc_commuting {k : Nat} {u : SX} {v : SY} (I : i_Rel k u v) (hk : k + 3 ≤ 1536) (v1 : Int32) : wpX_commuting (fun r u' => wpY_commuting (fun r' => r' = r ∧ i_Rel (k + 3) u' v) v v1) u v1 := by
  refine rl_el (P := fun u v => wpX_commuting (fun r u' => wpY_commuting (fun r' => r' = r ∧ i_Rel (k + 3) u' v) v v1) u v1) ?_ I
  intro c gs bu sc wa ot ws ge ca cb st sl tr sf fo gn li mk pw al R
  have hw := R.2.2.2.2.2.1
  have hc := R.1
  have hgs := R.2.1
  have hge := R.2.2.1
  have hb := R.2.2.2.1
  have hgn := R.2.2.2.2.1
  obtain ⟨ls, m, L⟩ := R.2.2.2.2.2.2.2
  unfold wpX_commuting
  dsimp only
  rcases pe_ex v1 with ⟨w, hg, rfl⟩ | hv
  · refine xw_bad_t hg (br_t rfl (xw_from hg.1 (xw_search hc hgs hge hb (qu_C_ok w w) (qu_C_W w w) (most := 721) (by omega) (by omega) ?_)))
    intro ch sc' ca' cb' st' sl' tr' sf' V
    have hl := L.1.2.1
    have e := rl_ct hgs V L (Q := qu_C w w 6) (Q' := fun g => pe_mu w g = pe_mu g w) (fun g _ => qu_C_mu)
    have hle := ct_le (Q := fun g => pe_mu w g = pe_mu g w) (ls := ls) m
    rw [e, if_pos (by omega)]
    unfold wpY_commuting
    dsimp only
    exact yw_perm_t hw hg (br_f (by decide) ⟨m + 1, yl_comm hw L.1 hg.1 ⟨rfl, rl_mk (rl_b R V)⟩ m 0 (m + 1) (by omega) (by omega)⟩)
  · refine xw_bad_f hv (br_f (by decide) ?_)
    unfold wpY_commuting
    dsimp only
    exact yw_perm_f hw hv (br_t rfl ⟨rfl, rl_mk R⟩)
theorem i_vc_alike {k : Nat} {u : SX} {v : SY} (I : i_Rel k u v) (hk : k + 3 ≤ 1536) (v1 : Int32) (v2 : Int32) : wpX_alike (fun r u' => wpY_alike (fun r' => r' = r ∧ i_Rel (k + 3) u' v) v v1 v2) u v1 v2 := by
  refine rl_el (P := fun u v => wpX_alike (fun r u' => wpY_alike (fun r' => r' = r ∧ i_Rel (k + 3) u' v) v v1 v2) u v1 v2) ?_ I
  intro c gs bu sc wa ot ws ge ca cb st sl tr sf fo gn li mk pw al R
  have hw := R.2.2.2.2.2.1
  have hc := R.1
  have hgs := R.2.1
  have hge := R.2.2.1
  have hb := R.2.2.2.1
  have hgn := R.2.2.2.2.1
  obtain ⟨ls, m, L⟩ := R.2.2.2.2.2.2.2
  unfold wpX_alike
  dsimp only
  rcases pe_ex v1 with ⟨w, hg, rfl⟩ | hv
  · refine xw_bad_t hg (br_t rfl ?_)
    rcases pe_ex v2 with ⟨o, ho, rfl⟩ | hv
    · refine xw_bad_t ho (br_t rfl (xw_from hg.1 (xw_from ho.1 (xw_search hc hgs hge hb (qu_C_ok w o) (qu_C_W w o) (most := 1) (by omega) (by omega) ?_))))
      intro ch sc' ca' cb' st' sl' tr' sf' V
      have e := rl_ct hgs V L (Q := qu_C w o 6) (Q' := fun g => pe_mu w g = pe_mu g o) (fun g _ => qu_C_mu)
      have hpos := ct_pos (Q := fun g => pe_mu w g = pe_mu g o) (ls := ls) (n := m)
      rw [e]
      by_cases hz : ct (fun g => pe_mu w g = pe_mu g o) ls m < 1
      · rw [if_pos hz, show ct (fun g => pe_mu w g = pe_mu g o) ls m = 0 by omega]
        refine br_f (by decide) ?_
        unfold wpY_alike
        dsimp only
        refine yw_perm_t hw hg (br_f (by decide) (yw_perm_t hw ho (br_f (by decide) ⟨m + 1, yl_alike hw L.1 hg.1 ho.1 (fun hq => ?_) (fun hq => ⟨rfl, rl_mk (rl_b R V)⟩) m 0 (m + 1) (by omega) (by omega) (fun _ h => absurd h (by omega))⟩)))
        have := hpos.mpr hq
        omega
      · rw [if_neg hz]
        refine br_t rfl ?_
        unfold wpY_alike
        dsimp only
        refine yw_perm_t hw hg (br_f (by decide) (yw_perm_t hw ho (br_f (by decide) ⟨m + 1, yl_alike hw L.1 hg.1 ho.1 (fun hq => ⟨rfl, rl_mk (rl_b R V)⟩) (fun hq => ?_) m 0 (m + 1) (by omega) (by omega) (fun _ h => absurd h (by omega))⟩)))
        exact absurd (hpos.mp (by omega)) hq
    · refine xw_bad_f hv (br_f (by decide) ?_)
      unfold wpY_alike
      dsimp only
      exact yw_perm_t hw hg (br_f (by decide) (yw_perm_f hw hv (br_t rfl ⟨rfl, rl_mk R⟩)))
  · refine xw_bad_f hv (br_f (by decide) ?_)
    unfold wpY_alike
    dsimp only
    exact yw_perm_f hw hv (br_t rfl ⟨rfl, rl_mk R⟩)
theorem i_vc_centre {k : Nat} {u : SX} {v : SY} (I : i_Rel k u v) (hk : k + 3 ≤ 1536) : wpX_centre (fun r u' => wpY_centre (fun r' => r' = r ∧ i_Rel (k + 3) u' v) v) u := by
  refine rl_el (P := fun u v => wpX_centre (fun r u' => wpY_centre (fun r' => r' = r ∧ i_Rel (k + 3) u' v) v) u) ?_ I
  intro c gs bu sc wa ot ws ge ca cb st sl tr sf fo gn li mk pw al R
  have hw := R.2.2.2.2.2.1
  have hc := R.1
  have hgs := R.2.1
  have hge := R.2.2.1
  have hb := R.2.2.2.1
  have hgn := R.2.2.2.2.1
  obtain ⟨ls, m, L⟩ := R.2.2.2.2.2.2.2
  unfold wpX_centre
  dsimp only
  refine xw_ord hc hgs hge hb ?_
  intro ch sc' ca' cb' st' sl' V
  refine ⟨el_N ch 6 0 + 1, xl_centre hc hge V.1 V.2.1 ?_ (el_N ch 6 0) 0 (el_N ch 6 0 + 1) (by omega) (by omega)⟩
  rw [rl_ct hgs V L (Q := cw c gs) (Q' := cw c gs) (fun g _ => Iff.rfl)]
  exact yw_centre hw hc hgs hgn L.1 ⟨rfl, rl_mk (rl_b R V)⟩
theorem i_vc_commutative {k : Nat} {u : SX} {v : SY} (I : i_Rel k u v) (hk : k + 3 ≤ 1536) : wpX_commutative (fun r => wpY_commutative (fun r' => r' = r ∧ i_Rel (k + 3) u v) v) u := by
  refine rl_el (P := fun u v => wpX_commutative (fun r => wpY_commutative (fun r' => r' = r ∧ i_Rel (k + 3) u v) v) u) ?_ I
  intro c gs bu sc wa ot ws ge ca cb st sl tr sf fo gn li mk pw al R
  have hw := R.2.2.2.2.2.1
  have hc := R.1
  have hgs := R.2.1
  have hge := R.2.2.1
  have hb := R.2.2.2.1
  have hgn := R.2.2.2.2.1
  obtain ⟨ls, m, L⟩ := R.2.2.2.2.2.2.2
  have hl := L.1.2.1
  have hle := ct_le (Q := cw c gs) (ls := ls) m
  have hi := co_iff hgs L.2
  have hfo := L.1.1
  refine ⟨c + 1, xl_commu hc hge (fun hq => ?_) (fun hq => ?_) c 0 (c + 1) (by omega) (by omega) (fun _ h => absurd h (by omega))⟩
  · unfold wpY_commutative
    dsimp only
    refine yw_centre hw hc hgs hgn L.1 (br_t ?_ ⟨rfl, rl_mk R⟩)
    rw [hi.mpr hq, hfo]
  · unfold wpY_commutative
    dsimp only
    refine yw_centre hw hc hgs hgn L.1 (br_f ?_ ⟨rfl, rl_mk R⟩)
    rw [hfo]
    exact fun z => hq (hi.mp ((nI_eq (by omega) (by omega)).mp z))
theorem i_vc_carrier {k : Nat} {u : SX} {v : SY} (I : i_Rel k u v) (hk : k + 3 ≤ 1536) (v1 : Int32) (v2 : Int32) : wpX_carrier (fun r u' => wpY_carrier (fun r' => r' = r ∧ i_Rel (k + 3) u' v) v v1 v2) u v1 v2 := by
  refine rl_el (P := fun u v => wpX_carrier (fun r u' => wpY_carrier (fun r' => r' = r ∧ i_Rel (k + 3) u' v) v v1 v2) u v1 v2) ?_ I
  intro c gs bu sc wa ot ws ge ca cb st sl tr sf fo gn li mk pw al R
  have hw := R.2.2.2.2.2.1
  have hc := R.1
  have hgs := R.2.1
  have hge := R.2.2.1
  have hb := R.2.2.2.1
  have hgn := R.2.2.2.2.1
  obtain ⟨ls, m, L⟩ := R.2.2.2.2.2.2.2
  by_cases hx : ∃ x, x < 6 ∧ v1 = nI x
  · obtain ⟨x, hx, rfl⟩ := hx
    by_cases hy : ∃ y, y < 6 ∧ v2 = nI y
    · obtain ⟨y, hy, rfl⟩ := hy
      refine br_f (nI_pos (by omega)) (br_f (nI_ge (b := 6) hx (by decide)) (br_f (nI_pos (by omega)) (br_t (nI_lt (b := 6) hy (by decide)) (xw_ord hc hgs hge hb ?_))))
      intro ch sc' ca' cb' st' sl' V
      refine ⟨el_N ch 6 0 + 1, xl_carrier V.1 V.2.1 hx hy ?_ (el_N ch 6 0) 0 (el_N ch 6 0 + 1) none (by omega) (by omega) mn_0⟩
      intro o ho
      refine br_f (nI_pos (by omega)) (br_f (nI_nlt (a := 5) (by omega) (by decide)) (br_f (nI_pos (by omega)) (br_t (nI_le (b := 5) (by omega) (by decide)) ⟨m + 1, yl_carrier hw L.1 hx hy ?_ m 0 (m + 1) none (by omega) (by omega) mn_0⟩)))
      intro p hp
      exact ⟨congrArg mnV (mn_un (rl_in hgs V L) ho hp).symm, rl_mk (rl_b R V)⟩
    · have hf : wpY_carrier (fun r' => r' = -1 ∧ i_Rel (k + 3) (nI c, bu, sc, wa, ot, ws, ge, ca, cb, st, sl, tr, sf) (nI c, fo, gn, li, mk, pw, al)) (nI c, fo, gn, li, mk, pw, al) (nI x) v2 := by
        refine br_f (nI_pos (by omega)) (br_f (nI_nlt (a := 5) (by omega) (by decide)) (br_c (fun _ => ⟨rfl, rl_mk R⟩) (fun h0 => br_c (fun h1 => ?_) (fun _ => ⟨rfl, rl_mk R⟩))))
        obtain ⟨y, hy1, rfl⟩ := nI_of2 (x := v2) (M := 5) (n := 5) (by decide) h0 h1
        exact absurd ⟨y, by omega, rfl⟩ hy
      refine br_f (nI_pos (by omega)) (br_f (nI_ge (b := 6) hx (by decide)) (br_c (fun _ => hf) (fun h0 => br_c (fun h1 => ?_) (fun _ => hf))))
      obtain ⟨y, hy1, rfl⟩ := nI_of h0
      rw [show (6 : Int32) = nI 6 from rfl, nI_ltI hy1 (by omega)] at h1
      exact absurd ⟨y, h1, rfl⟩ hy
  · have hf : wpY_carrier (fun r' => r' = -1 ∧ i_Rel (k + 3) (nI c, bu, sc, wa, ot, ws, ge, ca, cb, st, sl, tr, sf) (nI c, fo, gn, li, mk, pw, al)) (nI c, fo, gn, li, mk, pw, al) v1 v2 := by
      refine br_c (fun _ => ⟨rfl, rl_mk R⟩) (fun h0 => br_c (fun _ => ⟨rfl, rl_mk R⟩) (fun h1 => ?_))
      obtain ⟨x, hx1, rfl⟩ := nI_of2 (x := v1) (M := 5) (n := 5) (by decide) h0 (Int32.not_lt.mp h1)
      exact absurd ⟨x, by omega, rfl⟩ hx
    refine br_c (fun _ => hf) (fun h0 => br_c (fun _ => hf) (fun h1 => ?_))
    obtain ⟨x, hx1, rfl⟩ := nI_of h0
    rw [show (6 : Int32) = nI 6 from rfl, nI_leI (by omega) hx1] at h1
    exact absurd ⟨x, by omega, rfl⟩ hx
theorem i_vc_normaliser {k : Nat} {u : SX} {v : SY} (I : i_Rel k u v) (hk : k + 3 ≤ 1536) : wpX_normaliser (fun r u' => wpY_normaliser (fun r' => r' = r ∧ i_Rel (k + 3) u' v) v) u := by
  refine rl_el (P := fun u v => wpX_normaliser (fun r u' => wpY_normaliser (fun r' => r' = r ∧ i_Rel (k + 3) u' v) v) u) ?_ I
  intro c gs bu sc wa ot ws ge ca cb st sl tr sf fo gn li mk pw al R
  have hw := R.2.2.2.2.2.1
  have hc := R.1
  have hgs := R.2.1
  have hge := R.2.2.1
  have hb := R.2.2.2.1
  have hgn := R.2.2.2.2.1
  obtain ⟨ls, m, L⟩ := R.2.2.2.2.2.2.2
  obtain ⟨as, A⟩ := R.2.2.2.2.2.2.1
  unfold wpX_normaliser
  dsimp only
  refine xw_build hc hgs hge hb ?_
  rintro sc' ca' cb' st' sl' ⟨ch, V⟩
  refine ⟨721, xl_nmr hc hgs hge V ?_ 720 0 721 rfl (by omega)⟩
  have hn : ∀ j k, j < 720 → k < 720 → np_nth j = np_nth k → j = k := by
    intro j k hj hk e
    rw [← (np_A hj).2.2, e, (np_A hk).2.2]
  have e : ct (nm (gr_G (gT c gs)) c gs) np_nth 720 = ct (nm (gr_G (gT c gs)) c gs) as 720 := by
    refine ct_eq hn A.2.1 ?_ (fun g _ => Iff.rfl)
    intro g
    rw [← A.2.2 g, ← np_al_mem, ← y_ls_mem]
    exact Iff.rfl
  rw [e]
  exact ⟨721, yl_nmr hw hc hgs hgn L A ⟨rfl, rl_mk (rl_b R V)⟩ 720 0 721 rfl (by omega)⟩
end

section
/-! pure rows to paste: stores, nI and lN arithmetic, masks, shifts, narrowing, branches by naturals (pk_le, pk_lt, pk_eq), loops (lp1 .. lp16: the measure of the state; rp1 ..: recursion), negatives. Take what you need -/
theorem pk_us {f : Nat → Int32} {k : Nat} {x : Int32} : upd f k x k = x := if_pos rfl
theorem pk_un {f : Nat → Int32} {k j : Nat} {x : Int32} (h : j ≠ k) : upd f k x j = f j := if_neg h
theorem pk_uLs {f : Nat → Int64} {k : Nat} {x : Int64} : vp_updL f k x k = x := if_pos rfl
theorem pk_uLn {f : Nat → Int64} {k j : Nat} {x : Int64} (h : j ≠ k) : vp_updL f k x j = f j := if_neg h
theorem pk_sub {a b : Nat} (h : b ≤ a) : nI a - nI b = nI (a - b) := by
  obtain ⟨c, rfl⟩ : ∃ c, a = c + b := ⟨a - b, by omega⟩
  rw [← nI_add, Int32.add_sub_cancel, Nat.add_sub_cancel]
theorem pk_m1 (n : Nat) : nI (n + 1) + (-1) = nI n := by
  rw [← nI_1, Int32.add_assoc, show (1 : Int32) + (-1) = 0 from rfl, Int32.add_zero]
theorem pk_mul (a b : Nat) : nI a * nI b = nI (a * b) := (Int32.ofNat_mul a b).symm
theorem pk_div {a d : Nat} (ha : a < 2 ^ 31) (h0 : 0 < d) (hd : d < 2 ^ 31) : nI a / nI d = nI (a / d) := by
  apply Int32.toInt_inj.mp
  rw [lg_idiv_nonneg (by rw [nI_toInt ha]; omega) (by rw [nI_toInt hd]; omega), nI_toInt ha, nI_toInt hd, nI_toInt (Nat.lt_of_le_of_lt (Nat.div_le_self a d) ha)]
  first | rfl | exact (Int.natCast_ediv _ _).symm
theorem pk_rem {a d : Nat} (ha : a < 2 ^ 31) (h0 : 0 < d) (hd : d < 2 ^ 31) : nI a - nI a / nI d * nI d = nI (a % d) := by
  rw [pk_div ha h0 hd, pk_mul, pk_sub (Nat.div_mul_le_self a d)]
  exact congrArg nI (by have := Nat.div_add_mod' a d; omega)
theorem pk_sub_toInt {a b : Nat} (ha : a < 2 ^ 30) (hb : b < 2 ^ 30) : (nI a - nI b).toInt = (a : Int) - b := by
  rw [Int32.toInt_sub, nI_toInt (by omega), nI_toInt (by omega)]
  exact Int.bmod_eq_of_le (by omega) (by omega)
theorem pk_sneg {a b : Nat} (hb : b < 2 ^ 30) (h : a < b) : nI a - nI b < 0 := by
  rw [Int32.lt_iff_toInt_lt, pk_sub_toInt (by omega) hb, show (0 : Int32).toInt = 0 from by decide]
  omega
theorem pk_ix (x : Int32) {n : Nat} (hn : n < 2 ^ 31) : x < 0 ∨ nI n ≤ x ∨ ∃ j : Nat, j < n ∧ x = nI j := by
  by_cases h : x < 0
  · exact Or.inl h
  · obtain ⟨j, hj, rfl⟩ := nI_of h
    by_cases h2 : j < n
    · exact Or.inr (Or.inr ⟨j, h2, rfl⟩)
    · exact Or.inr (Or.inl (nI_le (by omega) hj))
theorem pk_le {x y : Int32} {A B : Prop} (a b : Nat) (f : a ≤ b → A) (g : b < a → B) (hx : x = nI a := by rfl) (hy : y = nI b := by rfl) (ha : a < 2 ^ 31 := by omega) (hb : b < 2 ^ 31 := by omega) : (x ≤ y → A) ∧ (¬ x ≤ y → B) := by
  subst hx hy
  rw [nI_leI ha hb]
  exact ⟨f, fun z => g (by omega)⟩
theorem pk_lt {x y : Int32} {A B : Prop} (a b : Nat) (f : a < b → A) (g : b ≤ a → B) (hx : x = nI a := by rfl) (hy : y = nI b := by rfl) (ha : a < 2 ^ 31 := by omega) (hb : b < 2 ^ 31 := by omega) : (x < y → A) ∧ (¬ x < y → B) := by
  subst hx hy
  rw [nI_ltI ha hb]
  exact ⟨f, fun z => g (by omega)⟩
theorem pk_eq {x y : Int32} {A B : Prop} (a b : Nat) (f : a = b → A) (g : a ≠ b → B) (hx : x = nI a := by rfl) (hy : y = nI b := by rfl) (ha : a < 2 ^ 31 := by omega) (hb : b < 2 ^ 31 := by omega) : (x = y → A) ∧ (¬ x = y → B) := by
  subst hx hy
  rw [nI_eq ha hb]
  exact ⟨f, g⟩
theorem pk_in {x : Int32} (n N : Nat) (h : n < N) (hx : x = nI n := by rfl) (hN : N < 2 ^ 31 := by omega) : vp_in x N := by
  subst hx
  exact vp_in_nI h hN
theorem pk_cl {x : Int32} (n : Nat) (hx : x = nI n := by rfl) (h : n < 2 ^ 31 := by omega) : x.toNatClampNeg = n := by
  subst hx
  exact nI_clamp h
theorem pk_tn {n : Nat} (h : n < 2 ^ 32) : (nI n).toBitVec.toNat = n := Nat.mod_eq_of_lt h
theorem pk_and (x : Int32) {m : Int32} (k : Nat) (hm : m.toBitVec.toNat = 2 ^ k - 1) : x &&& m = nI (x.toBitVec.toNat % 2 ^ k) := by
  apply Int32.toBitVec_inj.mp
  apply BitVec.eq_of_toNat_eq
  rw [Int32.toBitVec_and, BitVec.toNat_and, hm, Nat.and_two_pow_sub_one_eq_mod]
  show _ = (BitVec.ofNat 32 _).toNat
  rw [BitVec.toNat_ofNat]
  exact (Nat.mod_eq_of_lt (Nat.lt_of_le_of_lt (Nat.mod_le _ _) x.toBitVec.isLt)).symm
theorem pk_andN {n : Nat} (h : n < 2 ^ 32) {m : Int32} (k : Nat) (hm : m.toBitVec.toNat = 2 ^ k - 1) : nI n &&& m = nI (n % 2 ^ k) := by
  rw [pk_and _ k hm, pk_tn h]
theorem pk_andE (x : Int32) {m : Int32} (k : Nat) (hm : m.toBitVec.toNat = 2 ^ k - 1) : ∃ j : Nat, j < 2 ^ k ∧ x &&& m = nI j := ⟨_, Nat.mod_lt _ (Nat.two_pow_pos k), pk_and x k hm⟩
theorem pk_andIn (x : Int32) {m : Int32} (k : Nat) (hm : m.toBitVec.toNat = 2 ^ k - 1) (hk : k ≤ 30) : vp_in (x &&& m) (2 ^ k) := by
  obtain ⟨j, hj, e⟩ := pk_andE x k hm
  rw [e]
  exact vp_in_nI hj (Nat.lt_of_le_of_lt (Nat.pow_le_pow_right (by decide) hk) (by decide))
theorem pk_shl (a s : Int32) (k : Nat) (hs : (s.toBitVec.smod 32).toNat = k) : (a <<< s).toBitVec.toNat = a.toBitVec.toNat * 2 ^ k % 2 ^ 32 := by
  show (a.toBitVec <<< (s.toBitVec.smod 32).toNat).toNat = _
  rw [hs, BitVec.toNat_shiftLeft, Nat.shiftLeft_eq]
theorem pk_shlN {n : Nat} (s : Int32) (k : Nat) (hs : (s.toBitVec.smod 32).toNat = k) (h : n * 2 ^ k < 2 ^ 32) : nI n <<< s = nI (n * 2 ^ k) := by
  apply Int32.toBitVec_inj.mp
  apply BitVec.eq_of_toNat_eq
  have hn : n < 2 ^ 32 := Nat.lt_of_le_of_lt (Nat.le_mul_of_pos_right n (Nat.two_pow_pos k)) h
  rw [pk_shl _ _ k hs, pk_tn hn, pk_tn h, Nat.mod_eq_of_lt h]
theorem pk_shr (a s : Int32) (k : Nat) (hs : (s.toBitVec.smod 32).toNat = k) : (a >>> s).toInt = a.toInt >>> k := by
  show (a.toBitVec.sshiftRight (s.toBitVec.smod 32).toNat).toInt = _
  rw [hs, BitVec.toInt_sshiftRight]
  rfl
theorem pk_shrN {n : Nat} (h : n < 2 ^ 31) (s : Int32) (k : Nat) (hs : (s.toBitVec.smod 32).toNat = k) : nI n >>> s = nI (n / 2 ^ k) := by
  apply Int32.toInt_inj.mp
  have h2 : n / 2 ^ k ≤ n := Nat.div_le_self _ _
  rw [pk_shr _ _ k hs, nI_toInt h, nI_toInt (by omega), Int.shiftRight_eq_div_pow]
  rfl
theorem pk_ushr (x s : Int32) (k : Nat) (hs : ((s.toUInt32 &&& Int32.toUInt32 31).toBitVec % 32).toNat = k) : (x.toUInt32 >>> (s.toUInt32 &&& Int32.toUInt32 31)).toInt32.toBitVec.toNat = x.toBitVec.toNat / 2 ^ k := by
  have e : (x.toUInt32 >>> (s.toUInt32 &&& Int32.toUInt32 31)).toInt32.toBitVec = x.toBitVec >>> k := by
    rw [← hs]
    exact UInt32.toBitVec_shiftRight _ _
  rw [e, BitVec.toNat_ushiftRight, Nat.shiftRight_eq_div_pow]
theorem pk_ushrN {n : Nat} (hn : n < 2 ^ 32) (s : Int32) (k : Nat) (hs : ((s.toUInt32 &&& Int32.toUInt32 31).toBitVec % 32).toNat = k) : ((nI n).toUInt32 >>> (s.toUInt32 &&& Int32.toUInt32 31)).toInt32 = nI (n / 2 ^ k) := by
  apply Int32.toBitVec_inj.mp
  apply BitVec.eq_of_toNat_eq
  rw [pk_ushr _ s k hs, pk_tn hn, pk_tn (Nat.lt_of_le_of_lt (Nat.div_le_self _ _) hn)]
theorem pk_nb (z : Int32) : narrow .byte (.int z.toInt8.toInt32) = .int z.toInt8.toInt32 := congrArg Value.int (by simp)
theorem pk_ns (z : Int32) : narrow .short (.int z.toInt16.toInt32) = .int z.toInt16.toInt32 := congrArg Value.int (by simp)
theorem pk_fb (r : Int32) : fits .byte (.int r.toInt8.toInt32) = true := by
  have ⟨a, b⟩ := lg_i2b_range r
  have h1 : (-128 : Int32).toInt = -128 := by decide
  have h2 : (127 : Int32).toInt = 127 := by decide
  simp only [fits, Bool.and_eq_true, decide_eq_true_eq, Int32.le_iff_toInt_le, h1, h2]
  omega
theorem pk_fs (r : Int32) : fits .short (.int r.toInt16.toInt32) = true := by
  have ⟨a, b⟩ := lg_i2s_range r
  have h1 : (-32768 : Int32).toInt = -32768 := by decide
  have h2 : (32767 : Int32).toInt = 32767 := by decide
  simp only [fits, Bool.and_eq_true, decide_eq_true_eq, Int32.le_iff_toInt_le, h1, h2]
  omega
theorem pk_charN {q : Nat} (hq : q < 65536) : narrow .char (.int (nI q)) = .int (nI q) ∧ fits .char (.int (nI q)) = true := by
  constructor
  · have e : (nI q).toUInt32.toUInt16.toUInt32.toInt32 = nI q := by
      apply Int32.toBitVec_inj.mp
      apply BitVec.eq_of_toNat_eq
      show (nI q).toUInt32.toUInt16.toUInt32.toNat = q % 2 ^ 32
      rw [UInt16.toNat_toUInt32, UInt32.toNat_toUInt16, show (nI q).toUInt32.toNat = q % 2 ^ 32 from rfl]
      omega
    exact congrArg Value.int e
  · have a : (0 : Int32) ≤ nI q := nI_pos' (by omega)
    have b : nI q ≤ 65535 := nI_le (b := 65535) (by omega) (by decide)
    show (decide ((0 : Int32) ≤ nI q) && decide (nI q ≤ 65535)) = true
    rw [decide_eq_true a, decide_eq_true b]
    rfl
theorem pk_char (x : Int32) : (x.toUInt32 % 65536).toInt32 = nI (x.toBitVec.toNat % 65536) := by
  apply Int32.toBitVec_inj.mp
  apply BitVec.eq_of_toNat_eq
  rw [pk_tn (by omega)]
  show (x.toUInt32 % 65536).toNat = _
  rw [UInt32.toNat_mod]
  rfl
theorem pk_nc (x : Int32) : narrow .char (.int (x.toUInt32 % 65536).toInt32) = .int (x.toUInt32 % 65536).toInt32 := by
  rw [pk_char]
  exact (pk_charN (Nat.mod_lt _ (by decide))).1
theorem pk_fc (x : Int32) : fits .char (.int (x.toUInt32 % 65536).toInt32) = true := by
  rw [pk_char]
  exact (pk_charN (Nat.mod_lt _ (by decide))).2
theorem pk_vb (z : Int32) : vp_nar .byte z.toInt8.toInt32 = z.toInt8.toInt32 := by rw [vp_nar_byte]; simp
theorem pk_vs (z : Int32) : vp_nar .short z.toInt16.toInt32 = z.toInt16.toInt32 := by rw [vp_nar_short]; simp
theorem pk_vc (z : Int32) : vp_nar .char (z.toUInt32 % 65536).toInt32 = (z.toUInt32 % 65536).toInt32 := Value.int.inj (pk_nc z)
theorem pk_lT {n : Nat} (h : n < 2 ^ 63) : (lN n).toInt = (n : Int) := lg_ofNat_toInt h
theorem pk_lLT {a b : Nat} (ha : a < 2 ^ 63) (hb : b < 2 ^ 63) : lN a < lN b ↔ a < b := by
  rw [Int64.lt_iff_toInt_lt, pk_lT ha, pk_lT hb]; omega
theorem pk_lLE {a b : Nat} (ha : a < 2 ^ 63) (hb : b < 2 ^ 63) : lN a ≤ lN b ↔ a ≤ b := by
  rw [Int64.le_iff_toInt_le, pk_lT ha, pk_lT hb]; omega
theorem pk_lEQ {a b : Nat} (ha : a < 2 ^ 63) (hb : b < 2 ^ 63) : lN a = lN b ↔ a = b := by
  rw [← Int64.toInt_inj, pk_lT ha, pk_lT hb]; omega
theorem pk_lOf {x : Int64} (h : ¬ x < 0) : ∃ k : Nat, k < 2 ^ 63 ∧ x = lN k := by
  rw [Int64.lt_iff_toInt_lt] at h
  have h0 : (0 : Int64).toInt = 0 := by decide
  have hx := Int64.toInt_lt x
  refine ⟨x.toInt.toNat, by omega, Int64.toInt_inj.mp ?_⟩
  rw [pk_lT (by omega)]
  omega
theorem pk_lDiv {a b : Nat} (ha : a < 2 ^ 63) (h0 : 0 < b) (hb : b < 2 ^ 63) : lN a / lN b = lN (a / b) := by
  apply Int64.toInt_inj.mp
  rw [lg_ldiv_nonneg (by rw [pk_lT ha]; omega) (by rw [pk_lT hb]; omega), pk_lT ha, pk_lT hb, pk_lT (Nat.lt_of_le_of_lt (Nat.div_le_self a b) ha)]
  rfl
theorem pk_lRem {a b : Nat} (ha : a < 2 ^ 63) (h0 : 0 < b) (hb : b < 2 ^ 63) : lN a - lN a / lN b * lN b = lN (a % b) := by
  rw [pk_lDiv ha h0 hb, lN_mul, lN_sub (Nat.div_mul_le_self a b)]
  exact congrArg lN (by have := Nat.div_add_mod' a b; omega)
theorem pk_loop {σ : Type} (W : Nat → Nat → σ → Prop) (I : Nat → σ → Prop) (e i0 : Nat) (s : σ) (hi : i0 ≤ e) (h0 : I i0 s) (hx : ∀ n s, I e s → W (n + 1) e s)
    (hs : ∀ n i s, i < e → I i s → (∀ s', I (i + 1) s' → W n (i + 1) s') → W (n + 1) i s) : ∃ n, W n i0 s :=
  ⟨e + 1, loop_i W I e hx hs (e + 1) i0 s hi (by omega) h0⟩
theorem pk_loopD {σ : Type} (W : Nat → Nat → σ → Prop) (I : Nat → σ → Prop) (hx : ∀ n s, I 0 s → W (n + 1) 0 s)
    (hs : ∀ n i s, I (i + 1) s → (∀ s', I i s' → W n i s') → W (n + 1) (i + 1) s) : ∀ (e : Nat) (s : σ), I e s → W (e + 1) e s := by
  intro e
  induction e with
  | zero => exact fun s h => hx 0 s h
  | succ e ih => exact fun s h => hs (e + 1) e s h (fun s' h' => ih s' h')
theorem lp1 {A1 : Type} (W : Nat → A1 → Prop) (I : A1 → Prop) (μ : A1 → Nat) (hs : ∀ (n : Nat) (a1 : A1), I a1 → (∀ (b1 : A1), I b1 → μ b1 < μ a1 → W n b1) → W (n + 1) a1) (a1 : A1) (h : I a1) : ∃ n, W n a1 :=
  loop_m (σ := A1) (fun n s => W n s) (fun s => I s) (fun s => μ s) (fun n s hI hk => hs n s hI (fun b1 h9 hm => hk b1 h9 hm)) a1 h
theorem lp2 {A1 A2 : Type} (W : Nat → A1 → A2 → Prop) (I : A1 → A2 → Prop) (μ : A1 → A2 → Nat) (hs : ∀ (n : Nat) (a1 : A1) (a2 : A2), I a1 a2 → (∀ (b1 : A1) (b2 : A2), I b1 b2 → μ b1 b2 < μ a1 a2 → W n b1 b2) → W (n + 1) a1 a2) (a1 : A1) (a2 : A2) (h : I a1 a2) : ∃ n, W n a1 a2 :=
  loop_m (σ := A1 × A2) (fun n s => W n s.1 s.2) (fun s => I s.1 s.2) (fun s => μ s.1 s.2) (fun n s hI hk => hs n s.1 s.2 hI (fun b1 b2 h9 hm => hk (b1, b2) h9 hm)) (a1, a2) h
theorem lp3 {A1 A2 A3 : Type} (W : Nat → A1 → A2 → A3 → Prop) (I : A1 → A2 → A3 → Prop) (μ : A1 → A2 → A3 → Nat) (hs : ∀ (n : Nat) (a1 : A1) (a2 : A2) (a3 : A3), I a1 a2 a3 → (∀ (b1 : A1) (b2 : A2) (b3 : A3), I b1 b2 b3 → μ b1 b2 b3 < μ a1 a2 a3 → W n b1 b2 b3) → W (n + 1) a1 a2 a3) (a1 : A1) (a2 : A2) (a3 : A3) (h : I a1 a2 a3) : ∃ n, W n a1 a2 a3 :=
  loop_m (σ := A1 × A2 × A3) (fun n s => W n s.1 s.2.1 s.2.2) (fun s => I s.1 s.2.1 s.2.2) (fun s => μ s.1 s.2.1 s.2.2) (fun n s hI hk => hs n s.1 s.2.1 s.2.2 hI (fun b1 b2 b3 h9 hm => hk (b1, b2, b3) h9 hm)) (a1, a2, a3) h
theorem lp4 {A1 A2 A3 A4 : Type} (W : Nat → A1 → A2 → A3 → A4 → Prop) (I : A1 → A2 → A3 → A4 → Prop) (μ : A1 → A2 → A3 → A4 → Nat) (hs : ∀ (n : Nat) (a1 : A1) (a2 : A2) (a3 : A3) (a4 : A4), I a1 a2 a3 a4 → (∀ (b1 : A1) (b2 : A2) (b3 : A3) (b4 : A4), I b1 b2 b3 b4 → μ b1 b2 b3 b4 < μ a1 a2 a3 a4 → W n b1 b2 b3 b4) → W (n + 1) a1 a2 a3 a4) (a1 : A1) (a2 : A2) (a3 : A3) (a4 : A4) (h : I a1 a2 a3 a4) : ∃ n, W n a1 a2 a3 a4 :=
  loop_m (σ := A1 × A2 × A3 × A4) (fun n s => W n s.1 s.2.1 s.2.2.1 s.2.2.2) (fun s => I s.1 s.2.1 s.2.2.1 s.2.2.2) (fun s => μ s.1 s.2.1 s.2.2.1 s.2.2.2) (fun n s hI hk => hs n s.1 s.2.1 s.2.2.1 s.2.2.2 hI (fun b1 b2 b3 b4 h9 hm => hk (b1, b2, b3, b4) h9 hm)) (a1, a2, a3, a4) h
theorem lp5 {A1 A2 A3 A4 A5 : Type} (W : Nat → A1 → A2 → A3 → A4 → A5 → Prop) (I : A1 → A2 → A3 → A4 → A5 → Prop) (μ : A1 → A2 → A3 → A4 → A5 → Nat) (hs : ∀ (n : Nat) (a1 : A1) (a2 : A2) (a3 : A3) (a4 : A4) (a5 : A5), I a1 a2 a3 a4 a5 → (∀ (b1 : A1) (b2 : A2) (b3 : A3) (b4 : A4) (b5 : A5), I b1 b2 b3 b4 b5 → μ b1 b2 b3 b4 b5 < μ a1 a2 a3 a4 a5 → W n b1 b2 b3 b4 b5) → W (n + 1) a1 a2 a3 a4 a5) (a1 : A1) (a2 : A2) (a3 : A3) (a4 : A4) (a5 : A5) (h : I a1 a2 a3 a4 a5) : ∃ n, W n a1 a2 a3 a4 a5 :=
  loop_m (σ := A1 × A2 × A3 × A4 × A5) (fun n s => W n s.1 s.2.1 s.2.2.1 s.2.2.2.1 s.2.2.2.2) (fun s => I s.1 s.2.1 s.2.2.1 s.2.2.2.1 s.2.2.2.2) (fun s => μ s.1 s.2.1 s.2.2.1 s.2.2.2.1 s.2.2.2.2) (fun n s hI hk => hs n s.1 s.2.1 s.2.2.1 s.2.2.2.1 s.2.2.2.2 hI (fun b1 b2 b3 b4 b5 h9 hm => hk (b1, b2, b3, b4, b5) h9 hm)) (a1, a2, a3, a4, a5) h
theorem lp6 {A1 A2 A3 A4 A5 A6 : Type} (W : Nat → A1 → A2 → A3 → A4 → A5 → A6 → Prop) (I : A1 → A2 → A3 → A4 → A5 → A6 → Prop) (μ : A1 → A2 → A3 → A4 → A5 → A6 → Nat) (hs : ∀ (n : Nat) (a1 : A1) (a2 : A2) (a3 : A3) (a4 : A4) (a5 : A5) (a6 : A6), I a1 a2 a3 a4 a5 a6 → (∀ (b1 : A1) (b2 : A2) (b3 : A3) (b4 : A4) (b5 : A5) (b6 : A6), I b1 b2 b3 b4 b5 b6 → μ b1 b2 b3 b4 b5 b6 < μ a1 a2 a3 a4 a5 a6 → W n b1 b2 b3 b4 b5 b6) → W (n + 1) a1 a2 a3 a4 a5 a6) (a1 : A1) (a2 : A2) (a3 : A3) (a4 : A4) (a5 : A5) (a6 : A6) (h : I a1 a2 a3 a4 a5 a6) : ∃ n, W n a1 a2 a3 a4 a5 a6 :=
  loop_m (σ := A1 × A2 × A3 × A4 × A5 × A6) (fun n s => W n s.1 s.2.1 s.2.2.1 s.2.2.2.1 s.2.2.2.2.1 s.2.2.2.2.2) (fun s => I s.1 s.2.1 s.2.2.1 s.2.2.2.1 s.2.2.2.2.1 s.2.2.2.2.2) (fun s => μ s.1 s.2.1 s.2.2.1 s.2.2.2.1 s.2.2.2.2.1 s.2.2.2.2.2) (fun n s hI hk => hs n s.1 s.2.1 s.2.2.1 s.2.2.2.1 s.2.2.2.2.1 s.2.2.2.2.2 hI (fun b1 b2 b3 b4 b5 b6 h9 hm => hk (b1, b2, b3, b4, b5, b6) h9 hm)) (a1, a2, a3, a4, a5, a6) h
theorem lp7 {A1 A2 A3 A4 A5 A6 A7 : Type} (W : Nat → A1 → A2 → A3 → A4 → A5 → A6 → A7 → Prop) (I : A1 → A2 → A3 → A4 → A5 → A6 → A7 → Prop) (μ : A1 → A2 → A3 → A4 → A5 → A6 → A7 → Nat) (hs : ∀ (n : Nat) (a1 : A1) (a2 : A2) (a3 : A3) (a4 : A4) (a5 : A5) (a6 : A6) (a7 : A7), I a1 a2 a3 a4 a5 a6 a7 → (∀ (b1 : A1) (b2 : A2) (b3 : A3) (b4 : A4) (b5 : A5) (b6 : A6) (b7 : A7), I b1 b2 b3 b4 b5 b6 b7 → μ b1 b2 b3 b4 b5 b6 b7 < μ a1 a2 a3 a4 a5 a6 a7 → W n b1 b2 b3 b4 b5 b6 b7) → W (n + 1) a1 a2 a3 a4 a5 a6 a7) (a1 : A1) (a2 : A2) (a3 : A3) (a4 : A4) (a5 : A5) (a6 : A6) (a7 : A7) (h : I a1 a2 a3 a4 a5 a6 a7) : ∃ n, W n a1 a2 a3 a4 a5 a6 a7 :=
  loop_m (σ := A1 × A2 × A3 × A4 × A5 × A6 × A7) (fun n s => W n s.1 s.2.1 s.2.2.1 s.2.2.2.1 s.2.2.2.2.1 s.2.2.2.2.2.1 s.2.2.2.2.2.2) (fun s => I s.1 s.2.1 s.2.2.1 s.2.2.2.1 s.2.2.2.2.1 s.2.2.2.2.2.1 s.2.2.2.2.2.2) (fun s => μ s.1 s.2.1 s.2.2.1 s.2.2.2.1 s.2.2.2.2.1 s.2.2.2.2.2.1 s.2.2.2.2.2.2) (fun n s hI hk => hs n s.1 s.2.1 s.2.2.1 s.2.2.2.1 s.2.2.2.2.1 s.2.2.2.2.2.1 s.2.2.2.2.2.2 hI (fun b1 b2 b3 b4 b5 b6 b7 h9 hm => hk (b1, b2, b3, b4, b5, b6, b7) h9 hm)) (a1, a2, a3, a4, a5, a6, a7) h
theorem lp8 {A1 A2 A3 A4 A5 A6 A7 A8 : Type} (W : Nat → A1 → A2 → A3 → A4 → A5 → A6 → A7 → A8 → Prop) (I : A1 → A2 → A3 → A4 → A5 → A6 → A7 → A8 → Prop) (μ : A1 → A2 → A3 → A4 → A5 → A6 → A7 → A8 → Nat) (hs : ∀ (n : Nat) (a1 : A1) (a2 : A2) (a3 : A3) (a4 : A4) (a5 : A5) (a6 : A6) (a7 : A7) (a8 : A8), I a1 a2 a3 a4 a5 a6 a7 a8 → (∀ (b1 : A1) (b2 : A2) (b3 : A3) (b4 : A4) (b5 : A5) (b6 : A6) (b7 : A7) (b8 : A8), I b1 b2 b3 b4 b5 b6 b7 b8 → μ b1 b2 b3 b4 b5 b6 b7 b8 < μ a1 a2 a3 a4 a5 a6 a7 a8 → W n b1 b2 b3 b4 b5 b6 b7 b8) → W (n + 1) a1 a2 a3 a4 a5 a6 a7 a8) (a1 : A1) (a2 : A2) (a3 : A3) (a4 : A4) (a5 : A5) (a6 : A6) (a7 : A7) (a8 : A8) (h : I a1 a2 a3 a4 a5 a6 a7 a8) : ∃ n, W n a1 a2 a3 a4 a5 a6 a7 a8 :=
  loop_m (σ := A1 × A2 × A3 × A4 × A5 × A6 × A7 × A8) (fun n s => W n s.1 s.2.1 s.2.2.1 s.2.2.2.1 s.2.2.2.2.1 s.2.2.2.2.2.1 s.2.2.2.2.2.2.1 s.2.2.2.2.2.2.2) (fun s => I s.1 s.2.1 s.2.2.1 s.2.2.2.1 s.2.2.2.2.1 s.2.2.2.2.2.1 s.2.2.2.2.2.2.1 s.2.2.2.2.2.2.2) (fun s => μ s.1 s.2.1 s.2.2.1 s.2.2.2.1 s.2.2.2.2.1 s.2.2.2.2.2.1 s.2.2.2.2.2.2.1 s.2.2.2.2.2.2.2) (fun n s hI hk => hs n s.1 s.2.1 s.2.2.1 s.2.2.2.1 s.2.2.2.2.1 s.2.2.2.2.2.1 s.2.2.2.2.2.2.1 s.2.2.2.2.2.2.2 hI (fun b1 b2 b3 b4 b5 b6 b7 b8 h9 hm => hk (b1, b2, b3, b4, b5, b6, b7, b8) h9 hm)) (a1, a2, a3, a4, a5, a6, a7, a8) h
theorem lp9 {A1 A2 A3 A4 A5 A6 A7 A8 A9 : Type} (W : Nat → A1 → A2 → A3 → A4 → A5 → A6 → A7 → A8 → A9 → Prop) (I : A1 → A2 → A3 → A4 → A5 → A6 → A7 → A8 → A9 → Prop) (μ : A1 → A2 → A3 → A4 → A5 → A6 → A7 → A8 → A9 → Nat) (hs : ∀ (n : Nat) (a1 : A1) (a2 : A2) (a3 : A3) (a4 : A4) (a5 : A5) (a6 : A6) (a7 : A7) (a8 : A8) (a9 : A9), I a1 a2 a3 a4 a5 a6 a7 a8 a9 → (∀ (b1 : A1) (b2 : A2) (b3 : A3) (b4 : A4) (b5 : A5) (b6 : A6) (b7 : A7) (b8 : A8) (b9 : A9), I b1 b2 b3 b4 b5 b6 b7 b8 b9 → μ b1 b2 b3 b4 b5 b6 b7 b8 b9 < μ a1 a2 a3 a4 a5 a6 a7 a8 a9 → W n b1 b2 b3 b4 b5 b6 b7 b8 b9) → W (n + 1) a1 a2 a3 a4 a5 a6 a7 a8 a9) (a1 : A1) (a2 : A2) (a3 : A3) (a4 : A4) (a5 : A5) (a6 : A6) (a7 : A7) (a8 : A8) (a9 : A9) (h : I a1 a2 a3 a4 a5 a6 a7 a8 a9) : ∃ n, W n a1 a2 a3 a4 a5 a6 a7 a8 a9 :=
  loop_m (σ := A1 × A2 × A3 × A4 × A5 × A6 × A7 × A8 × A9) (fun n s => W n s.1 s.2.1 s.2.2.1 s.2.2.2.1 s.2.2.2.2.1 s.2.2.2.2.2.1 s.2.2.2.2.2.2.1 s.2.2.2.2.2.2.2.1 s.2.2.2.2.2.2.2.2) (fun s => I s.1 s.2.1 s.2.2.1 s.2.2.2.1 s.2.2.2.2.1 s.2.2.2.2.2.1 s.2.2.2.2.2.2.1 s.2.2.2.2.2.2.2.1 s.2.2.2.2.2.2.2.2) (fun s => μ s.1 s.2.1 s.2.2.1 s.2.2.2.1 s.2.2.2.2.1 s.2.2.2.2.2.1 s.2.2.2.2.2.2.1 s.2.2.2.2.2.2.2.1 s.2.2.2.2.2.2.2.2) (fun n s hI hk => hs n s.1 s.2.1 s.2.2.1 s.2.2.2.1 s.2.2.2.2.1 s.2.2.2.2.2.1 s.2.2.2.2.2.2.1 s.2.2.2.2.2.2.2.1 s.2.2.2.2.2.2.2.2 hI (fun b1 b2 b3 b4 b5 b6 b7 b8 b9 h9 hm => hk (b1, b2, b3, b4, b5, b6, b7, b8, b9) h9 hm)) (a1, a2, a3, a4, a5, a6, a7, a8, a9) h
theorem lp10 {A1 A2 A3 A4 A5 A6 A7 A8 A9 A10 : Type} (W : Nat → A1 → A2 → A3 → A4 → A5 → A6 → A7 → A8 → A9 → A10 → Prop) (I : A1 → A2 → A3 → A4 → A5 → A6 → A7 → A8 → A9 → A10 → Prop) (μ : A1 → A2 → A3 → A4 → A5 → A6 → A7 → A8 → A9 → A10 → Nat) (hs : ∀ (n : Nat) (a1 : A1) (a2 : A2) (a3 : A3) (a4 : A4) (a5 : A5) (a6 : A6) (a7 : A7) (a8 : A8) (a9 : A9) (a10 : A10), I a1 a2 a3 a4 a5 a6 a7 a8 a9 a10 → (∀ (b1 : A1) (b2 : A2) (b3 : A3) (b4 : A4) (b5 : A5) (b6 : A6) (b7 : A7) (b8 : A8) (b9 : A9) (b10 : A10), I b1 b2 b3 b4 b5 b6 b7 b8 b9 b10 → μ b1 b2 b3 b4 b5 b6 b7 b8 b9 b10 < μ a1 a2 a3 a4 a5 a6 a7 a8 a9 a10 → W n b1 b2 b3 b4 b5 b6 b7 b8 b9 b10) → W (n + 1) a1 a2 a3 a4 a5 a6 a7 a8 a9 a10) (a1 : A1) (a2 : A2) (a3 : A3) (a4 : A4) (a5 : A5) (a6 : A6) (a7 : A7) (a8 : A8) (a9 : A9) (a10 : A10) (h : I a1 a2 a3 a4 a5 a6 a7 a8 a9 a10) : ∃ n, W n a1 a2 a3 a4 a5 a6 a7 a8 a9 a10 :=
  loop_m (σ := A1 × A2 × A3 × A4 × A5 × A6 × A7 × A8 × A9 × A10) (fun n s => W n s.1 s.2.1 s.2.2.1 s.2.2.2.1 s.2.2.2.2.1 s.2.2.2.2.2.1 s.2.2.2.2.2.2.1 s.2.2.2.2.2.2.2.1 s.2.2.2.2.2.2.2.2.1 s.2.2.2.2.2.2.2.2.2) (fun s => I s.1 s.2.1 s.2.2.1 s.2.2.2.1 s.2.2.2.2.1 s.2.2.2.2.2.1 s.2.2.2.2.2.2.1 s.2.2.2.2.2.2.2.1 s.2.2.2.2.2.2.2.2.1 s.2.2.2.2.2.2.2.2.2) (fun s => μ s.1 s.2.1 s.2.2.1 s.2.2.2.1 s.2.2.2.2.1 s.2.2.2.2.2.1 s.2.2.2.2.2.2.1 s.2.2.2.2.2.2.2.1 s.2.2.2.2.2.2.2.2.1 s.2.2.2.2.2.2.2.2.2) (fun n s hI hk => hs n s.1 s.2.1 s.2.2.1 s.2.2.2.1 s.2.2.2.2.1 s.2.2.2.2.2.1 s.2.2.2.2.2.2.1 s.2.2.2.2.2.2.2.1 s.2.2.2.2.2.2.2.2.1 s.2.2.2.2.2.2.2.2.2 hI (fun b1 b2 b3 b4 b5 b6 b7 b8 b9 b10 h9 hm => hk (b1, b2, b3, b4, b5, b6, b7, b8, b9, b10) h9 hm)) (a1, a2, a3, a4, a5, a6, a7, a8, a9, a10) h
theorem lp11 {A1 A2 A3 A4 A5 A6 A7 A8 A9 A10 A11 : Type} (W : Nat → A1 → A2 → A3 → A4 → A5 → A6 → A7 → A8 → A9 → A10 → A11 → Prop) (I : A1 → A2 → A3 → A4 → A5 → A6 → A7 → A8 → A9 → A10 → A11 → Prop) (μ : A1 → A2 → A3 → A4 → A5 → A6 → A7 → A8 → A9 → A10 → A11 → Nat) (hs : ∀ (n : Nat) (a1 : A1) (a2 : A2) (a3 : A3) (a4 : A4) (a5 : A5) (a6 : A6) (a7 : A7) (a8 : A8) (a9 : A9) (a10 : A10) (a11 : A11), I a1 a2 a3 a4 a5 a6 a7 a8 a9 a10 a11 → (∀ (b1 : A1) (b2 : A2) (b3 : A3) (b4 : A4) (b5 : A5) (b6 : A6) (b7 : A7) (b8 : A8) (b9 : A9) (b10 : A10) (b11 : A11), I b1 b2 b3 b4 b5 b6 b7 b8 b9 b10 b11 → μ b1 b2 b3 b4 b5 b6 b7 b8 b9 b10 b11 < μ a1 a2 a3 a4 a5 a6 a7 a8 a9 a10 a11 → W n b1 b2 b3 b4 b5 b6 b7 b8 b9 b10 b11) → W (n + 1) a1 a2 a3 a4 a5 a6 a7 a8 a9 a10 a11) (a1 : A1) (a2 : A2) (a3 : A3) (a4 : A4) (a5 : A5) (a6 : A6) (a7 : A7) (a8 : A8) (a9 : A9) (a10 : A10) (a11 : A11) (h : I a1 a2 a3 a4 a5 a6 a7 a8 a9 a10 a11) : ∃ n, W n a1 a2 a3 a4 a5 a6 a7 a8 a9 a10 a11 :=
  loop_m (σ := A1 × A2 × A3 × A4 × A5 × A6 × A7 × A8 × A9 × A10 × A11) (fun n s => W n s.1 s.2.1 s.2.2.1 s.2.2.2.1 s.2.2.2.2.1 s.2.2.2.2.2.1 s.2.2.2.2.2.2.1 s.2.2.2.2.2.2.2.1 s.2.2.2.2.2.2.2.2.1 s.2.2.2.2.2.2.2.2.2.1 s.2.2.2.2.2.2.2.2.2.2) (fun s => I s.1 s.2.1 s.2.2.1 s.2.2.2.1 s.2.2.2.2.1 s.2.2.2.2.2.1 s.2.2.2.2.2.2.1 s.2.2.2.2.2.2.2.1 s.2.2.2.2.2.2.2.2.1 s.2.2.2.2.2.2.2.2.2.1 s.2.2.2.2.2.2.2.2.2.2) (fun s => μ s.1 s.2.1 s.2.2.1 s.2.2.2.1 s.2.2.2.2.1 s.2.2.2.2.2.1 s.2.2.2.2.2.2.1 s.2.2.2.2.2.2.2.1 s.2.2.2.2.2.2.2.2.1 s.2.2.2.2.2.2.2.2.2.1 s.2.2.2.2.2.2.2.2.2.2) (fun n s hI hk => hs n s.1 s.2.1 s.2.2.1 s.2.2.2.1 s.2.2.2.2.1 s.2.2.2.2.2.1 s.2.2.2.2.2.2.1 s.2.2.2.2.2.2.2.1 s.2.2.2.2.2.2.2.2.1 s.2.2.2.2.2.2.2.2.2.1 s.2.2.2.2.2.2.2.2.2.2 hI (fun b1 b2 b3 b4 b5 b6 b7 b8 b9 b10 b11 h9 hm => hk (b1, b2, b3, b4, b5, b6, b7, b8, b9, b10, b11) h9 hm)) (a1, a2, a3, a4, a5, a6, a7, a8, a9, a10, a11) h
theorem lp12 {A1 A2 A3 A4 A5 A6 A7 A8 A9 A10 A11 A12 : Type} (W : Nat → A1 → A2 → A3 → A4 → A5 → A6 → A7 → A8 → A9 → A10 → A11 → A12 → Prop) (I : A1 → A2 → A3 → A4 → A5 → A6 → A7 → A8 → A9 → A10 → A11 → A12 → Prop) (μ : A1 → A2 → A3 → A4 → A5 → A6 → A7 → A8 → A9 → A10 → A11 → A12 → Nat) (hs : ∀ (n : Nat) (a1 : A1) (a2 : A2) (a3 : A3) (a4 : A4) (a5 : A5) (a6 : A6) (a7 : A7) (a8 : A8) (a9 : A9) (a10 : A10) (a11 : A11) (a12 : A12), I a1 a2 a3 a4 a5 a6 a7 a8 a9 a10 a11 a12 → (∀ (b1 : A1) (b2 : A2) (b3 : A3) (b4 : A4) (b5 : A5) (b6 : A6) (b7 : A7) (b8 : A8) (b9 : A9) (b10 : A10) (b11 : A11) (b12 : A12), I b1 b2 b3 b4 b5 b6 b7 b8 b9 b10 b11 b12 → μ b1 b2 b3 b4 b5 b6 b7 b8 b9 b10 b11 b12 < μ a1 a2 a3 a4 a5 a6 a7 a8 a9 a10 a11 a12 → W n b1 b2 b3 b4 b5 b6 b7 b8 b9 b10 b11 b12) → W (n + 1) a1 a2 a3 a4 a5 a6 a7 a8 a9 a10 a11 a12) (a1 : A1) (a2 : A2) (a3 : A3) (a4 : A4) (a5 : A5) (a6 : A6) (a7 : A7) (a8 : A8) (a9 : A9) (a10 : A10) (a11 : A11) (a12 : A12) (h : I a1 a2 a3 a4 a5 a6 a7 a8 a9 a10 a11 a12) : ∃ n, W n a1 a2 a3 a4 a5 a6 a7 a8 a9 a10 a11 a12 :=
  loop_m (σ := A1 × A2 × A3 × A4 × A5 × A6 × A7 × A8 × A9 × A10 × A11 × A12) (fun n s => W n s.1 s.2.1 s.2.2.1 s.2.2.2.1 s.2.2.2.2.1 s.2.2.2.2.2.1 s.2.2.2.2.2.2.1 s.2.2.2.2.2.2.2.1 s.2.2.2.2.2.2.2.2.1 s.2.2.2.2.2.2.2.2.2.1 s.2.2.2.2.2.2.2.2.2.2.1 s.2.2.2.2.2.2.2.2.2.2.2) (fun s => I s.1 s.2.1 s.2.2.1 s.2.2.2.1 s.2.2.2.2.1 s.2.2.2.2.2.1 s.2.2.2.2.2.2.1 s.2.2.2.2.2.2.2.1 s.2.2.2.2.2.2.2.2.1 s.2.2.2.2.2.2.2.2.2.1 s.2.2.2.2.2.2.2.2.2.2.1 s.2.2.2.2.2.2.2.2.2.2.2) (fun s => μ s.1 s.2.1 s.2.2.1 s.2.2.2.1 s.2.2.2.2.1 s.2.2.2.2.2.1 s.2.2.2.2.2.2.1 s.2.2.2.2.2.2.2.1 s.2.2.2.2.2.2.2.2.1 s.2.2.2.2.2.2.2.2.2.1 s.2.2.2.2.2.2.2.2.2.2.1 s.2.2.2.2.2.2.2.2.2.2.2) (fun n s hI hk => hs n s.1 s.2.1 s.2.2.1 s.2.2.2.1 s.2.2.2.2.1 s.2.2.2.2.2.1 s.2.2.2.2.2.2.1 s.2.2.2.2.2.2.2.1 s.2.2.2.2.2.2.2.2.1 s.2.2.2.2.2.2.2.2.2.1 s.2.2.2.2.2.2.2.2.2.2.1 s.2.2.2.2.2.2.2.2.2.2.2 hI (fun b1 b2 b3 b4 b5 b6 b7 b8 b9 b10 b11 b12 h9 hm => hk (b1, b2, b3, b4, b5, b6, b7, b8, b9, b10, b11, b12) h9 hm)) (a1, a2, a3, a4, a5, a6, a7, a8, a9, a10, a11, a12) h
theorem lp13 {A1 A2 A3 A4 A5 A6 A7 A8 A9 A10 A11 A12 A13 : Type} (W : Nat → A1 → A2 → A3 → A4 → A5 → A6 → A7 → A8 → A9 → A10 → A11 → A12 → A13 → Prop) (I : A1 → A2 → A3 → A4 → A5 → A6 → A7 → A8 → A9 → A10 → A11 → A12 → A13 → Prop) (μ : A1 → A2 → A3 → A4 → A5 → A6 → A7 → A8 → A9 → A10 → A11 → A12 → A13 → Nat) (hs : ∀ (n : Nat) (a1 : A1) (a2 : A2) (a3 : A3) (a4 : A4) (a5 : A5) (a6 : A6) (a7 : A7) (a8 : A8) (a9 : A9) (a10 : A10) (a11 : A11) (a12 : A12) (a13 : A13), I a1 a2 a3 a4 a5 a6 a7 a8 a9 a10 a11 a12 a13 → (∀ (b1 : A1) (b2 : A2) (b3 : A3) (b4 : A4) (b5 : A5) (b6 : A6) (b7 : A7) (b8 : A8) (b9 : A9) (b10 : A10) (b11 : A11) (b12 : A12) (b13 : A13), I b1 b2 b3 b4 b5 b6 b7 b8 b9 b10 b11 b12 b13 → μ b1 b2 b3 b4 b5 b6 b7 b8 b9 b10 b11 b12 b13 < μ a1 a2 a3 a4 a5 a6 a7 a8 a9 a10 a11 a12 a13 → W n b1 b2 b3 b4 b5 b6 b7 b8 b9 b10 b11 b12 b13) → W (n + 1) a1 a2 a3 a4 a5 a6 a7 a8 a9 a10 a11 a12 a13) (a1 : A1) (a2 : A2) (a3 : A3) (a4 : A4) (a5 : A5) (a6 : A6) (a7 : A7) (a8 : A8) (a9 : A9) (a10 : A10) (a11 : A11) (a12 : A12) (a13 : A13) (h : I a1 a2 a3 a4 a5 a6 a7 a8 a9 a10 a11 a12 a13) : ∃ n, W n a1 a2 a3 a4 a5 a6 a7 a8 a9 a10 a11 a12 a13 :=
  loop_m (σ := A1 × A2 × A3 × A4 × A5 × A6 × A7 × A8 × A9 × A10 × A11 × A12 × A13) (fun n s => W n s.1 s.2.1 s.2.2.1 s.2.2.2.1 s.2.2.2.2.1 s.2.2.2.2.2.1 s.2.2.2.2.2.2.1 s.2.2.2.2.2.2.2.1 s.2.2.2.2.2.2.2.2.1 s.2.2.2.2.2.2.2.2.2.1 s.2.2.2.2.2.2.2.2.2.2.1 s.2.2.2.2.2.2.2.2.2.2.2.1 s.2.2.2.2.2.2.2.2.2.2.2.2) (fun s => I s.1 s.2.1 s.2.2.1 s.2.2.2.1 s.2.2.2.2.1 s.2.2.2.2.2.1 s.2.2.2.2.2.2.1 s.2.2.2.2.2.2.2.1 s.2.2.2.2.2.2.2.2.1 s.2.2.2.2.2.2.2.2.2.1 s.2.2.2.2.2.2.2.2.2.2.1 s.2.2.2.2.2.2.2.2.2.2.2.1 s.2.2.2.2.2.2.2.2.2.2.2.2) (fun s => μ s.1 s.2.1 s.2.2.1 s.2.2.2.1 s.2.2.2.2.1 s.2.2.2.2.2.1 s.2.2.2.2.2.2.1 s.2.2.2.2.2.2.2.1 s.2.2.2.2.2.2.2.2.1 s.2.2.2.2.2.2.2.2.2.1 s.2.2.2.2.2.2.2.2.2.2.1 s.2.2.2.2.2.2.2.2.2.2.2.1 s.2.2.2.2.2.2.2.2.2.2.2.2) (fun n s hI hk => hs n s.1 s.2.1 s.2.2.1 s.2.2.2.1 s.2.2.2.2.1 s.2.2.2.2.2.1 s.2.2.2.2.2.2.1 s.2.2.2.2.2.2.2.1 s.2.2.2.2.2.2.2.2.1 s.2.2.2.2.2.2.2.2.2.1 s.2.2.2.2.2.2.2.2.2.2.1 s.2.2.2.2.2.2.2.2.2.2.2.1 s.2.2.2.2.2.2.2.2.2.2.2.2 hI (fun b1 b2 b3 b4 b5 b6 b7 b8 b9 b10 b11 b12 b13 h9 hm => hk (b1, b2, b3, b4, b5, b6, b7, b8, b9, b10, b11, b12, b13) h9 hm)) (a1, a2, a3, a4, a5, a6, a7, a8, a9, a10, a11, a12, a13) h
theorem lp14 {A1 A2 A3 A4 A5 A6 A7 A8 A9 A10 A11 A12 A13 A14 : Type} (W : Nat → A1 → A2 → A3 → A4 → A5 → A6 → A7 → A8 → A9 → A10 → A11 → A12 → A13 → A14 → Prop) (I : A1 → A2 → A3 → A4 → A5 → A6 → A7 → A8 → A9 → A10 → A11 → A12 → A13 → A14 → Prop) (μ : A1 → A2 → A3 → A4 → A5 → A6 → A7 → A8 → A9 → A10 → A11 → A12 → A13 → A14 → Nat) (hs : ∀ (n : Nat) (a1 : A1) (a2 : A2) (a3 : A3) (a4 : A4) (a5 : A5) (a6 : A6) (a7 : A7) (a8 : A8) (a9 : A9) (a10 : A10) (a11 : A11) (a12 : A12) (a13 : A13) (a14 : A14), I a1 a2 a3 a4 a5 a6 a7 a8 a9 a10 a11 a12 a13 a14 → (∀ (b1 : A1) (b2 : A2) (b3 : A3) (b4 : A4) (b5 : A5) (b6 : A6) (b7 : A7) (b8 : A8) (b9 : A9) (b10 : A10) (b11 : A11) (b12 : A12) (b13 : A13) (b14 : A14), I b1 b2 b3 b4 b5 b6 b7 b8 b9 b10 b11 b12 b13 b14 → μ b1 b2 b3 b4 b5 b6 b7 b8 b9 b10 b11 b12 b13 b14 < μ a1 a2 a3 a4 a5 a6 a7 a8 a9 a10 a11 a12 a13 a14 → W n b1 b2 b3 b4 b5 b6 b7 b8 b9 b10 b11 b12 b13 b14) → W (n + 1) a1 a2 a3 a4 a5 a6 a7 a8 a9 a10 a11 a12 a13 a14) (a1 : A1) (a2 : A2) (a3 : A3) (a4 : A4) (a5 : A5) (a6 : A6) (a7 : A7) (a8 : A8) (a9 : A9) (a10 : A10) (a11 : A11) (a12 : A12) (a13 : A13) (a14 : A14) (h : I a1 a2 a3 a4 a5 a6 a7 a8 a9 a10 a11 a12 a13 a14) : ∃ n, W n a1 a2 a3 a4 a5 a6 a7 a8 a9 a10 a11 a12 a13 a14 :=
  loop_m (σ := A1 × A2 × A3 × A4 × A5 × A6 × A7 × A8 × A9 × A10 × A11 × A12 × A13 × A14) (fun n s => W n s.1 s.2.1 s.2.2.1 s.2.2.2.1 s.2.2.2.2.1 s.2.2.2.2.2.1 s.2.2.2.2.2.2.1 s.2.2.2.2.2.2.2.1 s.2.2.2.2.2.2.2.2.1 s.2.2.2.2.2.2.2.2.2.1 s.2.2.2.2.2.2.2.2.2.2.1 s.2.2.2.2.2.2.2.2.2.2.2.1 s.2.2.2.2.2.2.2.2.2.2.2.2.1 s.2.2.2.2.2.2.2.2.2.2.2.2.2) (fun s => I s.1 s.2.1 s.2.2.1 s.2.2.2.1 s.2.2.2.2.1 s.2.2.2.2.2.1 s.2.2.2.2.2.2.1 s.2.2.2.2.2.2.2.1 s.2.2.2.2.2.2.2.2.1 s.2.2.2.2.2.2.2.2.2.1 s.2.2.2.2.2.2.2.2.2.2.1 s.2.2.2.2.2.2.2.2.2.2.2.1 s.2.2.2.2.2.2.2.2.2.2.2.2.1 s.2.2.2.2.2.2.2.2.2.2.2.2.2) (fun s => μ s.1 s.2.1 s.2.2.1 s.2.2.2.1 s.2.2.2.2.1 s.2.2.2.2.2.1 s.2.2.2.2.2.2.1 s.2.2.2.2.2.2.2.1 s.2.2.2.2.2.2.2.2.1 s.2.2.2.2.2.2.2.2.2.1 s.2.2.2.2.2.2.2.2.2.2.1 s.2.2.2.2.2.2.2.2.2.2.2.1 s.2.2.2.2.2.2.2.2.2.2.2.2.1 s.2.2.2.2.2.2.2.2.2.2.2.2.2) (fun n s hI hk => hs n s.1 s.2.1 s.2.2.1 s.2.2.2.1 s.2.2.2.2.1 s.2.2.2.2.2.1 s.2.2.2.2.2.2.1 s.2.2.2.2.2.2.2.1 s.2.2.2.2.2.2.2.2.1 s.2.2.2.2.2.2.2.2.2.1 s.2.2.2.2.2.2.2.2.2.2.1 s.2.2.2.2.2.2.2.2.2.2.2.1 s.2.2.2.2.2.2.2.2.2.2.2.2.1 s.2.2.2.2.2.2.2.2.2.2.2.2.2 hI (fun b1 b2 b3 b4 b5 b6 b7 b8 b9 b10 b11 b12 b13 b14 h9 hm => hk (b1, b2, b3, b4, b5, b6, b7, b8, b9, b10, b11, b12, b13, b14) h9 hm)) (a1, a2, a3, a4, a5, a6, a7, a8, a9, a10, a11, a12, a13, a14) h
theorem lp15 {A1 A2 A3 A4 A5 A6 A7 A8 A9 A10 A11 A12 A13 A14 A15 : Type} (W : Nat → A1 → A2 → A3 → A4 → A5 → A6 → A7 → A8 → A9 → A10 → A11 → A12 → A13 → A14 → A15 → Prop) (I : A1 → A2 → A3 → A4 → A5 → A6 → A7 → A8 → A9 → A10 → A11 → A12 → A13 → A14 → A15 → Prop) (μ : A1 → A2 → A3 → A4 → A5 → A6 → A7 → A8 → A9 → A10 → A11 → A12 → A13 → A14 → A15 → Nat) (hs : ∀ (n : Nat) (a1 : A1) (a2 : A2) (a3 : A3) (a4 : A4) (a5 : A5) (a6 : A6) (a7 : A7) (a8 : A8) (a9 : A9) (a10 : A10) (a11 : A11) (a12 : A12) (a13 : A13) (a14 : A14) (a15 : A15), I a1 a2 a3 a4 a5 a6 a7 a8 a9 a10 a11 a12 a13 a14 a15 → (∀ (b1 : A1) (b2 : A2) (b3 : A3) (b4 : A4) (b5 : A5) (b6 : A6) (b7 : A7) (b8 : A8) (b9 : A9) (b10 : A10) (b11 : A11) (b12 : A12) (b13 : A13) (b14 : A14) (b15 : A15), I b1 b2 b3 b4 b5 b6 b7 b8 b9 b10 b11 b12 b13 b14 b15 → μ b1 b2 b3 b4 b5 b6 b7 b8 b9 b10 b11 b12 b13 b14 b15 < μ a1 a2 a3 a4 a5 a6 a7 a8 a9 a10 a11 a12 a13 a14 a15 → W n b1 b2 b3 b4 b5 b6 b7 b8 b9 b10 b11 b12 b13 b14 b15) → W (n + 1) a1 a2 a3 a4 a5 a6 a7 a8 a9 a10 a11 a12 a13 a14 a15) (a1 : A1) (a2 : A2) (a3 : A3) (a4 : A4) (a5 : A5) (a6 : A6) (a7 : A7) (a8 : A8) (a9 : A9) (a10 : A10) (a11 : A11) (a12 : A12) (a13 : A13) (a14 : A14) (a15 : A15) (h : I a1 a2 a3 a4 a5 a6 a7 a8 a9 a10 a11 a12 a13 a14 a15) : ∃ n, W n a1 a2 a3 a4 a5 a6 a7 a8 a9 a10 a11 a12 a13 a14 a15 :=
  loop_m (σ := A1 × A2 × A3 × A4 × A5 × A6 × A7 × A8 × A9 × A10 × A11 × A12 × A13 × A14 × A15) (fun n s => W n s.1 s.2.1 s.2.2.1 s.2.2.2.1 s.2.2.2.2.1 s.2.2.2.2.2.1 s.2.2.2.2.2.2.1 s.2.2.2.2.2.2.2.1 s.2.2.2.2.2.2.2.2.1 s.2.2.2.2.2.2.2.2.2.1 s.2.2.2.2.2.2.2.2.2.2.1 s.2.2.2.2.2.2.2.2.2.2.2.1 s.2.2.2.2.2.2.2.2.2.2.2.2.1 s.2.2.2.2.2.2.2.2.2.2.2.2.2.1 s.2.2.2.2.2.2.2.2.2.2.2.2.2.2) (fun s => I s.1 s.2.1 s.2.2.1 s.2.2.2.1 s.2.2.2.2.1 s.2.2.2.2.2.1 s.2.2.2.2.2.2.1 s.2.2.2.2.2.2.2.1 s.2.2.2.2.2.2.2.2.1 s.2.2.2.2.2.2.2.2.2.1 s.2.2.2.2.2.2.2.2.2.2.1 s.2.2.2.2.2.2.2.2.2.2.2.1 s.2.2.2.2.2.2.2.2.2.2.2.2.1 s.2.2.2.2.2.2.2.2.2.2.2.2.2.1 s.2.2.2.2.2.2.2.2.2.2.2.2.2.2) (fun s => μ s.1 s.2.1 s.2.2.1 s.2.2.2.1 s.2.2.2.2.1 s.2.2.2.2.2.1 s.2.2.2.2.2.2.1 s.2.2.2.2.2.2.2.1 s.2.2.2.2.2.2.2.2.1 s.2.2.2.2.2.2.2.2.2.1 s.2.2.2.2.2.2.2.2.2.2.1 s.2.2.2.2.2.2.2.2.2.2.2.1 s.2.2.2.2.2.2.2.2.2.2.2.2.1 s.2.2.2.2.2.2.2.2.2.2.2.2.2.1 s.2.2.2.2.2.2.2.2.2.2.2.2.2.2) (fun n s hI hk => hs n s.1 s.2.1 s.2.2.1 s.2.2.2.1 s.2.2.2.2.1 s.2.2.2.2.2.1 s.2.2.2.2.2.2.1 s.2.2.2.2.2.2.2.1 s.2.2.2.2.2.2.2.2.1 s.2.2.2.2.2.2.2.2.2.1 s.2.2.2.2.2.2.2.2.2.2.1 s.2.2.2.2.2.2.2.2.2.2.2.1 s.2.2.2.2.2.2.2.2.2.2.2.2.1 s.2.2.2.2.2.2.2.2.2.2.2.2.2.1 s.2.2.2.2.2.2.2.2.2.2.2.2.2.2 hI (fun b1 b2 b3 b4 b5 b6 b7 b8 b9 b10 b11 b12 b13 b14 b15 h9 hm => hk (b1, b2, b3, b4, b5, b6, b7, b8, b9, b10, b11, b12, b13, b14, b15) h9 hm)) (a1, a2, a3, a4, a5, a6, a7, a8, a9, a10, a11, a12, a13, a14, a15) h
theorem lp16 {A1 A2 A3 A4 A5 A6 A7 A8 A9 A10 A11 A12 A13 A14 A15 A16 : Type} (W : Nat → A1 → A2 → A3 → A4 → A5 → A6 → A7 → A8 → A9 → A10 → A11 → A12 → A13 → A14 → A15 → A16 → Prop) (I : A1 → A2 → A3 → A4 → A5 → A6 → A7 → A8 → A9 → A10 → A11 → A12 → A13 → A14 → A15 → A16 → Prop) (μ : A1 → A2 → A3 → A4 → A5 → A6 → A7 → A8 → A9 → A10 → A11 → A12 → A13 → A14 → A15 → A16 → Nat) (hs : ∀ (n : Nat) (a1 : A1) (a2 : A2) (a3 : A3) (a4 : A4) (a5 : A5) (a6 : A6) (a7 : A7) (a8 : A8) (a9 : A9) (a10 : A10) (a11 : A11) (a12 : A12) (a13 : A13) (a14 : A14) (a15 : A15) (a16 : A16), I a1 a2 a3 a4 a5 a6 a7 a8 a9 a10 a11 a12 a13 a14 a15 a16 → (∀ (b1 : A1) (b2 : A2) (b3 : A3) (b4 : A4) (b5 : A5) (b6 : A6) (b7 : A7) (b8 : A8) (b9 : A9) (b10 : A10) (b11 : A11) (b12 : A12) (b13 : A13) (b14 : A14) (b15 : A15) (b16 : A16), I b1 b2 b3 b4 b5 b6 b7 b8 b9 b10 b11 b12 b13 b14 b15 b16 → μ b1 b2 b3 b4 b5 b6 b7 b8 b9 b10 b11 b12 b13 b14 b15 b16 < μ a1 a2 a3 a4 a5 a6 a7 a8 a9 a10 a11 a12 a13 a14 a15 a16 → W n b1 b2 b3 b4 b5 b6 b7 b8 b9 b10 b11 b12 b13 b14 b15 b16) → W (n + 1) a1 a2 a3 a4 a5 a6 a7 a8 a9 a10 a11 a12 a13 a14 a15 a16) (a1 : A1) (a2 : A2) (a3 : A3) (a4 : A4) (a5 : A5) (a6 : A6) (a7 : A7) (a8 : A8) (a9 : A9) (a10 : A10) (a11 : A11) (a12 : A12) (a13 : A13) (a14 : A14) (a15 : A15) (a16 : A16) (h : I a1 a2 a3 a4 a5 a6 a7 a8 a9 a10 a11 a12 a13 a14 a15 a16) : ∃ n, W n a1 a2 a3 a4 a5 a6 a7 a8 a9 a10 a11 a12 a13 a14 a15 a16 :=
  loop_m (σ := A1 × A2 × A3 × A4 × A5 × A6 × A7 × A8 × A9 × A10 × A11 × A12 × A13 × A14 × A15 × A16) (fun n s => W n s.1 s.2.1 s.2.2.1 s.2.2.2.1 s.2.2.2.2.1 s.2.2.2.2.2.1 s.2.2.2.2.2.2.1 s.2.2.2.2.2.2.2.1 s.2.2.2.2.2.2.2.2.1 s.2.2.2.2.2.2.2.2.2.1 s.2.2.2.2.2.2.2.2.2.2.1 s.2.2.2.2.2.2.2.2.2.2.2.1 s.2.2.2.2.2.2.2.2.2.2.2.2.1 s.2.2.2.2.2.2.2.2.2.2.2.2.2.1 s.2.2.2.2.2.2.2.2.2.2.2.2.2.2.1 s.2.2.2.2.2.2.2.2.2.2.2.2.2.2.2) (fun s => I s.1 s.2.1 s.2.2.1 s.2.2.2.1 s.2.2.2.2.1 s.2.2.2.2.2.1 s.2.2.2.2.2.2.1 s.2.2.2.2.2.2.2.1 s.2.2.2.2.2.2.2.2.1 s.2.2.2.2.2.2.2.2.2.1 s.2.2.2.2.2.2.2.2.2.2.1 s.2.2.2.2.2.2.2.2.2.2.2.1 s.2.2.2.2.2.2.2.2.2.2.2.2.1 s.2.2.2.2.2.2.2.2.2.2.2.2.2.1 s.2.2.2.2.2.2.2.2.2.2.2.2.2.2.1 s.2.2.2.2.2.2.2.2.2.2.2.2.2.2.2) (fun s => μ s.1 s.2.1 s.2.2.1 s.2.2.2.1 s.2.2.2.2.1 s.2.2.2.2.2.1 s.2.2.2.2.2.2.1 s.2.2.2.2.2.2.2.1 s.2.2.2.2.2.2.2.2.1 s.2.2.2.2.2.2.2.2.2.1 s.2.2.2.2.2.2.2.2.2.2.1 s.2.2.2.2.2.2.2.2.2.2.2.1 s.2.2.2.2.2.2.2.2.2.2.2.2.1 s.2.2.2.2.2.2.2.2.2.2.2.2.2.1 s.2.2.2.2.2.2.2.2.2.2.2.2.2.2.1 s.2.2.2.2.2.2.2.2.2.2.2.2.2.2.2) (fun n s hI hk => hs n s.1 s.2.1 s.2.2.1 s.2.2.2.1 s.2.2.2.2.1 s.2.2.2.2.2.1 s.2.2.2.2.2.2.1 s.2.2.2.2.2.2.2.1 s.2.2.2.2.2.2.2.2.1 s.2.2.2.2.2.2.2.2.2.1 s.2.2.2.2.2.2.2.2.2.2.1 s.2.2.2.2.2.2.2.2.2.2.2.1 s.2.2.2.2.2.2.2.2.2.2.2.2.1 s.2.2.2.2.2.2.2.2.2.2.2.2.2.1 s.2.2.2.2.2.2.2.2.2.2.2.2.2.2.1 s.2.2.2.2.2.2.2.2.2.2.2.2.2.2.2 hI (fun b1 b2 b3 b4 b5 b6 b7 b8 b9 b10 b11 b12 b13 b14 b15 b16 h9 hm => hk (b1, b2, b3, b4, b5, b6, b7, b8, b9, b10, b11, b12, b13, b14, b15, b16) h9 hm)) (a1, a2, a3, a4, a5, a6, a7, a8, a9, a10, a11, a12, a13, a14, a15, a16) h
theorem pk_least (P : Nat → Prop) (h : ∃ k, P k) : ∃ k, P k ∧ ∀ j, j < k → ¬ P j := by
  obtain ⟨k, hk⟩ := h
  induction k using Nat.strongRecOn with
  | ind k ih =>
    by_cases e : ∃ j, j < k ∧ P j
    · obtain ⟨j, hj, pj⟩ := e
      exact ih j hj pj
    · exact ⟨k, hk, fun j hj pj => e ⟨j, hj, pj⟩⟩
theorem rp1 {ρ A1 : Type} (W : Nat → (ρ → Prop) → A1 → Prop) (ok : A1 → Prop) (μ : A1 → Nat) (val : A1 → ρ)
    (hs : ∀ (d : Nat) (post : ρ → Prop) (a1 : A1), ok a1 → post (val a1) → (∀ (post' : ρ → Prop) (b1 : A1), ok b1 → μ b1 < μ a1 → post' (val b1) → W d post' b1) → W (d + 1) post a1) :
    ∀ (d : Nat) (post : ρ → Prop) (a1 : A1), ok a1 → μ a1 < d → post (val a1) → W d post a1 := by
  intro d
  induction d with
  | zero => intro post a1 _ h; omega
  | succ d ih =>
    intro post a1 ho hm hp
    exact hs d post a1 ho hp (fun post' b1 ho' hm' hp' => ih post' b1 ho' (by omega) hp')
theorem rp2 {ρ A1 A2 : Type} (W : Nat → (ρ → Prop) → A1 → A2 → Prop) (ok : A1 → A2 → Prop) (μ : A1 → A2 → Nat) (val : A1 → A2 → ρ)
    (hs : ∀ (d : Nat) (post : ρ → Prop) (a1 : A1) (a2 : A2), ok a1 a2 → post (val a1 a2) → (∀ (post' : ρ → Prop) (b1 : A1) (b2 : A2), ok b1 b2 → μ b1 b2 < μ a1 a2 → post' (val b1 b2) → W d post' b1 b2) → W (d + 1) post a1 a2) :
    ∀ (d : Nat) (post : ρ → Prop) (a1 : A1) (a2 : A2), ok a1 a2 → μ a1 a2 < d → post (val a1 a2) → W d post a1 a2 := by
  intro d
  induction d with
  | zero => intro post a1 a2 _ h; omega
  | succ d ih =>
    intro post a1 a2 ho hm hp
    exact hs d post a1 a2 ho hp (fun post' b1 b2 ho' hm' hp' => ih post' b1 b2 ho' (by omega) hp')
theorem rp3 {ρ A1 A2 A3 : Type} (W : Nat → (ρ → Prop) → A1 → A2 → A3 → Prop) (ok : A1 → A2 → A3 → Prop) (μ : A1 → A2 → A3 → Nat) (val : A1 → A2 → A3 → ρ)
    (hs : ∀ (d : Nat) (post : ρ → Prop) (a1 : A1) (a2 : A2) (a3 : A3), ok a1 a2 a3 → post (val a1 a2 a3) → (∀ (post' : ρ → Prop) (b1 : A1) (b2 : A2) (b3 : A3), ok b1 b2 b3 → μ b1 b2 b3 < μ a1 a2 a3 → post' (val b1 b2 b3) → W d post' b1 b2 b3) → W (d + 1) post a1 a2 a3) :
    ∀ (d : Nat) (post : ρ → Prop) (a1 : A1) (a2 : A2) (a3 : A3), ok a1 a2 a3 → μ a1 a2 a3 < d → post (val a1 a2 a3) → W d post a1 a2 a3 := by
  intro d
  induction d with
  | zero => intro post a1 a2 a3 _ h; omega
  | succ d ih =>
    intro post a1 a2 a3 ho hm hp
    exact hs d post a1 a2 a3 ho hp (fun post' b1 b2 b3 ho' hm' hp' => ih post' b1 b2 b3 ho' (by omega) hp')
theorem rp4 {ρ A1 A2 A3 A4 : Type} (W : Nat → (ρ → Prop) → A1 → A2 → A3 → A4 → Prop) (ok : A1 → A2 → A3 → A4 → Prop) (μ : A1 → A2 → A3 → A4 → Nat) (val : A1 → A2 → A3 → A4 → ρ)
    (hs : ∀ (d : Nat) (post : ρ → Prop) (a1 : A1) (a2 : A2) (a3 : A3) (a4 : A4), ok a1 a2 a3 a4 → post (val a1 a2 a3 a4) → (∀ (post' : ρ → Prop) (b1 : A1) (b2 : A2) (b3 : A3) (b4 : A4), ok b1 b2 b3 b4 → μ b1 b2 b3 b4 < μ a1 a2 a3 a4 → post' (val b1 b2 b3 b4) → W d post' b1 b2 b3 b4) → W (d + 1) post a1 a2 a3 a4) :
    ∀ (d : Nat) (post : ρ → Prop) (a1 : A1) (a2 : A2) (a3 : A3) (a4 : A4), ok a1 a2 a3 a4 → μ a1 a2 a3 a4 < d → post (val a1 a2 a3 a4) → W d post a1 a2 a3 a4 := by
  intro d
  induction d with
  | zero => intro post a1 a2 a3 a4 _ h; omega
  | succ d ih =>
    intro post a1 a2 a3 a4 ho hm hp
    exact hs d post a1 a2 a3 a4 ho hp (fun post' b1 b2 b3 b4 ho' hm' hp' => ih post' b1 b2 b3 b4 ho' (by omega) hp')
theorem rp5 {ρ A1 A2 A3 A4 A5 : Type} (W : Nat → (ρ → Prop) → A1 → A2 → A3 → A4 → A5 → Prop) (ok : A1 → A2 → A3 → A4 → A5 → Prop) (μ : A1 → A2 → A3 → A4 → A5 → Nat) (val : A1 → A2 → A3 → A4 → A5 → ρ)
    (hs : ∀ (d : Nat) (post : ρ → Prop) (a1 : A1) (a2 : A2) (a3 : A3) (a4 : A4) (a5 : A5), ok a1 a2 a3 a4 a5 → post (val a1 a2 a3 a4 a5) → (∀ (post' : ρ → Prop) (b1 : A1) (b2 : A2) (b3 : A3) (b4 : A4) (b5 : A5), ok b1 b2 b3 b4 b5 → μ b1 b2 b3 b4 b5 < μ a1 a2 a3 a4 a5 → post' (val b1 b2 b3 b4 b5) → W d post' b1 b2 b3 b4 b5) → W (d + 1) post a1 a2 a3 a4 a5) :
    ∀ (d : Nat) (post : ρ → Prop) (a1 : A1) (a2 : A2) (a3 : A3) (a4 : A4) (a5 : A5), ok a1 a2 a3 a4 a5 → μ a1 a2 a3 a4 a5 < d → post (val a1 a2 a3 a4 a5) → W d post a1 a2 a3 a4 a5 := by
  intro d
  induction d with
  | zero => intro post a1 a2 a3 a4 a5 _ h; omega
  | succ d ih =>
    intro post a1 a2 a3 a4 a5 ho hm hp
    exact hs d post a1 a2 a3 a4 a5 ho hp (fun post' b1 b2 b3 b4 b5 ho' hm' hp' => ih post' b1 b2 b3 b4 b5 ho' (by omega) hp')
theorem rp6 {ρ A1 A2 A3 A4 A5 A6 : Type} (W : Nat → (ρ → Prop) → A1 → A2 → A3 → A4 → A5 → A6 → Prop) (ok : A1 → A2 → A3 → A4 → A5 → A6 → Prop) (μ : A1 → A2 → A3 → A4 → A5 → A6 → Nat) (val : A1 → A2 → A3 → A4 → A5 → A6 → ρ)
    (hs : ∀ (d : Nat) (post : ρ → Prop) (a1 : A1) (a2 : A2) (a3 : A3) (a4 : A4) (a5 : A5) (a6 : A6), ok a1 a2 a3 a4 a5 a6 → post (val a1 a2 a3 a4 a5 a6) → (∀ (post' : ρ → Prop) (b1 : A1) (b2 : A2) (b3 : A3) (b4 : A4) (b5 : A5) (b6 : A6), ok b1 b2 b3 b4 b5 b6 → μ b1 b2 b3 b4 b5 b6 < μ a1 a2 a3 a4 a5 a6 → post' (val b1 b2 b3 b4 b5 b6) → W d post' b1 b2 b3 b4 b5 b6) → W (d + 1) post a1 a2 a3 a4 a5 a6) :
    ∀ (d : Nat) (post : ρ → Prop) (a1 : A1) (a2 : A2) (a3 : A3) (a4 : A4) (a5 : A5) (a6 : A6), ok a1 a2 a3 a4 a5 a6 → μ a1 a2 a3 a4 a5 a6 < d → post (val a1 a2 a3 a4 a5 a6) → W d post a1 a2 a3 a4 a5 a6 := by
  intro d
  induction d with
  | zero => intro post a1 a2 a3 a4 a5 a6 _ h; omega
  | succ d ih =>
    intro post a1 a2 a3 a4 a5 a6 ho hm hp
    exact hs d post a1 a2 a3 a4 a5 a6 ho hp (fun post' b1 b2 b3 b4 b5 b6 ho' hm' hp' => ih post' b1 b2 b3 b4 b5 b6 ho' (by omega) hp')
theorem rec_p {σ ρ : Type} (W : Nat → (ρ → Prop) → σ → Prop) (ok : σ → Prop) (μ : σ → Nat) (val : σ → ρ)
    (hs : ∀ d s post, ok s → post (val s) → (∀ s' post', ok s' → μ s' < μ s → post' (val s') → W d post' s') → W (d + 1) post s) :
    ∀ d s post, ok s → μ s < d → post (val s) → W d post s := by
  intro d
  induction d with
  | zero => intro s post _ h; omega
  | succ d ih =>
    intro s post ho hm hp
    exact hs d s post ho hp (fun s' post' ho' hm' hp' => ih s' post' ho' (by omega) hp')
theorem rec_q {σ ρ : Type} (W : Nat → (ρ → Prop) → σ → Prop) (ok : σ → Prop) (μ : σ → Nat) (Q : σ → ρ → Prop)
    (hs : ∀ d s post, ok s → (∀ r, Q s r → post r) → (∀ s' post', ok s' → μ s' < μ s → (∀ r, Q s' r → post' r) → W d post' s') → W (d + 1) post s) :
    ∀ d s post, ok s → μ s < d → (∀ r, Q s r → post r) → W d post s := by
  intro d
  induction d with
  | zero => intro s post _ h; omega
  | succ d ih =>
    intro s post ho hm hp
    exact hs d s post ho hp (fun s' post' ho' hm' hp' => ih s' post' ho' (by omega) hp')
def bx_sum (f : Nat → Int32) : Nat → Int32
  | 0 => 0
  | n + 1 => bx_sum f n + f n
theorem ek_u {A : Prop} {B : Nat → Prop} {k N : Nat} (hk : k < N) (h : B k) : (some k = none → A) ∧ (∀ y : Nat, some k = some y → (y < N ∧ B y)) :=
  ⟨fun z => absurd z (Option.some_ne_none k), fun _ e => (by cases e; exact ⟨hk, h⟩)⟩
theorem ek_nu {A : Prop} {B : Nat → Prop} (h : A) : ((none : Option Nat) = none → A) ∧ (∀ y : Nat, (none : Option Nat) = some y → B y) :=
  ⟨fun _ => h, fun _ e => (by cases e)⟩
theorem ek_if {c d A B : Prop} (e : c ↔ d) (f : d → A) (g : ¬ d → B) : (c → A) ∧ (¬ c → B) :=
  ⟨fun z => f (e.mp z), fun z => g (fun y => z (e.mpr y))⟩
theorem ek_v {α : Sort _} {P : α → Prop} {a b : α} (e : a = b) (h : P b) : P a := e ▸ h
theorem co_some {x : Option Nat} {A : Prop} {B : Nat → Prop} (i : Nat) (h : B i) (hx : x = some i := by rfl) : (x = none → A) ∧ (∀ y : Nat, x = some y → B y) := by
  subst hx
  exact ⟨fun e => (nomatch e), fun y e => Option.some.inj e ▸ h⟩
theorem co_none {x : Option Nat} {A : Prop} {B : Nat → Prop} (h : A) (hx : x = none := by rfl) : (x = none → A) ∧ (∀ y : Nat, x = some y → B y) := by
  subst hx
  exact ⟨fun _ => h, fun y e => (nomatch e)⟩
theorem co_any {x : Option Nat} {A : Prop} {B : Nat → Prop} (hn : x = none → A) (hs : ∀ i : Nat, x = some i → B i) : (x = none → A) ∧ (∀ y : Nat, x = some y → B y) := ⟨hn, hs⟩
theorem co_2 {P : Nat → Prop} (h0 : P 0) (h1 : P 1) {i : Nat} (hi : i < 2) : P i :=
  match i, hi with
  | 0, _ => h0
  | 1, _ => h1
theorem co_3 {P : Nat → Prop} (h0 : P 0) (h1 : P 1) (h2 : P 2) {i : Nat} (hi : i < 3) : P i :=
  match i, hi with
  | 0, _ => h0
  | 1, _ => h1
  | 2, _ => h2
theorem co_4 {P : Nat → Prop} (h0 : P 0) (h1 : P 1) (h2 : P 2) (h3 : P 3) {i : Nat} (hi : i < 4) : P i :=
  match i, hi with
  | 0, _ => h0
  | 1, _ => h1
  | 2, _ => h2
  | 3, _ => h3
theorem co_dec {N : Nat} {P : Nat → Prop} [DecidablePred P] (h : (List.range N).all (fun i => decide (P i)) = true) {i : Nat} (hi : i < N) : P i := by
  have := List.all_eq_true.mp h i (List.mem_range.mpr hi)
  exact of_decide_eq_true this
theorem co_tab {α : Type} {l : List α} {d : α} {P : α → Prop} (h : ∀ a, a ∈ l → P a) {i : Nat} (hi : i < l.length) : P (l.getD i d) := by
  rw [List.getD_eq_getElem?_getD, List.getElem?_eq_getElem hi]
  exact h _ (List.getElem_mem hi)
theorem pk_mu {x : Int32} {L : Nat} (h0 : ¬ x < 0) (h : ¬ nI L ≤ x) (hL : L < 2 ^ 31) : ∃ j : Nat, j < L ∧ x = nI j ∧ x + 1 = nI (j + 1) ∧ x.toNatClampNeg = j ∧ L - (x + 1).toNatClampNeg < L - x.toNatClampNeg := by
  obtain ⟨j, hj, rfl⟩ := nI_of h0
  have hl : j < L := Nat.not_le.mp fun q => h (nI_le q hj)
  refine ⟨j, hl, rfl, nI_1 j, nI_clamp hj, ?_⟩
  rw [nI_1, nI_clamp (by omega), nI_clamp hj]
  omega
theorem op_s {α : Type} {r : Option α} {A : Prop} {B : α → Prop} {y : α} (h : r = some y) (b : B y) : (r = none → A) ∧ ∀ z, r = some z → B z :=
  ⟨fun e => (by rw [h] at e; cases e), fun z e => (by rw [h] at e; cases e; exact b)⟩
def l_holds {α : Type} (a : Nat → Option Nat) (LP : List Nat) (p : Nat → α) (c : Nat) (b : Nat → α) : Prop :=
  ∀ j, j < c → ∃ y, a j = some y ∧ y ∈ LP ∧ p y = b j
theorem l_holds_0 {α : Type} {a : Nat → Option Nat} {LP : List Nat} {p b : Nat → α} : l_holds a LP p 0 b := fun j h => absurd h (Nat.not_lt_zero j)
theorem l_in_new (LP : List Nat) (q : Nat) : q ∈ LP ++ [q] := List.mem_append.mpr (Or.inr (List.mem_singleton.mpr rfl))
def l_sum (b : Nat → Int32) : Nat → Int32
  | 0 => 0
  | k + 1 => l_sum b k + b k
theorem sb_shr0 (x : Int32) : x >>> ((0 : Int32) &&& 31) = x := by
  rw [show ((0 : Int32) &&& 31) = 0 by decide]
  simp
theorem sb_shl0 (x : Int32) : x <<< ((0 : Int32) &&& 31) = x := by
  rw [show ((0 : Int32) &&& 31) = 0 by decide]
  simp
theorem sb_cl0 : (0 : Int32).toNatClampNeg = 0 := by decide
theorem sb_m1 {p : Nat} (h : 0 < p) : nI p + (-1) = nI (p - 1) := by
  obtain ⟨q, rfl⟩ : ∃ q, p = q + 1 := ⟨p - 1, by omega⟩
  exact pk_m1 q
def sb_b (c : Nat) : Int32 := (nI c).toInt8.toInt32
theorem sb_byte : ∀ c, c < 256 → sb_b c &&& 255 = nI c ∧ ((nI c).toUInt32 % 65536).toInt32 = nI c ∧ nI c ≤ 255 := by decide +kernel
def sb_Fit (a : Nat → Int32) : Prop := ∀ j, fits .byte (.int (a j)) = true
def sb_Lat (t : Nat → Nat) (n : Nat) (a : Nat → Int32) : Prop := ∀ j, j < n → t j < 256 ∧ a j = sb_b (t j)
theorem sb_fitB (c : Nat) : fits .byte (.int (sb_b c)) = true := pk_fb _
theorem sb_fit0 : sb_Fit (fun _ => 0) := fun _ => by
  show fits .byte (.int 0) = true
  decide
theorem sb_fitU {a : Nat → Int32} {k : Nat} {x : Int32} (h : sb_Fit a) (hx : fits .byte (.int x) = true) : sb_Fit (upd a k x) := by
  intro j
  by_cases e : j = k
  · subst e
    rw [pk_us]
    exact hx
  · rw [pk_un e]
    exact h j
def sb_cat (t : Nat → Nat) (n : Nat) (s : Nat → Nat) : Nat → Nat := fun j => if j < n then t j else s (j - n)
theorem sb_cat_lo {t s : Nat → Nat} {n j : Nat} (h : j < n) : sb_cat t n s j = t j := if_pos h
theorem sb_cat_hi {t s : Nat → Nat} {n j : Nat} : sb_cat t n s (n + j) = s j := by
  show (if n + j < n then t (n + j) else s (n + j - n)) = s j
  rw [if_neg (by omega), Nat.add_sub_cancel_left]
theorem sb_latPut {t s : Nat → Nat} {n w : Nat} {a a' : Nat → Int32} (h : sb_Lat t n a) (hk : ∀ j, j < n → a' j = a j) (hs : ∀ i, i < w → s i < 256 ∧ a' (n + i) = sb_b (s i)) : sb_Lat (sb_cat t n s) (n + w) a' := by
  intro j hj
  by_cases e : j < n
  · rw [sb_cat_lo e, hk j e]
    exact h j e
  · obtain ⟨i, rfl⟩ : ∃ i, j = n + i := ⟨j - n, by omega⟩
    rw [sb_cat_hi]
    exact hs i (by omega)
theorem sb_latKeep {t : Nat → Nat} {n : Nat} {a a' : Nat → Int32} (h : sb_Lat t n a) (hk : ∀ j, j < n → a' j = a j) : sb_Lat t n a' := fun j hj => by
  rw [hk j hj]
  exact h j hj
def sb_cap (q m : Nat) : Nat := if q ≤ m then m else if 2 * m + 2 < q then q else 2 * m + 2
def sb_Room (q m mc ms : Nat) : Prop := q ≤ m ∨ (1 ≤ mc ∧ sb_cap q m ≤ ms ∧ sb_cap q m ≤ 65536)
theorem sb_cap_ge (q m : Nat) : q ≤ sb_cap q m := by
  unfold sb_cap
  split
  · omega
  · split <;> omega
theorem sb_cap_gem (q m : Nat) : m ≤ sb_cap q m := by
  unfold sb_cap
  split
  · omega
  · split <;> omega
theorem sb_cap_le {q m mc ms : Nat} (hm : m ≤ 65536) (hr : sb_Room q m mc ms) : sb_cap q m ≤ 65536 := by
  rcases hr with h | h
  · rw [sb_cap, if_pos h]
    exact hm
  · exact h.2.2
theorem sb_at {P : Int32 → Prop} {x y : Int32} (e : x = y) (h : P y) : P x := e ▸ h
def sb_dg (w : Nat) : Nat := if w < 10 then 1 else if w < 100 then 2 else if w < 1000 then 3 else if w < 10000 then 4 else if w < 100000 then 5 else if w < 1000000 then 6 else if w < 10000000 then 7 else if w < 100000000 then 8 else if w < 1000000000 then 9 else 10
def sb_dec (v : Nat) : Nat → Nat := fun i => 48 + v / 10 ^ (sb_dg v - 1 - i) % 10
theorem sb_dg_in (w : Nat) : 1 ≤ sb_dg w ∧ sb_dg w ≤ 10 := by
  unfold sb_dg
  constructor <;> (repeat' split) <;> omega
theorem sb_dg100 {w : Nat} (h : 100 ≤ w) (hw : w < 2 ^ 31) : sb_dg w = sb_dg (w / 100) + 2 := by
  rw [sb_dg, sb_dg, if_neg (show ¬ w < 10 by omega), if_neg (show ¬ w < 100 by omega)]
  by_cases h3 : w < 1000
  · rw [if_pos h3, if_pos (show w / 100 < 10 by omega)]
  rw [if_neg h3, if_neg (show ¬ w / 100 < 10 by omega)]
  by_cases h4 : w < 10000
  · rw [if_pos h4, if_pos (show w / 100 < 100 by omega)]
  rw [if_neg h4, if_neg (show ¬ w / 100 < 100 by omega)]
  by_cases h5 : w < 100000
  · rw [if_pos h5, if_pos (show w / 100 < 1000 by omega)]
  rw [if_neg h5, if_neg (show ¬ w / 100 < 1000 by omega)]
  by_cases h6 : w < 1000000
  · rw [if_pos h6, if_pos (show w / 100 < 10000 by omega)]
  rw [if_neg h6, if_neg (show ¬ w / 100 < 10000 by omega)]
  by_cases h7 : w < 10000000
  · rw [if_pos h7, if_pos (show w / 100 < 100000 by omega)]
  rw [if_neg h7, if_neg (show ¬ w / 100 < 100000 by omega)]
  by_cases h8 : w < 100000000
  · rw [if_pos h8, if_pos (show w / 100 < 1000000 by omega)]
  rw [if_neg h8, if_neg (show ¬ w / 100 < 1000000 by omega)]
  by_cases h9 : w < 1000000000
  · rw [if_pos h9, if_pos (show w / 100 < 10000000 by omega)]
  rw [if_neg h9, if_neg (show ¬ w / 100 < 10000000 by omega)]
  rw [if_pos (show w / 100 < 100000000 by omega)]
theorem sb_negT {w : Nat} (h : w < 2 ^ 31) : (-nI w).toInt = -(w : Int) := by
  rw [Int32.toInt_neg, nI_toInt h]
  exact Int.bmod_eq_of_le (by omega) (by omega)
theorem sb_nle {a b : Nat} (ha : a < 2 ^ 31) (hb : b < 2 ^ 31) : -nI a ≤ -nI b ↔ b ≤ a := by
  rw [Int32.le_iff_toInt_le, sb_negT ha, sb_negT hb]
  omega
theorem sb_nlt {a b : Nat} (ha : a < 2 ^ 31) (hb : b < 2 ^ 31) : -nI a < -nI b ↔ b < a := by
  rw [Int32.lt_iff_toInt_lt, sb_negT ha, sb_negT hb]
  omega
theorem sb_cmp {A B : Prop} {x : Int32} (v c : Nat) (f : c ≤ v → A) (g : v < c → B) (hv : v < 2 ^ 31) (hx : x = -nI c := by rfl) (hc : c < 2 ^ 31 := by omega) : (-nI v ≤ x → A) ∧ (¬ -nI v ≤ x → B) := by
  subst hx
  rw [sb_nle hv hc]
  exact ⟨f, fun z => g (by omega)⟩
theorem sb_ndiv {w : Nat} (hw : w < 2 ^ 31) : (-nI w) / 100 = -nI (w / 100) := by
  apply Int32.toInt_inj.mp
  have h100 : (100 : Int32).toInt = 100 := by decide
  rw [Int32.toInt_div, sb_negT hw, h100, sb_negT (by omega), Int.neg_tdiv, Int.tdiv_eq_ediv_of_nonneg (by omega), Int.bmod_eq_of_le (by omega) (by omega)]
  omega
theorem sb_nrem {w : Nat} (hw : w < 2 ^ 31) : (-nI (w / 100)) * 100 - (-nI w) = nI (w % 100) := by
  have h := pk_rem (a := w) (d := 100) hw (by decide) (by decide)
  rw [pk_div hw (by decide) (by decide)] at h
  rw [← h]
  show (-nI (w / 100)) * nI 100 - (-nI w) = nI w - nI (w / 100) * nI 100
  rw [Int32.neg_mul, Int32.sub_neg, Int32.add_comm, ← Int32.sub_eq_add_neg]
end
section
/-! rows on bits, shifts and unsigned numbers, to paste: each family out of a closed proof of our own, whole with what it rests on; each by itself clean at Lean in its own claim (generation 39, form 5). Take a family whole -/
/-! ===== Int32 by its bits: bt x i ===== -/
def bt (x : Int32) (i : Nat) : Bool := x.toBitVec.getLsbD i
theorem b_ext {x y : Int32} (h : ∀ i, i < 32 → bt x i = bt y i) : x = y := Int32.toBitVec_inj.mp (BitVec.eq_of_getLsbD_eq (fun i hi => h i hi))
theorem b_or (x y : Int32) (i : Nat) : bt (x ||| y) i = (bt x i || bt y i) := by unfold bt; rw [Int32.toBitVec_or, BitVec.getLsbD_or]
theorem b_and (x y : Int32) (i : Nat) : bt (x &&& y) i = (bt x i && bt y i) := by unfold bt; rw [Int32.toBitVec_and, BitVec.getLsbD_and]
theorem b_xor (x y : Int32) (i : Nat) : bt (x ^^^ y) i = (bt x i ^^ bt y i) := by unfold bt; rw [Int32.toBitVec_xor, BitVec.getLsbD_xor]
theorem b_big {x : Int32} {i : Nat} (h : 32 ≤ i) : bt x i = false := BitVec.getLsbD_of_ge _ _ h
theorem b_255 (i : Nat) : bt 255 i = decide (i < 8) := by
  rcases Nat.lt_or_ge i 32 with h | h
  · exact (by decide +kernel : ∀ i, i < 32 → bt 255 i = decide (i < 8)) i h
  · rw [b_big h, decide_eq_false (by omega)]
theorem b_65535 (i : Nat) : bt 65535 i = decide (i < 16) := by
  rcases Nat.lt_or_ge i 32 with h | h
  · exact (by decide +kernel : ∀ i, i < 32 → bt 65535 i = decide (i < 16)) i h
  · rw [b_big h, decide_eq_false (by omega)]
theorem b_m1 : ∀ i, i < 32 → bt (-1) i = true := by decide +kernel
theorem b_0 (i : Nat) : bt 0 i = false := BitVec.getLsbD_zero
theorem s_l : ∀ n, n < 32 → ((nI n &&& 31).toBitVec.smod 32).toNat = n := by decide +kernel
theorem s_u : ∀ n, n < 32 → (((nI n).toUInt32 &&& Int32.toUInt32 31).toBitVec % 32).toNat = n := by decide +kernel
theorem b_shl (n : Nat) (hn : n < 32) (x : Int32) {i : Nat} (hi : i < 32) : bt (x <<< (nI n &&& 31)) i = (decide (n ≤ i) && bt x (i - n)) := by
  unfold bt
  rw [Int32.toBitVec_shiftLeft]
  show (x.toBitVec <<< ((nI n &&& 31).toBitVec.smod 32).toNat).getLsbD i = _
  rw [s_l n hn, BitVec.getLsbD_shiftLeft]
  rcases Nat.lt_or_ge i n with h | h
  · simp [h, Nat.not_le.mpr h]
  · simp [hi, h, Nat.not_lt.mpr h]
theorem b_ushr (n : Nat) (hn : n < 32) (x : Int32) (i : Nat) : bt ((x.toUInt32 >>> ((nI n).toUInt32 &&& Int32.toUInt32 31)).toInt32) i = bt x (n + i) := by
  show (x.toUInt32 >>> ((nI n).toUInt32 &&& Int32.toUInt32 31)).toBitVec.getLsbD i = x.toUInt32.toBitVec.getLsbD (n + i)
  rw [UInt32.toBitVec_shiftRight]
  show (x.toUInt32.toBitVec >>> (((nI n).toUInt32 &&& Int32.toUInt32 31).toBitVec % 32).toNat).getLsbD i = _
  rw [s_u n hn, BitVec.getLsbD_ushiftRight]
theorem b_sshr (n : Nat) (hn : n < 32) (x : Int32) {i : Nat} (hi : i < 32) : bt (x >>> (nI n &&& 31)) i = if n + i < 32 then bt x (n + i) else bt x 31 := by
  unfold bt
  rw [Int32.toBitVec_shiftRight]
  show (x.toBitVec.sshiftRight ((nI n &&& 31).toBitVec.smod 32).toNat).getLsbD i = _
  rw [s_l n hn, BitVec.getLsbD_sshiftRight, BitVec.msb_eq_getLsbD_last]
  simp [hi]
theorem b_shl8 (x : Int32) {i : Nat} (hi : i < 32) : bt (x <<< ((8 : Int32) &&& 31)) i = (decide (8 ≤ i) && bt x (i - 8)) := b_shl 8 (by omega) x hi
theorem b_shl16 (x : Int32) {i : Nat} (hi : i < 32) : bt (x <<< ((16 : Int32) &&& 31)) i = (decide (16 ≤ i) && bt x (i - 16)) := b_shl 16 (by omega) x hi
theorem b_shl24 (x : Int32) {i : Nat} (hi : i < 32) : bt (x <<< ((24 : Int32) &&& 31)) i = (decide (24 ≤ i) && bt x (i - 24)) := b_shl 24 (by omega) x hi
theorem b_sshr8 (x : Int32) {i : Nat} (hi : i < 32) : bt (x >>> ((8 : Int32) &&& 31)) i = if 8 + i < 32 then bt x (8 + i) else bt x 31 := b_sshr 8 (by omega) x hi
/-! ===== nI under and, xor, >>>, one bit, 65535 ===== -/
theorem nx_and (a b : Nat) : nI a &&& nI b = nI (a &&& b) := by
  apply Int32.toBitVec_inj.1
  show BitVec.ofNat 32 a &&& BitVec.ofNat 32 b = BitVec.ofNat 32 (a &&& b)
  apply BitVec.eq_of_getLsbD_eq
  intro i hi
  simp [hi]
theorem nx_xor (a b : Nat) : nI a ^^^ nI b = nI (a ^^^ b) := by
  apply Int32.toBitVec_inj.1
  show BitVec.ofNat 32 a ^^^ BitVec.ofNat 32 b = BitVec.ofNat 32 (a ^^^ b)
  apply BitVec.eq_of_getLsbD_eq
  intro i hi
  simp [hi]
theorem nx_cnt : ∀ j : Fin 32, (UInt32.ofNat j.val &&& Int32.toUInt32 31).toNat % 32 = j.val := by decide +kernel
theorem nx_ush {k j : Nat} (hk : k < 65536) (hj : j < 32) : ((nI k).toUInt32 >>> ((nI j).toUInt32 &&& Int32.toUInt32 31)).toInt32 = nI (k >>> j) := by
  have hs : k >>> j ≤ k := by
    rw [Nat.shiftRight_eq_div_pow]
    exact Nat.div_le_self _ _
  have e2 : UInt32.ofNat k >>> (UInt32.ofNat j &&& Int32.toUInt32 31) = UInt32.ofNat (k >>> j) := by
    apply UInt32.toNat_inj.1
    have h1 : (UInt32.ofNat k).toNat = k := Nat.mod_eq_of_lt (by omega)
    have h2 : (UInt32.ofNat (k >>> j)).toNat = k >>> j := Nat.mod_eq_of_lt (by omega)
    rw [UInt32.toNat_shiftRight, nx_cnt ⟨j, hj⟩, h1, h2]
  show (UInt32.ofNat k >>> (UInt32.ofNat j &&& Int32.toUInt32 31)).toInt32 = _
  rw [e2]
  rfl
theorem nx_bit {k j : Nat} (hk : k < 65536) (hj : j < 16) : (((nI k).toUInt32 >>> ((nI j).toUInt32 &&& Int32.toUInt32 31)).toInt32 &&& 1) = 0 ↔ k.testBit j = false := by
  rw [nx_ush hk (by omega)]
  show nI (k >>> j) &&& nI 1 = 0 ↔ _
  rw [nx_and, Nat.and_one_is_mod, ← nI_0, nI_eq (by omega) (by omega), Nat.testBit_eq_decide_div_mod_eq, Nat.shiftRight_eq_div_pow, decide_eq_false_iff_not]
  generalize k / 2 ^ j = z
  omega
theorem nx_mod (k : Nat) : nI k &&& 65535 = nI (k % 65536) := by
  show nI k &&& nI 65535 = _
  rw [nx_and, show (65535 : Nat) = 2 ^ 16 - 1 from rfl, Nat.and_two_pow_sub_one_eq_mod]
theorem nx_m16 {k : Nat} (h : k < 65536) : nI k &&& 65535 = nI k := by rw [nx_mod, Nat.mod_eq_of_lt h]
theorem nx_mask (x : Int32) : ∃ k, k < 65536 ∧ x &&& 65535 = nI k := by
  have e : x = nI x.toBitVec.toNat := by
    apply Int32.toBitVec_inj.1
    show x.toBitVec = BitVec.ofNat 32 x.toBitVec.toNat
    simp
  refine ⟨x.toBitVec.toNat % 65536, Nat.mod_lt _ (by omega), ?_⟩
  rw [← nx_mod, ← e]
/-! ===== Int32 as a set of bits: test, set ===== -/
def nf_M (m : Int32) : Nat := 4294967296 - m.toBitVec.toNat
theorem nf_sh : ∀ l, l < 32 → ((1 : Int32) <<< (nI l &&& 31)).toBitVec = BitVec.twoPow 32 l := by decide +kernel
theorem nf_sl : ∀ l, l < 32 → (((nI l).toUInt32 &&& Int32.toUInt32 31).toBitVec % 32).toNat = l := by decide +kernel
theorem nf_tp : ∀ l, l < 32 → BitVec.twoPow 32 l ≠ 0#32 := by decide +kernel
theorem nf_bit (m : Int32) (l : Nat) (hl : l < 32) : ((m.toUInt32 >>> ((nI l).toUInt32 &&& Int32.toUInt32 31)).toInt32 &&& 1) = 0 ↔ (m &&& ((1 : Int32) <<< (nI l &&& 31))) = 0 := by
  have e : ((m.toUInt32 >>> ((nI l).toUInt32 &&& Int32.toUInt32 31)).toInt32).toBitVec = m.toBitVec >>> l := by
    show m.toBitVec >>> (((nI l).toUInt32 &&& Int32.toUInt32 31).toBitVec % 32) = m.toBitVec >>> l
    rw [BitVec.ushiftRight_eq', nf_sl l hl]
  rw [← Int32.toBitVec_inj, ← Int32.toBitVec_inj, Int32.toBitVec_and, Int32.toBitVec_and, nf_sh l hl, e, BitVec.and_twoPow]
  show (m.toBitVec >>> l &&& 1#32) = 0#32 ↔ _ = 0#32
  rw [BitVec.and_one_eq_setWidth_ofBool_getLsbD, BitVec.getLsbD_ushiftRight, Nat.add_zero]
  cases hb : m.toBitVec.getLsbD l
  · exact ⟨fun _ => by simp, fun _ => by decide⟩
  · exact ⟨fun z => absurd z (by decide), fun z => absurd ((if_pos rfl).symm.trans z) (nf_tp l hl)⟩
theorem nf_gr (m k : Int32) (h : m &&& k = 0) (hk : k ≠ 0) : nf_M (m ||| k) < nf_M m := by
  have hm := m.toBitVec.isLt
  have hm' := (m ||| k).toBitVec.isLt
  have h1 : m.toBitVec.toNat ≤ (m ||| k).toBitVec.toNat := by
    rw [Int32.toBitVec_or, BitVec.toNat_or]
    exact Nat.left_le_or
  have h2 : m.toBitVec.toNat ≠ (m ||| k).toBitVec.toNat := by
    intro e
    have e2 : m = m ||| k := Int32.toBitVec_inj.mp (BitVec.eq_of_toNat_eq e)
    apply hk
    apply Int32.toBitVec_inj.mp
    show k.toBitVec = 0#32
    apply BitVec.eq_of_getLsbD_eq
    intro i hi
    have a : m.toBitVec.getLsbD i = (m.toBitVec.getLsbD i || k.toBitVec.getLsbD i) := by rw [← BitVec.getLsbD_or, ← Int32.toBitVec_or, ← e2]
    have b : (m.toBitVec.getLsbD i && k.toBitVec.getLsbD i) = false := by
      rw [← BitVec.getLsbD_and, ← Int32.toBitVec_and, h]
      exact BitVec.getLsbD_zero
    rw [BitVec.getLsbD_zero]
    revert a b
    cases m.toBitVec.getLsbD i <;> cases k.toBitVec.getLsbD i <;> simp
  unfold nf_M
  omega
/-! ===== a byte read unsigned ===== -/
theorem bp_b (x : Int32) : x.toInt8.toInt32 &&& 255 = x &&& 255 := by
  apply Int32.toBitVec_inj.mp
  rw [Int32.toBitVec_and, Int32.toBitVec_and, Int8.toBitVec_toInt32, Int32.toBitVec_toInt8]
  apply BitVec.eq_of_getLsbD_eq
  intro i hi
  rw [BitVec.getLsbD_and, BitVec.getLsbD_and]
  have hm : ∀ i < 32, 8 ≤ i → (255 : Int32).toBitVec.getLsbD i = false := by decide
  rcases Nat.lt_or_ge i 8 with z | z
  · rw [BitVec.getLsbD_signExtend, BitVec.getLsbD_signExtend, if_pos z, if_pos hi]
    simp only [z, hi, decide_true, Bool.true_and]
  · rw [hm i hi z]; simp
/-! ===== the char cast and 65535 ===== -/
theorem em_w (v : Int32) : ∃ w : Nat, w < 65536 ∧ (v.toUInt32 % 65536).toInt32 = nI w ∧ v &&& 65535 = nI w := by
  have hr := lw_u16_r v
  have h0 : (0 : Int32).toInt = 0 := by decide
  obtain ⟨w, h1, h2⟩ := nI_of (x := lw_u16 v) (by rw [Int32.lt_iff_toInt_lt]; omega)
  have h3 : (v.toUInt32 % 65536).toInt32 = nI w := h2
  rw [h2, nI_toInt h1] at hr
  exact ⟨w, by omega, h3, by rw [← lg_i2c_mask, ← lg_i2c_nf, h3]⟩
/-! ===== Int64 as a set of bits: test, set, clear ===== -/
theorem ts_nf {x : Bool} (h : ¬ x = false) : x = true := by cases x <;> first | rfl | exact absurd rfl h
theorem ts_nt {x : Bool} (h : ¬ x = true) : x = false := by cases x <;> first | rfl | exact absurd rfl h
theorem ts_bit {w : Int64} {s : UInt64} {j : Nat} (hj : j < 64) (hs : s.toNat = j) : ((w.toUInt64 >>> s).toInt64 &&& 1) = 0 ↔ w.toBitVec.getLsbD j = false := by
  have e : (w.toUInt64 >>> s).toInt64.toBitVec = w.toBitVec >>> j := by
    apply BitVec.eq_of_toNat_eq
    show (w.toUInt64 >>> s).toNat = _
    rw [UInt64.toNat_shiftRight, hs, Nat.mod_eq_of_lt hj, BitVec.toNat_ushiftRight]
    rfl
  rw [← Int64.toBitVec_inj, Int64.toBitVec_and, e]
  show w.toBitVec >>> j &&& 1#64 = 0#64 ↔ _
  constructor
  · intro h
    have t := congrArg (fun x => x.getLsbD 0) h
    simpa using t
  · intro h
    apply BitVec.eq_of_getLsbD_eq
    intro i hi
    cases i with
    | zero => simp [h]
    | succ i => simp
theorem ts_or {w m : Int64} {j : Nat} (hj : j < 64) (hm : m.toBitVec = BitVec.twoPow 64 j) : (w ||| m) = w ↔ w.toBitVec.getLsbD j = true := by
  rw [← Int64.toBitVec_inj, Int64.toBitVec_or, hm]
  constructor
  · intro h
    have t := congrArg (fun x => x.getLsbD j) h
    simp only [BitVec.getLsbD_or, BitVec.getLsbD_twoPow] at t
    simpa [hj] using t.symm
  · intro h
    apply BitVec.eq_of_getLsbD_eq
    intro i hi
    rw [BitVec.getLsbD_or, BitVec.getLsbD_twoPow]
    by_cases e : j = i
    · subst e; rw [h, Bool.true_or]
    · simp [e]
theorem ts_and {w m : Int64} {j : Nat} (hj : j < 64) (hm : m.toBitVec = BitVec.twoPow 64 j) : (w &&& (m ^^^ (-1))) = w ↔ w.toBitVec.getLsbD j = false := by
  have ha : (-1 : Int64).toBitVec = BitVec.allOnes 64 := by decide
  rw [← Int64.toBitVec_inj, Int64.toBitVec_and, Int64.toBitVec_xor, hm, ha]
  constructor
  · intro h
    have t := congrArg (fun x => x.getLsbD j) h
    simp only [BitVec.getLsbD_and, BitVec.getLsbD_xor, BitVec.getLsbD_twoPow, BitVec.getLsbD_allOnes] at t
    simpa [hj] using t.symm
  · intro h
    apply BitVec.eq_of_getLsbD_eq
    intro i hi
    rw [BitVec.getLsbD_and, BitVec.getLsbD_xor, BitVec.getLsbD_twoPow, BitVec.getLsbD_allOnes]
    by_cases e : j = i
    · subst e; rw [h, Bool.false_and]
    · simp [e, hi]
/-! ===== lN n to 2^64: shifts, and, or, masks, one bit ===== -/
theorem wb_tb (n : Nat) : (lN n).toBitVec = BitVec.ofNat 64 n := rfl
theorem wb_inj {a b : Int64} (h : a.toBitVec = b.toBitVec) : a = b := Int64.toBitVec_inj.mp h
theorem wb_tn {n : Nat} (h : n < 2 ^ 64) : (lN n).toBitVec.toNat = n := by rw [wb_tb, BitVec.toNat_ofNat, Nat.mod_eq_of_lt h]
theorem wb_of (x : Int64) : ∃ n, n < 2 ^ 64 ∧ x = lN n := ⟨x.toBitVec.toNat, x.toBitVec.isLt, wb_inj (by rw [wb_tb]; simp)⟩
theorem wb_of32 (x : Int32) : ∃ n, n < 2 ^ 32 ∧ x = nI n := ⟨x.toBitVec.toNat, x.toBitVec.isLt, Int32.toBitVec_inj.mp (by show _ = BitVec.ofNat 32 _; simp)⟩
theorem wb_c : ∀ k, k < 64 → ((nI k).toInt64 &&& 63) = lN k := by decide +kernel
theorem wb_cu : ∀ k, k < 64 → ((nI k).toInt64.toUInt64 &&& Int64.toUInt64 63) = UInt64.ofNat k := by decide +kernel
theorem wb_sm : ∀ k, k < 64 → (BitVec.ofNat 64 k).smod 64 = BitVec.ofNat 64 k := by decide +kernel
theorem wb_pw {a b : Nat} (h : a ≤ b) : 2 ^ b = 2 ^ a * 2 ^ (b - a) := by rw [← Nat.pow_add]; congr 1; omega
theorem wb_lt2 {a b : Nat} (h : a < b) : 2 ^ a < 2 ^ b := Nat.pow_lt_pow_right (by decide) h
theorem wb_mod (n : Nat) : lN n = lN (n % 2 ^ 64) := wb_inj (by rw [wb_tb, wb_tb]; apply BitVec.eq_of_toNat_eq; rw [BitVec.toNat_ofNat, BitVec.toNat_ofNat, Nat.mod_mod])
theorem wb_shr {n k : Nat} (hn : n < 2 ^ 64) (hk : k < 64) : ((lN n).toUInt64 >>> ((nI k).toInt64.toUInt64 &&& Int64.toUInt64 63)).toInt64 = lN (n / 2 ^ k) := by
  rw [wb_cu k hk]
  apply wb_inj
  apply BitVec.eq_of_toNat_eq
  show ((lN n).toUInt64 >>> UInt64.ofNat k).toNat = (BitVec.ofNat 64 _).toNat
  have h1 : (UInt64.ofNat k).toNat = k := by
    show (BitVec.ofNat 64 k).toNat = k
    rw [BitVec.toNat_ofNat, Nat.mod_eq_of_lt (by omega)]
  have h2 : (lN n).toUInt64.toNat = n := wb_tn hn
  rw [UInt64.toNat_shiftRight, h1, h2, Nat.mod_eq_of_lt hk, Nat.shiftRight_eq_div_pow, BitVec.toNat_ofNat, Nat.mod_eq_of_lt (Nat.lt_of_le_of_lt (Nat.div_le_self _ _) hn)]
theorem wb_shl (n : Nat) {k : Nat} (hk : k < 64) : lN n <<< ((nI k).toInt64 &&& 63) = lN (n * 2 ^ k) := by
  rw [wb_c k hk]
  apply wb_inj
  rw [Int64.toBitVec_shiftLeft, wb_tb, wb_tb, wb_tb, wb_sm k hk]
  apply BitVec.eq_of_toNat_eq
  rw [BitVec.shiftLeft_eq', BitVec.toNat_shiftLeft, BitVec.toNat_ofNat, BitVec.toNat_ofNat, BitVec.toNat_ofNat, Nat.mod_eq_of_lt (show k < 2 ^ 64 by omega), Nat.shiftLeft_eq, Nat.mul_mod, Nat.mod_mod, ← Nat.mul_mod]
theorem wb_and {a b : Nat} (ha : a < 2 ^ 64) (hb : b < 2 ^ 64) : lN a &&& lN b = lN (a &&& b) := by
  apply wb_inj
  rw [Int64.toBitVec_and, wb_tb, wb_tb, wb_tb]
  apply BitVec.eq_of_toNat_eq
  rw [BitVec.toNat_and, BitVec.toNat_ofNat, BitVec.toNat_ofNat, BitVec.toNat_ofNat, Nat.mod_eq_of_lt ha, Nat.mod_eq_of_lt hb, Nat.mod_eq_of_lt (Nat.and_lt_two_pow _ hb)]
theorem wb_or {a b : Nat} (ha : a < 2 ^ 64) (hb : b < 2 ^ 64) : lN a ||| lN b = lN (a ||| b) := by
  apply wb_inj
  rw [Int64.toBitVec_or, wb_tb, wb_tb, wb_tb]
  apply BitVec.eq_of_toNat_eq
  rw [BitVec.toNat_or, BitVec.toNat_ofNat, BitVec.toNat_ofNat, BitVec.toNat_ofNat, Nat.mod_eq_of_lt ha, Nat.mod_eq_of_lt hb, Nat.mod_eq_of_lt (Nat.or_lt_two_pow ha hb)]
theorem wb_mask {n k : Nat} (hn : n < 2 ^ 64) (hk : k < 64) : lN n &&& lN (2 ^ k - 1) = lN (n % 2 ^ k) := by
  rw [wb_and hn (by have := wb_lt2 hk; omega), Nat.and_two_pow_sub_one_eq_mod]
theorem wb_a1 {n : Nat} (hn : n < 2 ^ 64) : lN n &&& 1 = lN (n % 2) := wb_mask (k := 1) hn (by decide)
theorem wb_bit {n k : Nat} (hn : n < 2 ^ 64) (hk : k < 64) : ((lN n).toUInt64 >>> ((nI k).toInt64.toUInt64 &&& Int64.toUInt64 63)).toInt64 &&& 1 = lN (n / 2 ^ k % 2) := by
  rw [wb_shr hn hk, wb_a1 (Nat.lt_of_le_of_lt (Nat.div_le_self _ _) hn)]
theorem wb_xor {q k : Nat} (hk : k < 63) (h : 2 ^ k ≤ q) (h2 : q < 2 ^ (k + 1)) : lN q ^^^ lN (2 ^ k) = lN (q - 2 ^ k) := by
  obtain ⟨r, rfl⟩ : ∃ r, q = 2 ^ k + r := ⟨q - 2 ^ k, by omega⟩
  have hr : r < 2 ^ k := by rw [Nat.pow_succ] at h2; omega
  have hx : (2 ^ k + r) ^^^ 2 ^ k = r := by
    apply Nat.eq_of_testBit_eq
    intro i
    rw [Nat.testBit_xor, Nat.testBit_two_pow]
    rcases Nat.lt_trichotomy i k with h | h | h
    · rw [Nat.testBit_two_pow_add_gt h]
      simp [show ¬ k = i by omega]
    · subst h
      rw [Nat.testBit_two_pow_add_eq]
      simp
    · have a1 : 2 ^ (k + 1) ≤ 2 ^ i := Nat.pow_le_pow_right (by decide) h
      rw [Nat.testBit_lt_two_pow (show 2 ^ k + r < 2 ^ i by omega), Nat.testBit_lt_two_pow (show r < 2 ^ i by omega)]
      simp [show ¬ k = i by omega]
  have b1 := wb_lt2 (show k + 1 < 64 by omega)
  have b2 := wb_lt2 (show k < 64 by omega)
  apply wb_inj
  rw [Int64.toBitVec_xor, wb_tb, wb_tb, wb_tb]
  apply BitVec.eq_of_toNat_eq
  rw [BitVec.toNat_xor, BitVec.toNat_ofNat, BitVec.toNat_ofNat, BitVec.toNat_ofNat, Nat.mod_eq_of_lt (by omega : 2 ^ k + r < 2 ^ 64), Nat.mod_eq_of_lt b2, hx, Nat.add_sub_cancel_left, Nat.mod_eq_of_lt (by omega)]
/-! ===== lN: masks, 'or' of parts that don't overlap is a sum ===== -/
theorem u_tn {n : Nat} (h : n < 2 ^ 64) : (UInt64.ofNat n).toNat = n := Nat.mod_eq_of_lt h
theorem g_and {a b c : Nat} (ha : a < 2 ^ 64) (hb : b < 2 ^ 64) (hc : a &&& b = c) : lN a &&& lN b = lN c := by
  subst hc
  have h : UInt64.ofNat a &&& UInt64.ofNat b = UInt64.ofNat (a &&& b) := UInt64.toNat_inj.mp (by rw [UInt64.toNat_and, u_tn ha, u_tn hb, u_tn (Nat.and_lt_two_pow a hb)])
  have h2 := congrArg UInt64.toInt64 h
  exact h2
theorem g_and1 {a : Nat} (ha : a < 2 ^ 64) : lN a &&& 1 = lN (a % 2) := g_and (b := 1) ha (by decide) (Nat.and_two_pow_sub_one_eq_mod a 1)
theorem g_mask {a s p : Nat} (hp : 2 ^ s = p) (hs : s < 64) (ha : a < 2 ^ 64) : lN a &&& lN (p - 1) = lN (a % p) := by
  subst hp
  have := Nat.pow_lt_pow_right (show 1 < 2 by decide) hs
  exact g_and ha (by omega) (Nat.and_two_pow_sub_one_eq_mod a s)
theorem g_or {k p a b : Nat} (hp : 2 ^ k = p) (ha : a < p) (h : b * p + a < 2 ^ 64) : lN (b * p) ||| lN a = lN (b * p + a) := by
  subst hp
  have h1 : b * 2 ^ k ||| a = b * 2 ^ k + a := by rw [← Nat.shiftLeft_eq, Nat.shiftLeft_add_eq_or_of_lt ha]
  have h3 : UInt64.ofNat (b * 2 ^ k) ||| UInt64.ofNat a = UInt64.ofNat (b * 2 ^ k + a) := UInt64.toNat_inj.mp (by rw [UInt64.toNat_or, u_tn (by omega), u_tn (by omega), u_tn h, h1])
  have h2 := congrArg UInt64.toInt64 h3
  exact h2
theorem g_or' {k p a b : Nat} (hp : 2 ^ k = p) (ha : a < p) (h : a + b * p < 2 ^ 64) : lN a ||| lN (b * p) = lN (a + b * p) := by
  rw [Int64.or_comm, g_or hp ha (by omega), Nat.add_comm]
theorem g_ushr {a k p : Nat} {y : UInt64} (hy : y = UInt64.ofNat k) (hk : k < 64) (hp : 2 ^ k = p) (ha : a < 2 ^ 64) : ((lN a).toUInt64 >>> y).toInt64 = lN (a / p) := by
  subst hy hp
  have h : UInt64.ofNat a >>> UInt64.ofNat k = UInt64.ofNat (a / 2 ^ k) := UInt64.toNat_inj.mp (by rw [UInt64.toNat_shiftRight, u_tn ha, u_tn (by omega), u_tn (Nat.lt_of_le_of_lt (Nat.div_le_self _ _) ha), Nat.mod_eq_of_lt hk, Nat.shiftRight_eq_div_pow])
  have h2 := congrArg UInt64.toInt64 h
  exact h2
theorem g_shl {a k p : Nat} {y : Int64} (hy : y.toBitVec.smod 64 = BitVec.ofNat 64 k) (hk : k < 64) (hp : 2 ^ k = p) (ha : a < 2 ^ 64) : lN a <<< y = lN (a * p) := by
  subst hp
  apply Int64.toBitVec_inj.mp
  rw [Int64.toBitVec_shiftLeft, hy]
  apply BitVec.eq_of_toNat_eq
  have hb : (lN a).toBitVec.toNat = a := Nat.mod_eq_of_lt ha
  have hk' : (BitVec.ofNat 64 k).toNat = k := Nat.mod_eq_of_lt (by omega)
  have h : ((lN a).toBitVec <<< BitVec.ofNat 64 k).toNat = (a * 2 ^ k) % 2 ^ 64 := by simp only [BitVec.shiftLeft_eq', BitVec.toNat_shiftLeft, hb, hk', Nat.shiftLeft_eq]
  exact h
/-! ===== lN to 2^62 under >> and >>> ===== -/
theorem pf_lI {a : Nat} (h : a < 2 ^ 63) : (lN a).toInt = (a : Int) := lg_ofNat_toInt h
theorem pf_shr {a d : Nat} {D : Int64} (hD : (D.toBitVec.smod 64).toNat = d) (h : a < 2 ^ 62) : lN a >>> D = lN (a / 2 ^ d) := by
  have hd : a / 2 ^ d ≤ a := Nat.div_le_self _ _
  apply Int64.toInt_inj.mp
  have e : (lN a >>> D).toInt = (lN a).toInt >>> d := by
    rw [← hD]
    exact BitVec.toInt_sshiftRight ..
  rw [e, Int.shiftRight_eq_div_pow, pf_lI (by omega), pf_lI (by omega)]
  rfl
theorem pf_ushr {a d : Nat} {D : UInt64} (hD : D.toNat % 64 = d) (h : a < 2 ^ 62) : ((lN a).toUInt64 >>> D).toInt64 = lN (a / 2 ^ d) := by
  have hd : a / 2 ^ d ≤ a := Nat.div_le_self _ _
  have e : (lN a).toUInt64 >>> D = UInt64.ofNat (a / 2 ^ d) := UInt64.toNat_inj.mp (by
    rw [UInt64.toNat_shiftRight, hD, Nat.shiftRight_eq_div_pow, UInt64.toNat_ofNat']
    show (UInt64.ofNat a).toNat / 2 ^ d = _
    rw [UInt64.toNat_ofNat', Nat.mod_eq_of_lt (by omega), Nat.mod_eq_of_lt (by omega)])
  rw [e]
  rfl
theorem pf_andw (x : Int64) : ∃ m, m < 2 ^ 32 ∧ x &&& 4294967295 = lN m := ⟨x.toBitVec.toNat % 2 ^ 32, Nat.mod_lt _ (by decide), Int64.toBitVec_inj.mp (BitVec.eq_of_toNat_eq (by
  show (x.toBitVec &&& 4294967295#64).toNat = (BitVec.ofNat 64 (x.toBitVec.toNat % 2 ^ 32)).toNat
  rw [BitVec.toNat_and, show (4294967295#64).toNat = 2 ^ 32 - 1 from by decide, Nat.and_two_pow_sub_one_eq_mod, BitVec.toNat_ofNat]
  omega))⟩
/-! ===== Int64 as an unsigned number: uN x ===== -/
def uN (x : Int64) : Nat := x.toUInt64.toNat
theorem uN_lt (x : Int64) : uN x < 18446744073709551616 := x.toUInt64.toNat_lt
theorem uN_inj {x y : Int64} (h : uN x = uN y) : x = y := congrArg UInt64.toInt64 (UInt64.toNat_inj.mp h)
theorem uN_add (x y : Int64) : uN (x + y) = (uN x + uN y) % 18446744073709551616 := by
  show (x.toUInt64 + y.toUInt64).toNat = _
  exact UInt64.toNat_add _ _
theorem uN_mul (x y : Int64) : uN (x * y) = (uN x * uN y) % 18446744073709551616 := by
  show (x.toUInt64 * y.toUInt64).toNat = _
  exact UInt64.toNat_mul _ _
theorem uN_shl (x : Int64) : uN (x <<< ((1 : Int32).toInt64 &&& 63)) = (2 * uN x) % 18446744073709551616 := by
  have h : (((1 : Int32).toInt64 &&& 63).toBitVec.smod 64).toNat = 1 := by decide
  show (x.toBitVec <<< (((1 : Int32).toInt64 &&& 63).toBitVec.smod 64).toNat).toNat = _
  rw [h, BitVec.toNat_shiftLeft, Nat.shiftLeft_eq, Nat.mul_comm]
  rfl
theorem uN_shr (x : Int64) (s : UInt64) : uN (x.toUInt64 >>> s).toInt64 = uN x / 2 ^ (s.toNat % 64) := by
  show (x.toUInt64 >>> s).toNat = _
  rw [UInt64.toNat_shiftRight, Nat.shiftRight_eq_div_pow]
  rfl
theorem uN_s32 (x : Int64) : uN (x.toUInt64 >>> ((32 : Int32).toInt64.toUInt64 &&& Int64.toUInt64 63)).toInt64 = uN x / 4294967296 := by
  have h : ((32 : Int32).toInt64.toUInt64 &&& Int64.toUInt64 63).toNat % 64 = 32 := by decide
  rw [uN_shr, h]
theorem uN_s63 (x : Int64) : uN (x.toUInt64 >>> ((63 : Int32).toInt64.toUInt64 &&& Int64.toUInt64 63)).toInt64 = uN x / 9223372036854775808 := by
  have h : ((63 : Int32).toInt64.toUInt64 &&& Int64.toUInt64 63).toNat % 64 = 63 := by decide
  rw [uN_shr, h]
theorem uN_lo (x : Int64) : uN (x &&& 4294967295) = uN x % 4294967296 := by
  show (x.toUInt64 &&& Int64.toUInt64 4294967295).toNat = _
  rw [UInt64.toNat_and]
  exact Nat.and_two_pow_sub_one_eq_mod _ 32
theorem uN_bit (x : Int64) : (x &&& 1) = 0 ↔ uN x % 2 = 0 := by
  have h : uN (x &&& 1) = uN x % 2 := by
    show (x.toUInt64 &&& Int64.toUInt64 1).toNat = _
    rw [UInt64.toNat_and]
    exact Nat.and_two_pow_sub_one_eq_mod _ 1
  rw [← h]
  exact ⟨fun z => by rw [z]; rfl, fun z => uN_inj (z.trans rfl)⟩
theorem uN_or {x y : Int64} (hy : uN y < 2) : uN ((x <<< ((1 : Int32).toInt64 &&& 63)) ||| y) = (2 * uN x) % 18446744073709551616 + uN y := by
  have h1 : uN ((x <<< ((1 : Int32).toInt64 &&& 63)) ||| y) = uN (x <<< ((1 : Int32).toInt64 &&& 63)) ||| uN y := UInt64.toNat_or _ _
  have h2 : (2 * uN x) % 18446744073709551616 = 2 ^ 1 * (uN x % 9223372036854775808) := by omega
  rw [h1, uN_shl, h2]
  exact (Nat.two_pow_add_eq_or_of_lt (i := 1) hy _).symm
theorem nat_xor {a : Nat} (h : a < 18446744073709551616) : a ^^^ 2 ^ 63 = (a + 9223372036854775808) % 18446744073709551616 := by
  have h1 : (a ^^^ 2 ^ 63) % 2 ^ 63 = a % 2 ^ 63 := by rw [Nat.xor_mod_two_pow, Nat.mod_self, Nat.xor_zero]
  have h2 : (a ^^^ 2 ^ 63) / 2 ^ 63 = (a / 2 ^ 63) ^^^ 1 := by rw [Nat.xor_div_two_pow, Nat.div_self (Nat.two_pow_pos 63)]
  have h3 : a / 2 ^ 63 = 0 ∨ a / 2 ^ 63 = 1 := by omega
  generalize a ^^^ 2 ^ 63 = t at h1 h2
  rcases h3 with h3 | h3
  · rw [h3] at h2
    have h2 : t / 2 ^ 63 = 1 := h2
    omega
  · rw [h3] at h2
    have h2 : t / 2 ^ 63 = 0 := h2
    omega
theorem uN_xor (x : Int64) : uN (x ^^^ (-9223372036854775808)) = (uN x + 9223372036854775808) % 18446744073709551616 := by
  rw [← nat_xor (uN_lt x)]
  exact UInt64.toNat_xor _ _
theorem uN_int (x : Int64) : x.toInt = if 2 * uN x < 18446744073709551616 then (uN x : Int) else (uN x : Int) - 18446744073709551616 := BitVec.toInt_eq_toNat_cond _
theorem uN_le (x y : Int64) : (x ^^^ (-9223372036854775808)) ≤ (y ^^^ (-9223372036854775808)) ↔ uN x ≤ uN y := by
  have hx := uN_lt x
  have hy := uN_lt y
  rw [Int64.le_iff_toInt_le, uN_int, uN_int, uN_xor, uN_xor]
  omega
theorem uN_sk (x : Int64) {k : Nat} (hk : k < 64) : uN (x.toUInt64 >>> ((nI k).toInt64.toUInt64 &&& Int64.toUInt64 63)).toInt64 = uN x / 2 ^ k := by
  have h : ((nI k).toInt64.toUInt64 &&& Int64.toUInt64 63).toNat % 64 = k := by
    rw [nI_l (by omega), UInt64.toNat_and]
    have e : (lN k).toUInt64.toNat = k % 2 ^ 64 := rfl
    have e2 : (Int64.toUInt64 63).toNat = 2 ^ 6 - 1 := by decide
    rw [e, e2, Nat.and_two_pow_sub_one_eq_mod]
    omega
  rw [uN_shr, h]
/-! ===== unsigned comparison by xor with the least ===== -/
theorem lN_bv (n : Nat) : (lN n).toBitVec = BitVec.ofNat 64 n := rfl
theorem lN_nat {n : Nat} (h : n < 2 ^ 64) : (lN n).toBitVec.toNat = n := by rw [lN_bv, BitVec.toNat_ofNat]; exact Nat.mod_eq_of_lt h
theorem lN_xor (a b : Nat) : lN a ^^^ lN b = lN (a ^^^ b) := by
  apply Int64.toBitVec_inj.mp; rw [Int64.toBitVec_xor, lN_bv, lN_bv, lN_bv]; apply BitVec.eq_of_getLsbD_eq; intro i hi; simp [BitVec.getLsbD_ofNat, Nat.testBit_xor, hi]
theorem lN_ti {m : Nat} (h : m < 2 ^ 64) : (lN m).toInt = if m < 2 ^ 63 then (m : Int) else (m : Int) - 2 ^ 64 := by
  have c := BitVec.toInt_eq_toNat_cond (lN m).toBitVec
  rw [lN_nat h] at c
  show (lN m).toBitVec.toInt = _
  rw [c]
  split <;> split <;> omega
theorem xor63 {x : Nat} (h : x < 2 ^ 63) : x ^^^ 2 ^ 63 = 2 ^ 63 + x := by
  apply Nat.eq_of_testBit_eq
  intro i
  rw [Nat.testBit_xor, Nat.testBit_two_pow]
  rcases Nat.lt_trichotomy i 63 with z | z | z
  · rw [Nat.testBit_two_pow_add_gt z, decide_eq_false (by omega)]; simp
  · subst z; rw [Nat.testBit_two_pow_add_eq]; simp
  · have hp : 2 ^ 64 ≤ 2 ^ i := Nat.pow_le_pow_right (by decide) z
    rw [Nat.testBit_lt_two_pow (show x < 2 ^ i by omega), Nat.testBit_lt_two_pow (show 2 ^ 63 + x < 2 ^ i by omega), decide_eq_false (by omega)]; rfl
theorem xorS {a : Nat} (h : a < 2 ^ 64) : (lN a ^^^ (-9223372036854775808)).toInt = (a : Int) - 2 ^ 63 := by
  rw [show (-9223372036854775808 : Int64) = lN (2 ^ 63) from by decide +kernel, lN_xor]
  rcases Nat.lt_or_ge a (2 ^ 63) with z | z
  · rw [xor63 z, lN_ti (by omega), if_neg (by omega)]; omega
  · obtain ⟨x, rfl⟩ : ∃ x, a = 2 ^ 63 + x := ⟨a - 2 ^ 63, by omega⟩
    rw [← xor63 (by omega), Nat.xor_assoc, Nat.xor_self, Nat.xor_zero, lN_ti (by omega), if_pos (by omega), xor63 (by omega)]; omega
theorem ultL {a b : Nat} (ha : a < 2 ^ 64) (hb : b < 2 ^ 64) : ((lN b ^^^ (-9223372036854775808)) ≤ (lN a ^^^ (-9223372036854775808))) ↔ b ≤ a := by
  rw [Int64.le_iff_toInt_le, xorS ha, xorS hb]; omega
/-! ===== Int64 masks of n low bits ===== -/
theorem cr_bits (W U M : BitVec 64) : ((W &&& U) &&& (U &&& (M ^^^ BitVec.allOnes 64))) = 0#64 ↔ (W &&& U) &&& M = W &&& U := by
  constructor
  · intro h
    apply BitVec.eq_of_getLsbD_eq
    intro i hi
    have e := congrArg (fun x => BitVec.getLsbD x i) h
    simp only [BitVec.getLsbD_and, BitVec.getLsbD_xor, BitVec.getLsbD_allOnes, BitVec.getLsbD_zero, hi, decide_true] at e ⊢
    revert e
    cases W.getLsbD i <;> cases U.getLsbD i <;> cases M.getLsbD i <;> decide
  · intro h
    apply BitVec.eq_of_getLsbD_eq
    intro i hi
    have e := congrArg (fun x => BitVec.getLsbD x i) h
    simp only [BitVec.getLsbD_and, BitVec.getLsbD_xor, BitVec.getLsbD_allOnes, BitVec.getLsbD_zero, hi, decide_true] at e ⊢
    revert e
    cases W.getLsbD i <;> cases U.getLsbD i <;> cases M.getLsbD i <;> decide
theorem cr_mask (w U m : Int64) (n : Nat) (hm : m.toBitVec.toNat = 2 ^ n - 1) : ((w &&& U) &&& (U &&& (m ^^^ (-1)))) = 0 ↔ (w &&& U).toBitVec.toNat < 2 ^ n := by
  have e0 : (-1 : Int64).toBitVec = BitVec.allOnes 64 := by decide
  have z0 : (0 : Int64).toBitVec = 0#64 := by decide
  rw [← Int64.toBitVec_inj, z0, Int64.toBitVec_and, Int64.toBitVec_and, Int64.toBitVec_and, Int64.toBitVec_xor, e0, cr_bits]
  generalize w.toBitVec &&& U.toBitVec = T
  rw [← BitVec.toNat_inj, BitVec.toNat_and, hm, Nat.and_two_pow_sub_one_eq_mod]
  constructor
  · intro h
    have t := Nat.mod_lt T.toNat (Nat.two_pow_pos n)
    rw [h] at t
    exact t
  · exact Nat.mod_eq_of_lt
theorem cr_shr (t : Int64) (x : UInt64) (n : Nat) (hx : x.toNat % 64 = n) : (t.toUInt64 >>> x).toInt64 = 0 ↔ t.toBitVec.toNat < 2 ^ n := by
  rw [← Int64.toBitVec_inj, ← BitVec.toNat_inj]
  show (t.toUInt64 >>> x).toNat = 0 ↔ t.toUInt64.toNat < 2 ^ n
  rw [UInt64.toNat_shiftRight, hx, Nat.shiftRight_eq_div_pow]
  constructor
  · intro h
    have d : t.toUInt64.toNat / 2 ^ n < 1 := by
      rw [h]
      decide
    have e := (Nat.div_lt_iff_lt_mul (Nat.two_pow_pos n)).mp d
    rw [Nat.one_mul] at e
    exact e
  · exact Nat.div_eq_of_lt
theorem cr_amt (s : Int64) : ∃ n, n < 64 ∧ s &&& 63 = lN n ∧ (s.toUInt64 &&& Int64.toUInt64 63).toNat % 64 = n := by
  have e : (s.toUInt64 &&& Int64.toUInt64 63).toNat = s.toUInt64.toNat % 2 ^ 6 := by
    rw [UInt64.toNat_and, show (Int64.toUInt64 63).toNat = 2 ^ 6 - 1 from by decide, Nat.and_two_pow_sub_one_eq_mod]
  refine ⟨s.toUInt64.toNat % 2 ^ 6, by omega, ?_, by omega⟩
  rw [← Int64.toBitVec_inj, ← BitVec.toNat_inj]
  show (s.toUInt64 &&& Int64.toUInt64 63).toNat = (BitVec.ofNat 64 (s.toUInt64.toNat % 2 ^ 6)).toNat
  rw [e, BitVec.toNat_ofNat]
  omega
end
section
/-! ===== counting below a bound ===== -/
def cg_cnt (A : Nat → Bool) : Nat → Nat
  | 0 => 0
  | k + 1 => cg_cnt A k + (if A k = true then 1 else 0)
theorem cg_cnt_le (A : Nat → Bool) : ∀ k, cg_cnt A k ≤ k
  | 0 => Nat.le_refl _
  | k + 1 => by
    have := cg_cnt_le A k
    unfold cg_cnt
    split <;> omega
theorem cg_cnt_mono {A B : Nat → Bool} : ∀ k, (∀ i, i < k → A i = true → B i = true) → cg_cnt A k ≤ cg_cnt B k
  | 0, _ => Nat.le_refl _
  | k + 1, h => by
    have h1 := cg_cnt_mono (A := A) (B := B) k (fun i hi => h i (by omega))
    have h2 := h k (by omega)
    unfold cg_cnt
    by_cases a : A k = true
    · rw [if_pos a, if_pos (h2 a)]; omega
    · rw [if_neg a]; split <;> omega
theorem cg_cnt_congr {A B : Nat → Bool} (k : Nat) (h : ∀ i, i < k → A i = B i) : cg_cnt A k = cg_cnt B k :=
  Nat.le_antisymm (cg_cnt_mono k (fun i hi a => by rw [← h i hi]; exact a)) (cg_cnt_mono k (fun i hi a => by rw [h i hi]; exact a))
theorem cg_cnt_lt {A B : Nat → Bool} : ∀ k, (∀ i, i < k → A i = true → B i = true) → (∃ j, j < k ∧ B j = true ∧ A j = false) → cg_cnt A k < cg_cnt B k
  | 0, _, ⟨j, hj, _⟩ => absurd hj (Nat.not_lt_zero j)
  | k + 1, h, ⟨j, hj, hb, ha⟩ => by
    have h1 := cg_cnt_mono (A := A) (B := B) k (fun i hi => h i (by omega))
    have h2 := h k (by omega)
    unfold cg_cnt
    by_cases e : j = k
    · subst e
      rw [if_pos hb, ha, if_neg (by decide)]; omega
    · have h3 := cg_cnt_lt (A := A) (B := B) k (fun i hi => h i (by omega)) ⟨j, by omega, hb, ha⟩
      by_cases a : A k = true
      · rw [if_pos a, if_pos (h2 a)]; omega
      · rw [if_neg a]; split <;> omega
theorem cg_cnt_zero {A : Nat → Bool} : ∀ k, (∀ i, i < k → A i = false) → cg_cnt A k = 0
  | 0, _ => rfl
  | k + 1, h => by
    unfold cg_cnt
    rw [cg_cnt_zero k (fun i hi => h i (by omega)), h k (by omega), if_neg (by decide)]
theorem cg_cnt_pos {A : Nat → Bool} {j k : Nat} (hj : j < k) (h : A j = true) : 0 < cg_cnt A k := by
  have := cg_cnt_lt (A := fun _ => false) (B := A) k (fun i _ z => absurd z (by decide)) ⟨j, hj, h, rfl⟩
  omega
theorem cg_cnt_ex {A : Nat → Bool} : ∀ k, 0 < cg_cnt A k → ∃ j, j < k ∧ A j = true
  | 0, h => absurd h (Nat.lt_irrefl 0)
  | k + 1, h => by
    by_cases a : A k = true
    · exact ⟨k, by omega, a⟩
    · unfold cg_cnt at h
      rw [if_neg a] at h
      obtain ⟨j, hj, hA⟩ := cg_cnt_ex (A := A) k (by omega)
      exact ⟨j, by omega, hA⟩
theorem cg_cnt_all {A : Nat → Bool} : ∀ k, (∀ i, i < k → A i = true) → cg_cnt A k = k
  | 0, _ => rfl
  | k + 1, h => by
    unfold cg_cnt
    rw [cg_cnt_all k (fun i hi => h i (by omega)), h k (by omega), if_pos rfl]
theorem cg_cnt_full {A : Nat → Bool} {k : Nat} (h : k ≤ cg_cnt A k) : ∀ i, i < k → A i = true := by
  intro i hi
  by_cases a : A i = true
  · exact a
  · have a' : A i = false := by revert a; cases A i <;> simp
    have h1 := cg_cnt_lt (A := A) (B := fun _ => true) k (fun _ _ _ => rfl) ⟨i, hi, rfl, a'⟩
    have h2 := cg_cnt_le (fun _ => true) k
    omega
theorem cg_cnt_or {A B : Nat → Bool} : ∀ k, (∀ i, i < k → A i = true → B i = true → False) → cg_cnt (fun i => A i || B i) k = cg_cnt A k + cg_cnt B k
  | 0, _ => rfl
  | k + 1, h => by
    have h1 := cg_cnt_or (A := A) (B := B) k (fun i hi => h i (by omega))
    have h2 := h k (by omega)
    unfold cg_cnt
    rw [h1]
    cases a : A k <;> cases b : B k <;> simp
    · omega
    · omega
    · exact absurd b (fun b => h2 a b)
theorem cg_cnt_ie {A B : Nat → Bool} : ∀ k, cg_cnt (fun i => A i || B i) k + cg_cnt (fun i => A i && B i) k = cg_cnt A k + cg_cnt B k
  | 0 => rfl
  | k + 1 => by
    have h1 := cg_cnt_ie (A := A) (B := B) k
    unfold cg_cnt
    cases a : A k <;> cases b : B k <;> simp <;> omega
theorem cg_cnt_one : ∀ k j, j < k → cg_cnt (fun i => decide (i = j)) k = 1
  | 0, j, h => absurd h (Nat.not_lt_zero j)
  | k + 1, j, h => by
    unfold cg_cnt
    by_cases e : j = k
    · subst e
      rw [cg_cnt_zero j (fun i hi => by simp; omega)]
      simp
    · rw [cg_cnt_one k j (by omega), if_neg (by simp; omega)]
theorem cg_cnt_erase {A : Nat → Bool} {j k : Nat} (hj : j < k) (h : A j = true) : cg_cnt A k = cg_cnt (fun i => A i && !decide (i = j)) k + 1 := by
  have e : cg_cnt A k = cg_cnt (fun i => (A i && !decide (i = j)) || decide (i = j)) k := by
    apply cg_cnt_congr
    intro i _
    by_cases e : i = j
    · subst e; simp [h]
    · simp [e]
  rw [e, cg_cnt_or k (by intro i _ a b; simp at a b; exact a.2 b), cg_cnt_one k j hj]
theorem cg_cnt_inj {A : Nat → Bool} {b : Nat} (f : Nat → Nat) : ∀ (a : Nat) (B : Nat → Bool), (∀ x, x < a → A x = true → f x < b ∧ B (f x) = true) → (∀ x y, x < a → y < a → A x = true → A y = true → f x = f y → x = y) → cg_cnt A a ≤ cg_cnt B b
  | 0, _, _, _ => Nat.zero_le _
  | a + 1, B, h, hi => by
    rw [show cg_cnt A (a + 1) = cg_cnt A a + (if A a = true then 1 else 0) from rfl]
    by_cases z : A a = true
    · rw [if_pos z]
      obtain ⟨h1, h2⟩ := h a (by omega) z
      rw [cg_cnt_erase h1 h2]
      have := cg_cnt_inj (A := A) (b := b) f a (fun i => B i && !decide (i = f a)) (fun x hx ax => by
        obtain ⟨h3, h4⟩ := h x (by omega) ax
        refine ⟨h3, ?_⟩
        have : f x ≠ f a := fun e => by
          have := hi x a (by omega) (by omega) ax z e
          omega
        simp [h4, this]) (fun x y hx hy => hi x y (by omega) (by omega))
      omega
    · rw [if_neg z]
      exact cg_cnt_inj (A := A) (b := b) f a B (fun x hx => h x (by omega)) (fun x y hx hy => hi x y (by omega) (by omega))
theorem cg_cnt_add (A : Nat → Bool) (a : Nat) : ∀ b, cg_cnt A (a + b) = cg_cnt A a + cg_cnt (fun i => A (a + i)) b
  | 0 => rfl
  | b + 1 => by
    have := cg_cnt_add A a b
    show cg_cnt A (a + b) + (if A (a + b) = true then 1 else 0) = cg_cnt A a + (cg_cnt (fun i => A (a + i)) b + (if A (a + b) = true then 1 else 0))
    rw [this]
    omega
theorem cg_bF {x : Bool} (h : ¬ x = true) : x = false := by cases x <;> simp_all
theorem cg_bT {x : Bool} (h : ¬ x = false) : x = true := by cases x <;> simp_all
end
section
/-! ===== the tree's base form: V vertices, U used nodes, r root, K kinds, P parents, L leaf sets, E the graph ===== -/
def tw_B (V U : Nat → Bool) (r : Nat) (K P : Nat → Int32) (L E : Nat → Nat → Bool) : Prop :=
  (∀ v, V v = true → v < 8) ∧
  (∀ x, U x = true → x < 20) ∧
  (U r = true ∧ P r = -1 ∧ ∀ v, V v = true → L r v = true) ∧
  (∀ x, U x = true → x ≠ r → ∃ p, U p = true ∧ P x = nI p) ∧
  (∀ x, U x = true → ∃ v, L x v = true) ∧
  (∀ x v, U x = true → L x v = true → V v = true) ∧
  (∀ c x, U c = true → U x = true → P c = nI x → ∀ v, L c v = true → L x v = true) ∧
  (∀ c d x, U c = true → U d = true → c ≠ d → U x = true → P c = nI x → P d = nI x → ∀ v, L c v = true → L d v = true → False) ∧
  (∀ x, U x = true → (K x = 0 ∧ (∀ c, U c = true → P c = nI x → False) ∧ (∀ u v, L x u = true → L x v = true → u = v)) ∨
     ((K x = 1 ∨ K x = 2) ∧ (∀ v, L x v = true → ∃ c, U c = true ∧ P c = nI x ∧ L c v = true) ∧ (∃ c d, c ≠ d ∧ U c = true ∧ U d = true ∧ P c = nI x ∧ P d = nI x))) ∧
  (∀ c d x, U c = true → U d = true → c ≠ d → U x = true → P c = nI x → P d = nI x → ∀ u v, L c u = true → L d v = true → E u v = decide (K x = 2))
/-- the kinds alternate -/
def tw_A (U : Nat → Bool) (K P : Nat → Int32) : Prop := ∀ c x, U c = true → U x = true → P c = nI x → K c ≠ K x
/-- the children masks are the parents' inverse -/
def tw_C (U : Nat → Bool) (P : Nat → Int32) (C : Nat → Nat → Bool) : Prop := ∀ x, U x = true → ∀ c, (C x c = true ↔ U c = true ∧ P c = nI x)
theorem tw_nI {x y : Nat} (hx : x < 20) (hy : y < 20) (h : nI x = nI y) : x = y := (nI_eq (by omega) (by omega)).mp h
theorem tw_m1 {x : Nat} (hx : x < 20) : (-1 : Int32) ≠ nI x := (by decide +kernel : ∀ x, x < 20 → (-1 : Int32) ≠ nI x) x hx
section
variable {V U : Nat → Bool} {r : Nat} {K P : Nat → Int32} {L E : Nat → Nat → Bool}
theorem tw_V8 (h : tw_B V U r K P L E) {v : Nat} (hv : V v = true) : v < 8 := h.1 v hv
theorem tw_lt (h : tw_B V U r K P L E) {x : Nat} (hx : U x = true) : x < 20 := h.2.1 x hx
theorem tw_rU (h : tw_B V U r K P L E) : U r = true := h.2.2.1.1
theorem tw_rP (h : tw_B V U r K P L E) : P r = -1 := h.2.2.1.2.1
theorem tw_rL (h : tw_B V U r K P L E) {v : Nat} (hv : V v = true) : L r v = true := h.2.2.1.2.2 v hv
theorem tw_par (h : tw_B V U r K P L E) {x : Nat} (hx : U x = true) (hr : x ≠ r) : ∃ p, U p = true ∧ P x = nI p := h.2.2.2.1 x hx hr
theorem tw_ne (h : tw_B V U r K P L E) {x : Nat} (hx : U x = true) : ∃ v, L x v = true := h.2.2.2.2.1 x hx
theorem tw_LV (h : tw_B V U r K P L E) {x v : Nat} (hx : U x = true) (hv : L x v = true) : V v = true := h.2.2.2.2.2.1 x v hx hv
theorem tw_L8 (h : tw_B V U r K P L E) {x v : Nat} (hx : U x = true) (hv : L x v = true) : v < 8 := tw_V8 h (tw_LV h hx hv)
theorem tw_sub (h : tw_B V U r K P L E) {c x v : Nat} (hc : U c = true) (hx : U x = true) (hp : P c = nI x) (hv : L c v = true) : L x v = true := h.2.2.2.2.2.2.1 c x hc hx hp v hv
theorem tw_dis (h : tw_B V U r K P L E) {c d x v : Nat} (hc : U c = true) (hd : U d = true) (hx : U x = true) (hp : P c = nI x) (hq : P d = nI x) (hv : L c v = true) (hw : L d v = true) : c = d := by
  by_cases e : c = d
  · exact e
  · exact (h.2.2.2.2.2.2.2.1 c d x hc hd e hx hp hq v hv hw).elim
theorem tw_kd (h : tw_B V U r K P L E) {x : Nat} (hx : U x = true) : (K x = 0 ∧ (∀ c, U c = true → P c = nI x → False) ∧ (∀ u v, L x u = true → L x v = true → u = v)) ∨
     ((K x = 1 ∨ K x = 2) ∧ (∀ v, L x v = true → ∃ c, U c = true ∧ P c = nI x ∧ L c v = true) ∧ (∃ c d, c ≠ d ∧ U c = true ∧ U d = true ∧ P c = nI x ∧ P d = nI x)) := h.2.2.2.2.2.2.2.2.1 x hx
theorem tw_adj (h : tw_B V U r K P L E) {c d x u v : Nat} (hc : U c = true) (hd : U d = true) (e : c ≠ d) (hx : U x = true) (hp : P c = nI x) (hq : P d = nI x) (hu : L c u = true) (hv : L d v = true) : E u v = decide (K x = 2) := h.2.2.2.2.2.2.2.2.2 c d x hc hd e hx hp hq u v hu hv
theorem tw_in (h : tw_B V U r K P L E) {x c : Nat} (hx : U x = true) (hc : U c = true) (hp : P c = nI x) : (K x = 1 ∨ K x = 2) ∧ (∀ v, L x v = true → ∃ c, U c = true ∧ P c = nI x ∧ L c v = true) ∧ (∃ c d, c ≠ d ∧ U c = true ∧ U d = true ∧ P c = nI x ∧ P d = nI x) := by
  rcases tw_kd h hx with ⟨_, h2, _⟩ | h2
  · exact (h2 c hc hp).elim
  · exact h2
theorem tw_inn (h : tw_B V U r K P L E) {x : Nat} (hx : U x = true) (hk : K x ≠ 0) : (K x = 1 ∨ K x = 2) ∧ (∀ v, L x v = true → ∃ c, U c = true ∧ P c = nI x ∧ L c v = true) ∧ (∃ c d, c ≠ d ∧ U c = true ∧ U d = true ∧ P c = nI x ∧ P d = nI x) := by
  rcases tw_kd h hx with ⟨h1, _⟩ | h2
  · exact absurd h1 hk
  · exact h2
theorem tw_pr (h : tw_B V U r K P L E) {x p : Nat} (hp : U p = true) (hx : P x = nI p) : x ≠ r := by
  intro e
  rw [e, tw_rP h] at hx
  exact tw_m1 (tw_lt h hp) hx
theorem tw_pu (h : tw_B V U r K P L E) {x p q : Nat} (hp : U p = true) (hq : U q = true) (e : P x = nI p) (e' : P x = nI q) : p = q := tw_nI (tw_lt h hp) (tw_lt h hq) (e.symm.trans e')
/-- the other child -/
theorem tw_oth (h : tw_B V U r K P L E) {x c : Nat} (hx : U x = true) (hc : U c = true) (hp : P c = nI x) : ∃ d, d ≠ c ∧ U d = true ∧ P d = nI x := by
  obtain ⟨_, _, a, b, e, ha, hb, pa, pb⟩ := tw_in h hx hc hp
  by_cases z : a = c
  · exact ⟨b, fun y => e (z.trans y.symm), hb, pb⟩
  · exact ⟨a, z, ha, pa⟩
theorem tw_card (h : tw_B V U r K P L E) {x c : Nat} (hx : U x = true) (hc : U c = true) (hp : P c = nI x) : cg_cnt (L c) 8 < cg_cnt (L x) 8 := by
  obtain ⟨d, e, hd, pd⟩ := tw_oth h hx hc hp
  obtain ⟨w, hw⟩ := tw_ne h hd
  refine cg_cnt_lt 8 (fun i _ => tw_sub h hc hx hp) ⟨w, tw_L8 h hd hw, tw_sub h hd hx pd hw, ?_⟩
  by_cases z : L c w = true
  · exact absurd (tw_dis h hc hd hx hp pd z hw) (fun y => e y.symm)
  · exact cg_bF z
/-- x is not its own parent, nor within its child -/
theorem tw_np (h : tw_B V U r K P L E) {x c : Nat} (hx : U x = true) (hc : U c = true) (hp : P c = nI x) : ¬ ∀ v, L x v = true → L c v = true := by
  intro z
  have h1 := tw_card h hx hc hp
  have h2 := cg_cnt_mono (A := L x) (B := L c) 8 (fun i _ => z i)
  omega
theorem tw_self (h : tw_B V U r K P L E) {x c : Nat} (hx : U x = true) (hc : U c = true) (hp : P c = nI x) : c ≠ x := by
  intro e
  subst e
  have h1 := tw_card h hx hc hp
  omega
end
/-- the chain of nodes from the root down to vertex v -/
def tw_Ch (U : Nat → Bool) (P : Nat → Int32) (L : Nat → Nat → Bool) (r v : Nat) : Nat → Nat → Prop
  | 0, x => x = r
  | k + 1, x => ∃ p, tw_Ch U P L r v k p ∧ U p = true ∧ U x = true ∧ P x = nI p ∧ L x v = true
section
variable {V U : Nat → Bool} {r : Nat} {K P : Nat → Int32} {L E : Nat → Nat → Bool}
theorem tw_chU (h : tw_B V U r K P L E) {v : Nat} : ∀ k x, tw_Ch U P L r v k x → U x = true
  | 0, x, e => by
    have e' : x = r := e
    rw [e']; exact tw_rU h
  | k + 1, x, ⟨p, _, _, hx, _⟩ => hx
theorem tw_chE (h : tw_B V U r K P L E) {v : Nat} : ∀ k x y, tw_Ch U P L r v k x → tw_Ch U P L r v k y → x = y
  | 0, x, y, e, f => by
    have e' : x = r := e
    have f' : y = r := f
    rw [e', f']
  | k + 1, x, y, ⟨p, hp, pU, hx, px, lx⟩, ⟨q, hq, qU, hy, py, ly⟩ => by
    have := tw_chE h k p q hp hq
    subst this
    exact tw_dis h hx hy pU px py lx ly
theorem tw_chX (h : tw_B V U r K P L E) {v : Nat} : ∀ m x, 8 ≤ m + cg_cnt (L x) 8 → U x = true → L x v = true → ∃ k, tw_Ch U P L r v k x := by
  intro m
  induction m with
  | zero =>
    intro x hm hx hv
    by_cases e : x = r
    · exact ⟨0, e⟩
    · obtain ⟨p, hp, px⟩ := tw_par h hx e
      have h1 := tw_card h hp hx px
      have h2 := cg_cnt_le (L p) 8
      omega
  | succ m ih =>
    intro x hm hx hv
    by_cases e : x = r
    · exact ⟨0, e⟩
    · obtain ⟨p, hp, px⟩ := tw_par h hx e
      have h1 := tw_card h hp hx px
      obtain ⟨k, hk⟩ := ih p (by omega) hp (tw_sub h hx hp px hv)
      exact ⟨k + 1, p, hk, hp, hx, px, hv⟩
theorem tw_chS (h : tw_B V U r K P L E) {v i y : Nat} (hy : tw_Ch U P L r v i y) : ∀ d x, tw_Ch U P L r v (i + d) x → ∀ u, L x u = true → L y u = true
  | 0, x, hx, u, hu => by
    rw [tw_chE h i y x hy hx]; exact hu
  | d + 1, x, ⟨p, hp, pU, xU, px, lx⟩, u, hu => tw_chS h hy d p hp u (tw_sub h xU pU px hu)
theorem tw_chL (h : tw_B V U r K P L E) {v i y : Nat} (hy : tw_Ch U P L r v i y) {d x : Nat} (hx : tw_Ch U P L r v (i + (d + 1)) x) : cg_cnt (L x) 8 < cg_cnt (L y) 8 := by
  obtain ⟨p, hp, pU, xU, px, lx⟩ := hx
  have h1 := tw_card h pU xU px
  have h2 := cg_cnt_mono (A := L p) (B := L y) 8 (fun u _ => tw_chS h hy d p hp u)
  omega
theorem tw_chM (h : tw_B V U r K P L E) {v i y : Nat} (hy : tw_Ch U P L r v i y) : ∀ d x, tw_Ch U P L r v (i + 1 + d) x → ∃ z, U z = true ∧ P z = nI y ∧ ∀ u, L x u = true → L z u = true
  | 0, x, ⟨p, hp, pU, xU, px, lx⟩ => ⟨x, xU, by rw [tw_chE h i y p hy hp]; exact px, fun _ hu => hu⟩
  | d + 1, x, ⟨p, hp, pU, xU, px, lx⟩ => by
    obtain ⟨z, h1, h2, h3⟩ := tw_chM h hy d p hp
    exact ⟨z, h1, h2, fun u hu => h3 u (tw_sub h xU pU px hu)⟩
/-- two nodes with a common vertex -/
theorem tw_cmp (h : tw_B V U r K P L E) {x y v : Nat} (hx : U x = true) (hy : U y = true) (lx : L x v = true) (ly : L y v = true) :
    x = y ∨ (∃ c, U c = true ∧ P c = nI y ∧ ∀ u, L x u = true → L c u = true) ∨ (∃ c, U c = true ∧ P c = nI x ∧ ∀ u, L y u = true → L c u = true) := by
  obtain ⟨i, hi⟩ := tw_chX h 8 x (by omega) hx lx
  obtain ⟨j, hj⟩ := tw_chX h 8 y (by omega) hy ly
  rcases Nat.lt_trichotomy i j with z | z | z
  · obtain ⟨d, rfl⟩ : ∃ d, j = i + 1 + d := ⟨j - (i + 1), by omega⟩
    exact Or.inr (Or.inr (tw_chM h hi d y hj))
  · subst z
    exact Or.inl (tw_chE h i x y hi hj)
  · obtain ⟨d, rfl⟩ : ∃ d, i = j + 1 + d := ⟨i - (j + 1), by omega⟩
    exact Or.inr (Or.inl (tw_chM h hj d x hi))
/-- a node within a node -/
theorem tw_down (h : tw_B V U r K P L E) {x y : Nat} (hx : U x = true) (hy : U y = true) (hs : ∀ v, L x v = true → L y v = true) :
    x = y ∨ ∃ c, U c = true ∧ P c = nI y ∧ ∀ u, L x u = true → L c u = true := by
  obtain ⟨v, hv⟩ := tw_ne h hx
  rcases tw_cmp h hx hy hv (hs v hv) with z | z | ⟨c, hc, pc, sc⟩
  · exact Or.inl z
  · exact Or.inr z
  · exact (tw_np h hx hc pc (fun w hw => sc w (hs w hw))).elim
theorem tw_inj (h : tw_B V U r K P L E) {x y : Nat} (hx : U x = true) (hy : U y = true) (hs : ∀ v, L x v = true ↔ L y v = true) : x = y := by
  rcases tw_down h hx hy (fun v => (hs v).mp) with z | ⟨c, hc, pc, sc⟩
  · exact z
  · exact (tw_np h hy hc pc (fun w hw => sc w ((hs w).mpr hw))).elim
theorem tw_up (h : tw_B V U r K P L E) {x y : Nat} (hx : U x = true) (hy : U y = true) (hs : ∀ v, L x v = true → L y v = true) :
    x = y ∨ ∃ p, U p = true ∧ P x = nI p ∧ ∀ u, L p u = true → L y u = true := by
  by_cases e : x = y
  · exact Or.inl e
  · right
    have er : x ≠ r := by
      intro z
      subst z
      exact e (tw_inj h hx hy (fun v => ⟨hs v, fun hv => tw_rL h (tw_LV h hy hv)⟩))
    obtain ⟨p, hp, px⟩ := tw_par h hx er
    refine ⟨p, hp, px, ?_⟩
    obtain ⟨v, hv⟩ := tw_ne h hx
    rcases tw_cmp h hp hy (tw_sub h hx hp px hv) (hs v hv) with z | ⟨c, hc, pc, sc⟩ | ⟨c, hc, pc, sc⟩
    · subst z; exact fun u hu => hu
    · exact fun u hu => tw_sub h hc hy pc (sc u hu)
    · have : c = x := tw_dis h hc hx hp pc px (sc v (hs v hv)) hv
      subst this
      exact (e (tw_inj h hx hy (fun v => ⟨hs v, sc v⟩))).elim
theorem tw_top (h : tw_B V U r K P L E) {y : Nat} (hy : U y = true) (hs : ∀ v, L r v = true → L y v = true) : y = r :=
  (tw_inj h (tw_rU h) hy (fun v => ⟨hs v, fun hv => tw_rL h (tw_LV h hy hv)⟩)).symm
/-- no four-path -/
theorem tw_p4 (h : tw_B V U r K P L E) {a b c d : Nat} (hab : E a b = true) (hbc : E b c = true) (hcd : E c d = true) (hac : E a c = false) (had : E a d = false) (hbd : E b d = false) :
    ∀ m x, cg_cnt (L x) 8 ≤ m → U x = true → L x a = true → L x b = true → L x c = true → L x d = true → False := by
  intro m
  induction m with
  | zero =>
    intro x hm hx la _ _ _
    have := cg_cnt_pos (A := L x) (tw_L8 h hx la) la
    omega
  | succ m ih =>
    intro x hm hx la lb lc ld
    rcases tw_kd h hx with ⟨_, _, hs⟩ | ⟨hk, hcov, _⟩
    · have e := hs b c lb lc
      subst e
      rw [hab] at hac
      exact absurd hac (by decide)
    · obtain ⟨ya, ua, pa, la'⟩ := hcov a la
      obtain ⟨yb, ub, pb, lb'⟩ := hcov b lb
      obtain ⟨yc, uc, pc, lc'⟩ := hcov c lc
      obtain ⟨yd, ud, pd, ld'⟩ := hcov d ld
      have hm' := tw_card h hx ua pa
      have key : yb = ya ∧ yc = ya ∧ yd = ya := by
        rcases hk with hk | hk
        · have f : decide (K x = 2) = false := by rw [hk]; decide
          have e1 : ya = yb := Classical.byContradiction fun e => by
            have := tw_adj h ua ub e hx pa pb la' lb'
            rw [hab, f] at this; exact absurd this (by decide)
          have e2 : yb = yc := Classical.byContradiction fun e => by
            have := tw_adj h ub uc e hx pb pc lb' lc'
            rw [hbc, f] at this; exact absurd this (by decide)
          have e3 : yc = yd := Classical.byContradiction fun e => by
            have := tw_adj h uc ud e hx pc pd lc' ld'
            rw [hcd, f] at this; exact absurd this (by decide)
          exact ⟨e1.symm, (e1.trans e2).symm, (e1.trans (e2.trans e3)).symm⟩
        · have f : decide (K x = 2) = true := by rw [hk]; decide
          have e1 : ya = yc := Classical.byContradiction fun e => by
            have := tw_adj h ua uc e hx pa pc la' lc'
            rw [hac, f] at this; exact absurd this (by decide)
          have e2 : ya = yd := Classical.byContradiction fun e => by
            have := tw_adj h ua ud e hx pa pd la' ld'
            rw [had, f] at this; exact absurd this (by decide)
          have e3 : yb = yd := Classical.byContradiction fun e => by
            have := tw_adj h ub ud e hx pb pd lb' ld'
            rw [hbd, f] at this; exact absurd this (by decide)
          exact ⟨e3.trans e2.symm, e1.symm, e2.symm⟩
      obtain ⟨e1, e2, e3⟩ := key
      subst e1 e2 e3
      exact ih _ (by omega) ua la' lb' lc' ld'
/-- the meeting node of two vertices -/
theorem tw_meet (h : tw_B V U r K P L E) {x u v : Nat} (hx : U x = true) (lu : L x u = true) (lv : L x v = true) (e : u ≠ v)
    (hn : ∀ c, U c = true → P c = nI x → ¬ (L c u = true ∧ L c v = true)) : (K x = 1 ∨ K x = 2) ∧ E u v = decide (K x = 2) := by
  rcases tw_kd h hx with ⟨_, _, hs⟩ | ⟨hk, hcov, _⟩
  · exact (e (hs u v lu lv)).elim
  · obtain ⟨c, uc, pc, lc⟩ := hcov u lu
    obtain ⟨d, ud, pd, ld⟩ := hcov v lv
    have : c ≠ d := by
      intro z
      subst z
      exact hn c uc pc ⟨lc, ld⟩
    exact ⟨hk, tw_adj h uc ud this hx pc pd lc ld⟩
/-- every proper part of an inner node's leaves is linked to the rest as the other kind says -/
theorem tw_cut (h : tw_B V U r K P L E) {x : Nat} (hx : U x = true) (hk : K x ≠ 0) {A : Nat → Bool} {a b : Nat} (la : L x a = true) (ha : A a = true) (lb : L x b = true) (hb : A b = false) :
    ∃ u v, L x u = true ∧ L x v = true ∧ A u = true ∧ A v = false ∧ E u v = decide (K x = 2) := by
  obtain ⟨_, hcov, _⟩ := tw_inn h hx hk
  obtain ⟨c, uc, pc, lc⟩ := hcov a la
  obtain ⟨d, ud, pd, ld⟩ := hcov b lb
  by_cases e : c = d
  · subst e
    obtain ⟨g, eg, ug, pg⟩ := tw_oth h hx uc pc
    obtain ⟨w, hw⟩ := tw_ne h ug
    by_cases z : A w = true
    · exact ⟨w, b, tw_sub h ug hx pg hw, lb, z, hb, tw_adj h ug ud eg hx pg pd hw ld⟩
    · exact ⟨a, w, la, tw_sub h ug hx pg hw, ha, cg_bF z, tw_adj h uc ug (fun y => eg y.symm) hx pc pg lc hw⟩
  · exact ⟨a, b, la, lb, ha, hb, tw_adj h uc ud e hx pc pd lc ld⟩
end
end
section
/-! ===== growing the tree ===== -/
section
variable {V U : Nat → Bool} {r : Nat} {K P : Nat → Int32} {L E : Nat → Nat → Bool}
theorem tw_pnl (h : tw_B V U r K P L E) {c l : Nat} (hc : U c = true) (hl : U l = false) (l20 : l < 20) : P c ≠ nI l := by
  intro e
  by_cases z : c = r
  · rw [z, tw_rP h] at e
    exact tw_m1 l20 e
  · obtain ⟨p, hp, pc⟩ := tw_par h hc z
    have := tw_nI (tw_lt h hp) l20 (pc.symm.trans e)
    rw [this, hl] at hp
    exact absurd hp (by decide)
theorem tw_neU {l x : Nat} (hl : U l = false) (hx : U x = true) : x ≠ l := by
  intro e
  rw [e, hl] at hx
  exact absurd hx (by decide)
theorem tw_nV (h : tw_B V U r K P L E) {n x : Nat} (hn : V n = false) (hx : U x = true) : ¬ L x n = true := by
  intro z
  have := tw_LV h hx z
  rw [hn] at this
  exact absurd this (by decide)
/-- a new leaf l, of the new vertex n, under the inner node x -/
theorem tw_addLeaf {V' U' : Nat → Bool} {K' P' : Nat → Int32} {L' E' : Nat → Nat → Bool} (h : tw_B V U r K P L E) {x l n : Nat} (hx : U x = true) (hk : K x ≠ 0) (hl : U l = false) (l20 : l < 20) (n8 : n < 8) (hn : V n = false)
    (eV : ∀ v, V' v = true ↔ V v = true ∨ v = n)
    (eU : ∀ y, U' y = true ↔ U y = true ∨ y = l)
    (eK : ∀ y, U y = true → K' y = K y) (eKl : K' l = 0)
    (eP : ∀ y, U y = true → P' y = P y) (ePl : P' l = nI x)
    (eL : ∀ y, U y = true → ∀ v, L' y v = true ↔ L y v = true ∨ (v = n ∧ ∀ u, L x u = true → L y u = true))
    (eLl : ∀ v, L' l v = true ↔ v = n)
    (eE : ∀ u v, V u = true → V v = true → E' u v = E u v) (eS : ∀ u, V u = true → E' n u = E' u n)
    (N1 : ∀ u, L x u = true → E' u n = decide (K x = 2))
    (N2 : ∀ y c d, U y = true → U c = true → U d = true → c ≠ d → P c = nI y → P d = nI y → (∀ u, L x u = true → L d u = true) → ∀ u, L c u = true → E' u n = decide (K y = 2)) :
    tw_B V' U' r K' P' L' E' := by
  have hch : ∀ c y, U' c = true → U' y = true → P' c = nI y → U y = true ∧ ((U c = true ∧ P c = nI y) ∨ (c = l ∧ y = x)) := by
    intro c y hc hy hp
    rcases (eU c).mp hc with uc | rfl
    · rw [eP c uc] at hp
      rcases (eU y).mp hy with uy | rfl
      · exact ⟨uy, Or.inl ⟨uc, hp⟩⟩
      · exact (tw_pnl h uc hl l20 hp).elim
    · rw [ePl] at hp
      rcases (eU y).mp hy with uy | rfl
      · have := tw_nI (tw_lt h hx) (tw_lt h uy) hp
        exact ⟨uy, Or.inr ⟨rfl, this.symm⟩⟩
      · exact (tw_neU hl hx (tw_nI (tw_lt h hx) l20 hp)).elim
  have hnv : ∀ y, U y = true → ¬ L y n = true := fun y hy => tw_nV h hn hy
  have h2a : ∀ y c d, U y = true → U c = true → U d = true → c ≠ d → P c = nI y → P d = nI y → (∀ u, L x u = true → L c u = true) → (∀ u, L x u = true → L d u = true) → False := by
    intro y c d hy hc hd e pc pd ac ad
    obtain ⟨w, hw⟩ := tw_ne h hx
    exact e (tw_dis h hc hd hy pc pd (ac w hw) (ad w hw))
  refine ⟨?_, ?_, ⟨?_, ?_, ?_⟩, ?_, ?_, ?_, ?_, ?_, ?_, ?_⟩
  · intro v hv
    rcases (eV v).mp hv with z | rfl
    · exact tw_V8 h z
    · exact n8
  · intro y hy
    rcases (eU y).mp hy with z | rfl
    · exact tw_lt h z
    · exact l20
  · exact (eU r).mpr (Or.inl (tw_rU h))
  · rw [eP r (tw_rU h)]; exact tw_rP h
  · intro v hv
    rw [eL r (tw_rU h)]
    rcases (eV v).mp hv with z | rfl
    · exact Or.inl (tw_rL h z)
    · exact Or.inr ⟨rfl, fun u hu => tw_rL h (tw_LV h hx hu)⟩
  · intro y hy hr
    rcases (eU y).mp hy with z | rfl
    · obtain ⟨p, hp, pp⟩ := tw_par h z hr
      exact ⟨p, (eU p).mpr (Or.inl hp), by rw [eP y z]; exact pp⟩
    · exact ⟨x, (eU x).mpr (Or.inl hx), ePl⟩
  · intro y hy
    rcases (eU y).mp hy with z | rfl
    · obtain ⟨v, hv⟩ := tw_ne h z
      exact ⟨v, (eL y z v).mpr (Or.inl hv)⟩
    · exact ⟨n, (eLl n).mpr rfl⟩
  · intro y v hy hv
    rw [eV]
    rcases (eU y).mp hy with z | rfl
    · rcases (eL y z v).mp hv with w | ⟨w, _⟩
      · exact Or.inl (tw_LV h z w)
      · exact Or.inr w
    · exact Or.inr ((eLl v).mp hv)
  · intro c y hc hy hp v hv
    obtain ⟨uy, ⟨uc, pc⟩ | ⟨rfl, rfl⟩⟩ := hch c y hc hy hp
    · rw [eL y uy]
      rcases (eL c uc v).mp hv with w | ⟨w, ac⟩
      · exact Or.inl (tw_sub h uc uy pc w)
      · exact Or.inr ⟨w, fun u hu => tw_sub h uc uy pc (ac u hu)⟩
    · rw [eL y uy]
      exact Or.inr ⟨(eLl v).mp hv, fun u hu => hu⟩
  · intro c d y hc hd e hy pc' pd' v hv hw
    obtain ⟨uy, cc⟩ := hch c y hc hy pc'
    obtain ⟨_, dd⟩ := hch d y hd hy pd'
    rcases cc with ⟨uc, pc⟩ | ⟨rfl, rfl⟩
    · rcases dd with ⟨ud, pd⟩ | ⟨rfl, rfl⟩
      · rcases (eL c uc v).mp hv with a | ⟨a, ac⟩
        · rcases (eL d ud v).mp hw with b | ⟨b, ad⟩
          · exact e (tw_dis h uc ud uy pc pd a b)
          · subst b; exact hnv c uc a
        · rcases (eL d ud v).mp hw with b | ⟨b, ad⟩
          · subst a; exact hnv d ud b
          · exact h2a y c d uy uc ud e pc pd ac ad
      · have b := (eLl v).mp hw
        subst b
        rcases (eL c uc v).mp hv with a | ⟨a, ac⟩
        · exact hnv c uc a
        · exact tw_np h hx uc pc ac
    · have a := (eLl v).mp hv
      subst a
      rcases dd with ⟨ud, pd⟩ | ⟨rfl, _⟩
      · rcases (eL d ud v).mp hw with b | ⟨b, ad⟩
        · exact hnv d ud b
        · exact tw_np h hx ud pd ad
      · exact e rfl
  · intro y hy
    rcases (eU y).mp hy with uy | rfl
    · rw [eK y uy]
      rcases tw_kd h uy with ⟨k0, nc, sg⟩ | ⟨k12, cov, c, d, e, uc, ud, pc, pd⟩
      · left
        refine ⟨k0, ?_, ?_⟩
        · intro c hc hp
          obtain ⟨_, ⟨uc, pc⟩ | ⟨rfl, rfl⟩⟩ := hch c y hc hy hp
          · exact nc c uc pc
          · exact hk k0
        · have key : ∀ u, L' y u = true → L y u = true := by
            intro u hu
            rcases (eL y uy u).mp hu with a | ⟨a, ay⟩
            · exact a
            · rcases tw_down h hx uy ay with z | ⟨c, uc, pc, _⟩
              · subst z; exact (hk k0).elim
              · exact (nc c uc pc).elim
          exact fun u v hu hv => sg u v (key u hu) (key v hv)
      · right
        refine ⟨k12, ?_, c, d, e, (eU c).mpr (Or.inl uc), (eU d).mpr (Or.inl ud), by rw [eP c uc]; exact pc, by rw [eP d ud]; exact pd⟩
        intro v hv
        rcases (eL y uy v).mp hv with a | ⟨a, ay⟩
        · obtain ⟨g, ug, pg, lg⟩ := cov v a
          exact ⟨g, (eU g).mpr (Or.inl ug), by rw [eP g ug]; exact pg, (eL g ug v).mpr (Or.inl lg)⟩
        · rcases tw_down h hx uy ay with z | ⟨g, ug, pg, sg⟩
          · subst z
            exact ⟨l, (eU l).mpr (Or.inr rfl), ePl, (eLl v).mpr a⟩
          · exact ⟨g, (eU g).mpr (Or.inl ug), by rw [eP g ug]; exact pg, (eL g ug v).mpr (Or.inr ⟨a, sg⟩)⟩
    · left
      refine ⟨eKl, ?_, ?_⟩
      · intro c hc hp
        have := (hch c y hc hy hp).1
        rw [hl] at this
        exact absurd this (by decide)
      · intro u v hu hv
        rw [(eLl u).mp hu, (eLl v).mp hv]
  · intro c d y hc hd e hy pc' pd' u v hu hv
    obtain ⟨uy, cc⟩ := hch c y hc hy pc'
    obtain ⟨_, dd⟩ := hch d y hd hy pd'
    rw [eK y uy]
    rcases cc with ⟨uc, pc⟩ | ⟨rfl, rfl⟩
    · rcases dd with ⟨ud, pd⟩ | ⟨rfl, rfl⟩
      · rcases (eL c uc u).mp hu with a | ⟨a, ac⟩
        · rcases (eL d ud v).mp hv with b | ⟨b, ad⟩
          · rw [eE u v (tw_LV h uc a) (tw_LV h ud b)]
            exact tw_adj h uc ud e uy pc pd a b
          · subst b
            exact N2 y c d uy uc ud e pc pd ad u a
        · subst a
          rcases (eL d ud v).mp hv with b | ⟨b, ad⟩
          · rw [eS v (tw_LV h ud b)]
            exact N2 y d c uy ud uc (fun z => e z.symm) pd pc ac v b
          · exact (h2a y c d uy uc ud e pc pd ac ad).elim
      · have b := (eLl v).mp hv
        subst b
        rcases (eL c uc u).mp hu with a | ⟨a, ac⟩
        · exact N1 u (tw_sub h uc uy pc a)
        · exact (tw_np h hx uc pc ac).elim
    · have a := (eLl u).mp hu
      subst a
      rcases dd with ⟨ud, pd⟩ | ⟨rfl, _⟩
      · rcases (eL d ud v).mp hv with b | ⟨b, ad⟩
        · rw [eS v (tw_LV h ud b)]
          exact N1 v (tw_sub h ud uy pd b)
        · exact (tw_np h hx ud pd ad).elim
      · exact (e rfl).elim
/-- a new inner node b, of kind w, takes the place of x; its children are x and a new leaf l of the new vertex n -/
theorem tw_between {V' U' : Nat → Bool} {r' : Nat} {K' P' : Nat → Int32} {L' E' : Nat → Nat → Bool} (h : tw_B V U r K P L E) {x b l n : Nat} {w : Int32} (hw : w = 1 ∨ w = 2) (hx : U x = true) (hb : U b = false) (hl : U l = false) (b20 : b < 20) (l20 : l < 20) (ebl : b ≠ l) (n8 : n < 8) (hn : V n = false)
    (er : r' = if x = r then b else r)
    (eV : ∀ v, V' v = true ↔ V v = true ∨ v = n)
    (eU : ∀ y, U' y = true ↔ U y = true ∨ y = b ∨ y = l)
    (eK : ∀ y, U y = true → K' y = K y) (eKl : K' l = 0) (eKb : K' b = w)
    (eP : ∀ y, U y = true → y ≠ x → P' y = P y) (ePl : P' l = nI b) (ePx : P' x = nI b) (ePb : P' b = P x)
    (eL : ∀ y, U y = true → y ≠ x → ∀ v, L' y v = true ↔ L y v = true ∨ (v = n ∧ ∀ u, L x u = true → L y u = true))
    (eLx : ∀ v, L' x v = true ↔ L x v = true) (eLb : ∀ v, L' b v = true ↔ L x v = true ∨ v = n)
    (eLl : ∀ v, L' l v = true ↔ v = n)
    (eE : ∀ u v, V u = true → V v = true → E' u v = E u v) (eS : ∀ u, V u = true → E' n u = E' u n)
    (N1 : ∀ u, L x u = true → E' u n = decide (w = 2))
    (N2 : ∀ y c d, U y = true → U c = true → U d = true → c ≠ d → P c = nI y → P d = nI y → (∀ u, L x u = true → L d u = true) → ∀ u, L c u = true → E' u n = decide (K y = 2)) :
    tw_B V' U' r' K' P' L' E' := by
  have xb : x ≠ b := tw_neU hb hx
  have xl : x ≠ l := tw_neU hl hx
  have hnv : ∀ y, U y = true → ¬ L y n = true := fun y hy => tw_nV h hn hy
  have h2a : ∀ y c d, U y = true → U c = true → U d = true → c ≠ d → P c = nI y → P d = nI y → (∀ u, L x u = true → L c u = true) → (∀ u, L x u = true → L d u = true) → False := by
    intro y c d hy hc hd e pc pd ac ad
    obtain ⟨w, hw⟩ := tw_ne h hx
    exact e (tw_dis h hc hd hy pc pd (ac w hw) (ad w hw))
  -- a new child of an old node stands for an old child
  have hch : ∀ c y, U' c = true → U' y = true → P' c = nI y → (y = b ∧ (c = x ∨ c = l)) ∨ (U y = true ∧ ∃ g, U g = true ∧ P g = nI y ∧ ((c = b ∧ g = x) ∨ (c = g ∧ g ≠ x)) ∧ ∀ v, L' c v = true ↔ L g v = true ∨ (v = n ∧ ∀ u, L x u = true → L g u = true)) := by
    intro c y hc hy hp
    rcases (eU c).mp hc with uc | rfl | rfl
    · by_cases ex : c = x
      · subst ex
        rw [ePx] at hp
        rcases (eU y).mp hy with uy | rfl | rfl
        · exact (tw_neU hb uy (tw_nI b20 (tw_lt h uy) hp).symm).elim
        · exact Or.inl ⟨rfl, Or.inl rfl⟩
        · exact (ebl (tw_nI b20 l20 hp)).elim
      · rw [eP c uc ex] at hp
        rcases (eU y).mp hy with uy | rfl | rfl
        · exact Or.inr ⟨uy, c, uc, hp, Or.inr ⟨rfl, ex⟩, eL c uc ex⟩
        · exact (tw_pnl h uc hb b20 hp).elim
        · exact (tw_pnl h uc hl l20 hp).elim
    · rw [ePb] at hp
      rcases (eU y).mp hy with uy | rfl | rfl
      · refine Or.inr ⟨uy, x, hx, hp, Or.inl ⟨rfl, rfl⟩, fun v => ?_⟩
        rw [eLb]
        exact ⟨fun z => z.elim Or.inl (fun z => Or.inr ⟨z, fun _ hu => hu⟩), fun z => z.elim Or.inl (fun z => Or.inr z.1)⟩
      · exact (tw_pnl h hx hb b20 hp).elim
      · exact (tw_pnl h hx hl l20 hp).elim
    · rw [ePl] at hp
      rcases (eU y).mp hy with uy | rfl | rfl
      · exact (tw_neU hb uy (tw_nI b20 (tw_lt h uy) hp).symm).elim
      · exact Or.inl ⟨rfl, Or.inr rfl⟩
      · exact (ebl (tw_nI b20 l20 hp)).elim
  -- the old child's stand-in
  have hst : ∀ g y, U g = true → U y = true → P g = nI y → ∃ c, U' c = true ∧ P' c = nI y ∧ ((c = b ∧ g = x) ∨ (c = g ∧ g ≠ x)) ∧ ∀ v, L' c v = true ↔ L g v = true ∨ (v = n ∧ ∀ u, L x u = true → L g u = true) := by
    intro g y ug uy pg
    by_cases ex : g = x
    · subst ex
      refine ⟨b, (eU b).mpr (Or.inr (Or.inl rfl)), by rw [ePb]; exact pg, Or.inl ⟨rfl, rfl⟩, fun v => ?_⟩
      rw [eLb]
      exact ⟨fun z => z.elim Or.inl (fun z => Or.inr ⟨z, fun _ hu => hu⟩), fun z => z.elim Or.inl (fun z => Or.inr z.1)⟩
    · exact ⟨g, (eU g).mpr (Or.inl ug), by rw [eP g ug ex]; exact pg, Or.inr ⟨rfl, ex⟩, eL g ug ex⟩
  have hdi : ∀ c g d k, ((c = b ∧ g = x) ∨ (c = g ∧ g ≠ x)) → ((d = b ∧ k = x) ∨ (d = k ∧ k ≠ x)) → U g = true → U k = true → c ≠ d → g ≠ k := by
    intro c g d k h1 h2 ug uk e z
    subst z
    rcases h1 with ⟨a, a'⟩ | ⟨a, a'⟩ <;> rcases h2 with ⟨q, q'⟩ | ⟨q, q'⟩
    · exact e (a.trans q.symm)
    · exact q' a'
    · exact a' q'
    · exact e (a.trans q.symm)
  -- the leaves of an old node
  have hLo : ∀ y, U y = true → ∀ v, L' y v = true ↔ L y v = true ∨ (v = n ∧ y ≠ x ∧ ∀ u, L x u = true → L y u = true) := by
    intro y uy v
    by_cases ex : y = x
    · subst ex
      rw [eLx]
      exact ⟨Or.inl, fun z => z.elim id (fun z => (z.2.1 rfl).elim)⟩
    · rw [eL y uy ex]
      exact ⟨fun z => z.elim Or.inl (fun z => Or.inr ⟨z.1, ex, z.2⟩), fun z => z.elim Or.inl (fun z => Or.inr ⟨z.1, z.2.2⟩)⟩
  refine ⟨?_, ?_, ⟨?_, ?_, ?_⟩, ?_, ?_, ?_, ?_, ?_, ?_, ?_⟩
  · intro v hv
    rcases (eV v).mp hv with z | rfl
    · exact tw_V8 h z
    · exact n8
  · intro y hy
    rcases (eU y).mp hy with z | rfl | rfl
    · exact tw_lt h z
    · exact b20
    · exact l20
  · rw [er]; split
    · exact (eU b).mpr (Or.inr (Or.inl rfl))
    · exact (eU r).mpr (Or.inl (tw_rU h))
  · rw [er]; split
    · next e => rw [ePb, e]; exact tw_rP h
    · next e => rw [eP r (tw_rU h) (fun z => e z.symm)]; exact tw_rP h
  · intro v hv
    rw [er]; split
    · next e =>
      rw [eLb, e]
      exact ((eV v).mp hv).imp (tw_rL h) id
    · next e =>
      rw [eL r (tw_rU h) (fun z => e z.symm)]
      exact ((eV v).mp hv).imp (tw_rL h) (fun z => ⟨z, fun u hu => tw_rL h (tw_LV h hx hu)⟩)
  · intro y hy hr
    rcases (eU y).mp hy with uy | rfl | rfl
    · by_cases ex : y = x
      · rw [ex]; exact ⟨b, (eU b).mpr (Or.inr (Or.inl rfl)), ePx⟩
      · have yr : y ≠ r := by
          intro z
          rw [er] at hr
          by_cases e : x = r
          · exact ex (z.trans e.symm)
          · rw [if_neg e] at hr; exact hr z
        obtain ⟨p, hp, pp⟩ := tw_par h uy yr
        exact ⟨p, (eU p).mpr (Or.inl hp), by rw [eP y uy ex]; exact pp⟩
    · have xr : x ≠ r := by
        intro z
        rw [er, if_pos z] at hr
        exact hr rfl
      obtain ⟨p, hp, pp⟩ := tw_par h hx xr
      exact ⟨p, (eU p).mpr (Or.inl hp), by rw [ePb]; exact pp⟩
    · exact ⟨b, (eU b).mpr (Or.inr (Or.inl rfl)), ePl⟩
  · intro y hy
    rcases (eU y).mp hy with z | rfl | rfl
    · obtain ⟨v, hv⟩ := tw_ne h z
      exact ⟨v, (hLo y z v).mpr (Or.inl hv)⟩
    · exact ⟨n, (eLb n).mpr (Or.inr rfl)⟩
    · exact ⟨n, (eLl n).mpr rfl⟩
  · intro y v hy hv
    rw [eV]
    rcases (eU y).mp hy with z | rfl | rfl
    · exact ((hLo y z v).mp hv).imp (tw_LV h z) (fun z => z.1)
    · exact ((eLb v).mp hv).imp (tw_LV h hx) id
    · exact Or.inr ((eLl v).mp hv)
  · intro c y hc hy hp v hv
    rcases hch c y hc hy hp with ⟨rfl, rfl | rfl⟩ | ⟨uy, g, ug, pg, _, hg⟩
    · exact (eLb v).mpr (Or.inl ((eLx v).mp hv))
    · exact (eLb v).mpr (Or.inr ((eLl v).mp hv))
    · rw [hLo y uy]
      rcases (hg v).mp hv with a | ⟨a, ag⟩
      · exact Or.inl (tw_sub h ug uy pg a)
      · refine Or.inr ⟨a, ?_, fun u hu => tw_sub h ug uy pg (ag u hu)⟩
        intro z
        subst z
        exact tw_np h hx ug pg ag
  · intro c d y hc hd e hy pc' pd' v hv hw'
    rcases hch c y hc hy pc' with ⟨rfl, cc⟩ | ⟨uy, g, ug, pg, cg, hg⟩
    · rcases hch d y hd hy pd' with ⟨_, dd⟩ | ⟨uy, _⟩
      · have key : ¬ (L' x v = true ∧ L' l v = true) := by
          intro z
          have := (eLl v).mp z.2
          subst this
          exact hnv x hx ((eLx v).mp z.1)
        rcases cc with rfl | rfl <;> rcases dd with rfl | rfl
        · exact e rfl
        · exact key ⟨hv, hw'⟩
        · exact key ⟨hw', hv⟩
        · exact e rfl
      · rw [hb] at uy; exact absurd uy (by decide)
    · rcases hch d y hd hy pd' with ⟨rfl, _⟩ | ⟨_, k, uk, pk, ck, hk'⟩
      · rw [hb] at uy; exact absurd uy (by decide)
      · have gk := hdi c g d k cg ck ug uk e
        rcases (hg v).mp hv with a | ⟨a, ac⟩
        · rcases (hk' v).mp hw' with q | ⟨q, ad⟩
          · exact gk (tw_dis h ug uk uy pg pk a q)
          · subst q; exact hnv g ug a
        · rcases (hk' v).mp hw' with q | ⟨q, ad⟩
          · subst a; exact hnv k uk q
          · exact h2a y g k uy ug uk gk pg pk ac ad
  · intro y hy
    rcases (eU y).mp hy with uy | rfl | rfl
    · rw [eK y uy]
      rcases tw_kd h uy with ⟨k0, nc, sg⟩ | ⟨k12, cov, c, d, e, uc, ud, pc, pd⟩
      · left
        refine ⟨k0, ?_, ?_⟩
        · intro c hc hp
          rcases hch c y hc hy hp with ⟨z, _⟩ | ⟨_, g, ug, pg, _⟩
          · exact tw_neU hb uy z
          · exact nc g ug pg
        · have key : ∀ u, L' y u = true → L y u = true := by
            intro u hu
            rcases (hLo y uy u).mp hu with a | ⟨a, yx, ay⟩
            · exact a
            · rcases tw_down h hx uy ay with z | ⟨c, uc, pc, _⟩
              · exact (yx z.symm).elim
              · exact (nc c uc pc).elim
          exact fun u v hu hv => sg u v (key u hu) (key v hv)
      · right
        obtain ⟨c', uc', pc', cc, _⟩ := hst c y uc uy pc
        obtain ⟨d', ud', pd', dd, _⟩ := hst d y ud uy pd
        refine ⟨k12, ?_, c', d', ?_, uc', ud', pc', pd'⟩
        · intro v hv
          rcases (hLo y uy v).mp hv with a | ⟨a, yx, ay⟩
          · obtain ⟨g, ug, pg, lg⟩ := cov v a
            obtain ⟨g', ug', pg', _, hg⟩ := hst g y ug uy pg
            exact ⟨g', ug', pg', (hg v).mpr (Or.inl lg)⟩
          · rcases tw_down h hx uy ay with z | ⟨g, ug, pg, sg⟩
            · exact (yx z.symm).elim
            · obtain ⟨g', ug', pg', _, hg⟩ := hst g y ug uy pg
              exact ⟨g', ug', pg', (hg v).mpr (Or.inr ⟨a, sg⟩)⟩
        · intro z
          subst z
          rcases cc with ⟨a, a'⟩ | ⟨a, a'⟩ <;> rcases dd with ⟨q, q'⟩ | ⟨q, q'⟩
          · exact e (a'.trans q'.symm)
          · exact tw_neU hb ud (q.symm.trans a)
          · exact tw_neU hb uc (a.symm.trans q)
          · exact e (a.symm.trans q)
    · right
      rw [eKb]
      refine ⟨hw, ?_, x, l, xl, (eU x).mpr (Or.inl hx), (eU l).mpr (Or.inr (Or.inr rfl)), ePx, ePl⟩
      intro v hv
      rcases (eLb v).mp hv with a | a
      · exact ⟨x, (eU x).mpr (Or.inl hx), ePx, (eLx v).mpr a⟩
      · exact ⟨l, (eU l).mpr (Or.inr (Or.inr rfl)), ePl, (eLl v).mpr a⟩
    · left
      refine ⟨eKl, ?_, ?_⟩
      · intro c hc hp
        rcases hch c y hc hy hp with ⟨z, _⟩ | ⟨uy, _⟩
        · exact ebl z.symm
        · rw [hl] at uy; exact absurd uy (by decide)
      · intro u v hu hv
        rw [(eLl u).mp hu, (eLl v).mp hv]
  · intro c d y hc hd e hy pc' pd' u v hu hv
    rcases hch c y hc hy pc' with ⟨rfl, cc⟩ | ⟨uy, g, ug, pg, cg, hg⟩
    · rcases hch d y hd hy pd' with ⟨_, dd⟩ | ⟨uy, _⟩
      · rw [eKb]
        rcases cc with rfl | rfl <;> rcases dd with rfl | rfl
        · exact (e rfl).elim
        · have := (eLl v).mp hv
          subst this
          exact N1 u ((eLx u).mp hu)
        · have := (eLl u).mp hu
          subst this
          have lv := (eLx v).mp hv
          rw [eS v (tw_LV h hx lv)]
          exact N1 v lv
        · exact (e rfl).elim
      · rw [hb] at uy; exact absurd uy (by decide)
    · rcases hch d y hd hy pd' with ⟨rfl, _⟩ | ⟨_, k, uk, pk, ck, hk'⟩
      · rw [hb] at uy; exact absurd uy (by decide)
      · have gk := hdi c g d k cg ck ug uk e
        rw [eK y uy]
        rcases (hg u).mp hu with a | ⟨a, ac⟩
        · rcases (hk' v).mp hv with q | ⟨q, ad⟩
          · rw [eE u v (tw_LV h ug a) (tw_LV h uk q)]
            exact tw_adj h ug uk gk uy pg pk a q
          · subst q
            exact N2 y g k uy ug uk gk pg pk ad u a
        · subst a
          rcases (hk' v).mp hv with q | ⟨q, ad⟩
          · rw [eS v (tw_LV h uk q)]
            exact N2 y k g uy uk ug (fun z => gk z.symm) pk pg ac v q
          · exact (h2a y g k uy ug uk gk pg pk ac ad).elim
/-- a new inner node i of x's kind takes a group G of x's children, two at least, not all -/
theorem tw_group {U' : Nat → Bool} {K' P' : Nat → Int32} {L' : Nat → Nat → Bool} (h : tw_B V U r K P L E) {x i : Nat} {G : Nat → Bool} (hx : U x = true) (hi : U i = false) (i20 : i < 20)
    (hG : ∀ c, G c = true → U c = true ∧ P c = nI x) (hG2 : ∃ c d, c ≠ d ∧ G c = true ∧ G d = true) (hG1 : ∃ c, U c = true ∧ P c = nI x ∧ G c = false)
    (eU : ∀ y, U' y = true ↔ U y = true ∨ y = i)
    (eK : ∀ y, U y = true → K' y = K y) (eKi : K' i = K x)
    (eP : ∀ y, U y = true → G y = false → P' y = P y) (ePG : ∀ y, G y = true → P' y = nI i) (ePi : P' i = nI x)
    (eL : ∀ y, U y = true → ∀ v, L' y v = true ↔ L y v = true)
    (eLi : ∀ v, L' i v = true ↔ ∃ c, G c = true ∧ L c v = true) :
    tw_B V U' r K' P' L' E := by
  obtain ⟨g1, g2, eg, hg1, hg2⟩ := hG2
  obtain ⟨o, uo, po, go⟩ := hG1
  have xi : x ≠ i := tw_neU hi hx
  have xin := tw_in h hx (hG g1 hg1).1 (hG g1 hg1).2
  have hch : ∀ c y, U' c = true → U' y = true → P' c = nI y → (y = i ∧ G c = true) ∨ (y = x ∧ c = i) ∨ (U y = true ∧ U c = true ∧ G c = false ∧ P c = nI y) := by
    intro c y hc hy hp
    rcases (eU c).mp hc with uc | rfl
    · by_cases gc : G c = true
      · rw [ePG c gc] at hp
        rcases (eU y).mp hy with uy | rfl
        · exact (tw_neU hi uy (tw_nI i20 (tw_lt h uy) hp).symm).elim
        · exact Or.inl ⟨rfl, gc⟩
      · rw [eP c uc (cg_bF gc)] at hp
        rcases (eU y).mp hy with uy | rfl
        · exact Or.inr (Or.inr ⟨uy, uc, cg_bF gc, hp⟩)
        · exact (tw_pnl h uc hi i20 hp).elim
    · rw [ePi] at hp
      rcases (eU y).mp hy with uy | rfl
      · exact Or.inr (Or.inl ⟨(tw_nI (tw_lt h hx) (tw_lt h uy) hp).symm, rfl⟩)
      · exact (xi (tw_nI (tw_lt h hx) i20 hp)).elim
  have hU : ∀ y, U y = true → U' y = true := fun y hy => (eU y).mpr (Or.inl hy)
  have hUi : U' i = true := (eU i).mpr (Or.inr rfl)
  have nUi : ¬ U i = true := by rw [hi]; decide
  refine ⟨?_, ?_, ⟨?_, ?_, ?_⟩, ?_, ?_, ?_, ?_, ?_, ?_, ?_⟩
  · exact fun v hv => tw_V8 h hv
  · intro y hy
    rcases (eU y).mp hy with z | rfl
    · exact tw_lt h z
    · exact i20
  · exact hU r (tw_rU h)
  · have gr : G r = false := cg_bF (fun z => tw_pr h hx (hG r z).2 rfl)
    rw [eP r (tw_rU h) gr]; exact tw_rP h
  · intro v hv
    exact (eL r (tw_rU h) v).mpr (tw_rL h hv)
  · intro y hy hr
    rcases (eU y).mp hy with z | rfl
    · by_cases gy : G y = true
      · exact ⟨i, hUi, ePG y gy⟩
      · obtain ⟨p, hp, pp⟩ := tw_par h z hr
        exact ⟨p, hU p hp, by rw [eP y z (cg_bF gy)]; exact pp⟩
    · exact ⟨x, hU x hx, ePi⟩
  · intro y hy
    rcases (eU y).mp hy with z | rfl
    · obtain ⟨v, hv⟩ := tw_ne h z
      exact ⟨v, (eL y z v).mpr hv⟩
    · obtain ⟨v, hv⟩ := tw_ne h (hG g1 hg1).1
      exact ⟨v, (eLi v).mpr ⟨g1, hg1, hv⟩⟩
  · intro y v hy hv
    rcases (eU y).mp hy with z | rfl
    · exact tw_LV h z ((eL y z v).mp hv)
    · obtain ⟨c, gc, lc⟩ := (eLi v).mp hv
      exact tw_LV h (hG c gc).1 lc
  · intro c y hc hy hp v hv
    rcases hch c y hc hy hp with ⟨rfl, gc⟩ | ⟨rfl, rfl⟩ | ⟨uy, uc, _, pc⟩
    · exact (eLi v).mpr ⟨c, gc, (eL c (hG c gc).1 v).mp hv⟩
    · obtain ⟨g, gg, lg⟩ := (eLi v).mp hv
      exact (eL y hx v).mpr (tw_sub h (hG g gg).1 hx (hG g gg).2 lg)
    · exact (eL y uy v).mpr (tw_sub h uc uy pc ((eL c uc v).mp hv))
  · intro c d y hc hd e hy pc' pd' v hv hw
    rcases hch c y hc hy pc' with ⟨rfl, gc⟩ | ⟨rfl, rfl⟩ | ⟨uy, uc, gc, pc⟩
    · rcases hch d y hd hy pd' with ⟨_, gd⟩ | ⟨z, _⟩ | ⟨uy, _⟩
      · exact e (tw_dis h (hG c gc).1 (hG d gd).1 hx (hG c gc).2 (hG d gd).2 ((eL c (hG c gc).1 v).mp hv) ((eL d (hG d gd).1 v).mp hw))
      · exact xi z.symm
      · exact nUi uy
    · rcases hch d y hd hy pd' with ⟨z, gd⟩ | ⟨_, z⟩ | ⟨_, ud, gd, pd⟩
      · exact xi z
      · exact e z.symm
      · obtain ⟨g, gg, lg⟩ := (eLi v).mp hv
        have := tw_dis h (hG g gg).1 ud hx (hG g gg).2 pd lg ((eL d ud v).mp hw)
        rw [this, gd] at gg
        exact absurd gg (by decide)
    · rcases hch d y hd hy pd' with ⟨z, gd⟩ | ⟨rfl, rfl⟩ | ⟨_, ud, gd, pd⟩
      · subst z; exact nUi uy
      · obtain ⟨g, gg, lg⟩ := (eLi v).mp hw
        have := tw_dis h (hG g gg).1 uc hx (hG g gg).2 pc lg ((eL c uc v).mp hv)
        rw [this, gc] at gg
        exact absurd gg (by decide)
      · exact e (tw_dis h uc ud uy pc pd ((eL c uc v).mp hv) ((eL d ud v).mp hw))
  · intro y hy
    rcases (eU y).mp hy with uy | rfl
    · rw [eK y uy]
      by_cases yx : y = x
      · subst yx
        right
        refine ⟨xin.1, ?_, i, o, fun z => nUi (z ▸ uo), hUi, hU o uo, ePi, by rw [eP o uo go]; exact po⟩
        intro v hv
        obtain ⟨g, ug, pg, lg⟩ := xin.2.1 v ((eL y uy v).mp hv)
        by_cases gg : G g = true
        · exact ⟨i, hUi, ePi, (eLi v).mpr ⟨g, gg, lg⟩⟩
        · exact ⟨g, hU g ug, by rw [eP g ug (cg_bF gg)]; exact pg, (eL g ug v).mpr lg⟩
      · have ng : ∀ g, U g = true → P g = nI y → G g = false := fun g ug pg => cg_bF (fun z => yx (tw_pu h uy hx pg (hG g z).2))
        rcases tw_kd h uy with ⟨k0, nc, sg⟩ | ⟨k12, cov, c, d, e, uc, ud, pc, pd⟩
        · left
          refine ⟨k0, ?_, fun u v hu hv => sg u v ((eL y uy u).mp hu) ((eL y uy v).mp hv)⟩
          intro c hc hp
          rcases hch c y hc hy hp with ⟨z, _⟩ | ⟨z, _⟩ | ⟨_, uc, _, pc⟩
          · exact tw_neU hi uy z
          · exact yx z
          · exact nc c uc pc
        · right
          refine ⟨k12, ?_, c, d, e, hU c uc, hU d ud, by rw [eP c uc (ng c uc pc)]; exact pc, by rw [eP d ud (ng d ud pd)]; exact pd⟩
          intro v hv
          obtain ⟨g, ug, pg, lg⟩ := cov v ((eL y uy v).mp hv)
          exact ⟨g, hU g ug, by rw [eP g ug (ng g ug pg)]; exact pg, (eL g ug v).mpr lg⟩
    · right
      rw [eKi]
      refine ⟨xin.1, ?_, g1, g2, eg, hU g1 (hG g1 hg1).1, hU g2 (hG g2 hg2).1, ePG g1 hg1, ePG g2 hg2⟩
      intro v hv
      obtain ⟨c, gc, lc⟩ := (eLi v).mp hv
      exact ⟨c, hU c (hG c gc).1, ePG c gc, (eL c (hG c gc).1 v).mpr lc⟩
  · intro c d y hc hd e hy pc' pd' u v hu hv
    rcases hch c y hc hy pc' with ⟨rfl, gc⟩ | ⟨rfl, rfl⟩ | ⟨uy, uc, gc, pc⟩
    · rcases hch d y hd hy pd' with ⟨_, gd⟩ | ⟨z, _⟩ | ⟨uy, _⟩
      · rw [eKi]
        exact tw_adj h (hG c gc).1 (hG d gd).1 e hx (hG c gc).2 (hG d gd).2 ((eL c (hG c gc).1 u).mp hu) ((eL d (hG d gd).1 v).mp hv)
      · exact (xi z.symm).elim
      · exact (nUi uy).elim
    · rcases hch d y hd hy pd' with ⟨z, gd⟩ | ⟨_, z⟩ | ⟨_, ud, gd, pd⟩
      · exact (xi z).elim
      · exact (e z.symm).elim
      · obtain ⟨g, gg, lg⟩ := (eLi u).mp hu
        rw [eK y hx]
        exact tw_adj h (hG g gg).1 ud (fun z => by rw [z, gd] at gg; exact absurd gg (by decide)) hx (hG g gg).2 pd lg ((eL d ud v).mp hv)
    · rcases hch d y hd hy pd' with ⟨z, gd⟩ | ⟨rfl, rfl⟩ | ⟨_, ud, gd, pd⟩
      · subst z; exact (nUi uy).elim
      · obtain ⟨g, gg, lg⟩ := (eLi v).mp hv
        rw [eK y hx]
        exact tw_adj h uc (hG g gg).1 (fun z => by rw [← z, gc] at gg; exact absurd gg (by decide)) hx pc (hG g gg).2 ((eL c uc u).mp hu) lg
      · rw [eK y uy]
        exact tw_adj h uc ud e uy pc pd ((eL c uc u).mp hu) ((eL d ud v).mp hv)
/-- the first vertex -/
theorem tw_first {V' U' : Nat → Bool} {K' P' : Nat → Int32} {L' E' : Nat → Nat → Bool} {l : Nat} (l20 : l < 20) (eV : ∀ v, V' v = true ↔ v = 0) (eU : ∀ y, U' y = true ↔ y = l) (eK : K' l = 0) (eP : P' l = -1) (eL : ∀ v, L' l v = true ↔ v = 0) : tw_B V' U' l K' P' L' E' := by
  have np : ∀ c x, U' c = true → U' x = true → P' c = nI x → False := by
    intro c x hc hx hp
    rw [(eU c).mp hc, (eU x).mp hx, eP] at hp
    exact tw_m1 l20 hp
  refine ⟨fun v hv => by rw [(eV v).mp hv]; decide, fun x hx => by rw [(eU x).mp hx]; exact l20, ⟨(eU l).mpr rfl, eP, fun v hv => (eL v).mpr ((eV v).mp hv)⟩, fun x hx hr => (hr ((eU x).mp hx)).elim, fun x hx => ⟨0, by rw [(eU x).mp hx]; exact (eL 0).mpr rfl⟩, fun x v hx hv => (eV v).mpr ((eL v).mp (by rw [← (eU x).mp hx]; exact hv)), fun c x hc hx hp => (np c x hc hx hp).elim, fun c d x hc _ _ hx hp => (np c x hc hx hp).elim, fun x hx => Or.inl ⟨by rw [(eU x).mp hx]; exact eK, fun c hc hp => np c x hc hx hp, fun u v hu hv => ?_⟩, fun c d x hc _ _ hx hp => (np c x hc hx hp).elim⟩
  rw [(eU x).mp hx] at hu hv
  rw [(eL u).mp hu, (eL v).mp hv]
end
end
section
/-! ===== shrinking the tree ===== -/
section
variable {V U : Nat → Bool} {r : Nat} {K P : Nat → Int32} {L E : Nat → Nat → Bool}
theorem tw_leaf (h : tw_B V U r K P L E) {l v : Nat} (hl : U l = true) (k0 : K l = 0) (hv : L l v = true) : (∀ c, U c = true → P c = nI l → False) ∧ ∀ u, L l u = true ↔ u = v := by
  rcases tw_kd h hl with ⟨_, nc, sg⟩ | ⟨hk, _⟩
  · exact ⟨nc, fun u => ⟨fun hu => sg u v hu hv, fun e => by rw [e]; exact hv⟩⟩
  · rw [k0] at hk
    exact absurd hk (by decide)
theorem tw_not1 (h : tw_B V U r K P L E) {l v y : Nat} (hl : U l = true) (sg : ∀ u, L l u = true ↔ u = v) (hy : U y = true) (e : y ≠ l) : ∃ u, L y u = true ∧ u ≠ v := by
  obtain ⟨w, hw⟩ := tw_ne h hy
  refine Classical.byContradiction fun z => e ?_
  have z' : ∀ u, L y u = true → u = v := fun u hu => Classical.byContradiction fun q => z ⟨u, hu, q⟩
  refine tw_inj h hy hl (fun u => ⟨fun hu => (sg u).mpr (z' u hu), fun hu => ?_⟩)
  rw [(sg u).mp hu, ← z' w hw]
  exact hw
theorem tw_removeLeaf {V' U' : Nat → Bool} {K' P' : Nat → Int32} {L' : Nat → Nat → Bool} (h : tw_B V U r K P L E) {l p v : Nat} (hl : U l = true) (k0 : K l = 0) (hp : U p = true) (pl : P l = nI p) (hv : L l v = true)
    (h2 : ∃ c d, c ≠ d ∧ c ≠ l ∧ d ≠ l ∧ U c = true ∧ U d = true ∧ P c = nI p ∧ P d = nI p)
    (eV : ∀ u, V' u = true ↔ V u = true ∧ u ≠ v)
    (eU : ∀ y, U' y = true ↔ U y = true ∧ y ≠ l)
    (eK : ∀ y, U y = true → y ≠ l → K' y = K y) (eP : ∀ y, U y = true → y ≠ l → P' y = P y)
    (eL : ∀ y, U y = true → y ≠ l → ∀ u, L' y u = true ↔ L y u = true ∧ u ≠ v) :
    tw_B V' U' r K' P' L' E := by
  obtain ⟨nc, sg⟩ := tw_leaf h hl k0 hv
  have rl : r ≠ l := fun z => tw_pr h hp pl z.symm
  have hch : ∀ c y, U' c = true → U' y = true → P' c = nI y → U c = true ∧ c ≠ l ∧ U y = true ∧ y ≠ l ∧ P c = nI y := by
    intro c y hc hy hq
    obtain ⟨uc, cl⟩ := (eU c).mp hc
    obtain ⟨uy, yl⟩ := (eU y).mp hy
    rw [eP c uc cl] at hq
    exact ⟨uc, cl, uy, yl, hq⟩
  refine ⟨?_, ?_, ⟨?_, ?_, ?_⟩, ?_, ?_, ?_, ?_, ?_, ?_, ?_⟩
  · exact fun u hu => tw_V8 h ((eV u).mp hu).1
  · exact fun y hy => tw_lt h ((eU y).mp hy).1
  · exact (eU r).mpr ⟨tw_rU h, rl⟩
  · rw [eP r (tw_rU h) rl]; exact tw_rP h
  · intro u hu
    obtain ⟨a, b⟩ := (eV u).mp hu
    exact (eL r (tw_rU h) rl u).mpr ⟨tw_rL h a, b⟩
  · intro y hy hr
    obtain ⟨uy, yl⟩ := (eU y).mp hy
    obtain ⟨q, hq, pq⟩ := tw_par h uy hr
    exact ⟨q, (eU q).mpr ⟨hq, fun z => nc y uy (by rw [← z]; exact pq)⟩, by rw [eP y uy yl]; exact pq⟩
  · intro y hy
    obtain ⟨uy, yl⟩ := (eU y).mp hy
    obtain ⟨u, hu, e⟩ := tw_not1 h hl sg uy yl
    exact ⟨u, (eL y uy yl u).mpr ⟨hu, e⟩⟩
  · intro y u hy hu
    obtain ⟨uy, yl⟩ := (eU y).mp hy
    obtain ⟨a, b⟩ := (eL y uy yl u).mp hu
    exact (eV u).mpr ⟨tw_LV h uy a, b⟩
  · intro c y hc hy hq u hu
    obtain ⟨uc, cl, uy, yl, pc⟩ := hch c y hc hy hq
    obtain ⟨a, b⟩ := (eL c uc cl u).mp hu
    exact (eL y uy yl u).mpr ⟨tw_sub h uc uy pc a, b⟩
  · intro c d y hc hd e hy hq hq' u hu hw
    obtain ⟨uc, cl, uy, yl, pc⟩ := hch c y hc hy hq
    obtain ⟨ud, dl, _, _, pd⟩ := hch d y hd hy hq'
    exact e (tw_dis h uc ud uy pc pd ((eL c uc cl u).mp hu).1 ((eL d ud dl u).mp hw).1)
  · intro y hy
    obtain ⟨uy, yl⟩ := (eU y).mp hy
    rw [eK y uy yl]
    rcases tw_kd h uy with ⟨ky, ny, sy⟩ | ⟨k12, cov, c, d, e, uc, ud, pc, pd⟩
    · left
      refine ⟨ky, ?_, fun u w hu hw => sy u w ((eL y uy yl u).mp hu).1 ((eL y uy yl w).mp hw).1⟩
      intro c hc hq
      obtain ⟨uc, _, _, _, pc⟩ := hch c y hc hy hq
      exact ny c uc pc
    · right
      refine ⟨k12, ?_, ?_⟩
      · intro u hu
        obtain ⟨a, b⟩ := (eL y uy yl u).mp hu
        obtain ⟨g, ug, pg, lg⟩ := cov u a
        have gl : g ≠ l := fun z => b ((sg u).mp (by rw [← z]; exact lg))
        exact ⟨g, (eU g).mpr ⟨ug, gl⟩, by rw [eP g ug gl]; exact pg, (eL g ug gl u).mpr ⟨lg, b⟩⟩
      · by_cases yp : y = p
        · obtain ⟨a, b, ab, al, bl, ua, ub, pa, pb⟩ := h2
          rw [yp]
          exact ⟨a, b, ab, (eU a).mpr ⟨ua, al⟩, (eU b).mpr ⟨ub, bl⟩, by rw [eP a ua al]; exact pa, by rw [eP b ub bl]; exact pb⟩
        · have cl : c ≠ l := fun z => yp (tw_pu h uy hp (by rw [← z]; exact pc) pl)
          have dl : d ≠ l := fun z => yp (tw_pu h uy hp (by rw [← z]; exact pd) pl)
          exact ⟨c, d, e, (eU c).mpr ⟨uc, cl⟩, (eU d).mpr ⟨ud, dl⟩, by rw [eP c uc cl]; exact pc, by rw [eP d ud dl]; exact pd⟩
  · intro c d y hc hd e hy hq hq' u w hu hw
    obtain ⟨uc, cl, uy, yl, pc⟩ := hch c y hc hy hq
    obtain ⟨ud, dl, _, _, pd⟩ := hch d y hd hy hq'
    rw [eK y uy yl]
    exact tw_adj h uc ud e uy pc pd ((eL c uc cl u).mp hu).1 ((eL d ud dl w).mp hw).1
/-- the leaf l goes, and with it its parent p, whose other child o takes p's place -/
theorem tw_bypass {V' U' : Nat → Bool} {r' : Nat} {K' P' : Nat → Int32} {L' : Nat → Nat → Bool} (h : tw_B V U r K P L E) {l p o v : Nat} (hl : U l = true) (k0 : K l = 0) (hp : U p = true) (pl : P l = nI p) (hv : L l v = true)
    (ho : U o = true) (po : P o = nI p) (ol : o ≠ l) (h2 : ∀ c, U c = true → P c = nI p → c = l ∨ c = o)
    (er : r' = if p = r then o else r)
    (eV : ∀ u, V' u = true ↔ V u = true ∧ u ≠ v)
    (eU : ∀ y, U' y = true ↔ U y = true ∧ y ≠ l ∧ y ≠ p)
    (eK : ∀ y, U y = true → y ≠ l → y ≠ p → K' y = K y) (eP : ∀ y, U y = true → y ≠ l → y ≠ p → y ≠ o → P' y = P y) (ePo : P' o = P p)
    (eL : ∀ y, U y = true → y ≠ l → y ≠ p → ∀ u, L' y u = true ↔ L y u = true ∧ u ≠ v) :
    tw_B V' U' r' K' P' L' E := by
  obtain ⟨nc, sg⟩ := tw_leaf h hl k0 hv
  have rl : r ≠ l := fun z => tw_pr h hp pl z.symm
  have op : o ≠ p := tw_self h hp ho po
  have lp' : l ≠ p := tw_self h hp hl pl
  have hUo : U' o = true := (eU o).mpr ⟨ho, ol, op⟩
  have hLo : ∀ u, L' o u = true ↔ L p u = true ∧ u ≠ v := by
    intro u
    rw [eL o ho ol op]
    refine ⟨fun z => ⟨tw_sub h ho hp po z.1, z.2⟩, fun z => ⟨?_, z.2⟩⟩
    obtain ⟨_, cov, _⟩ := tw_in h hp hl pl
    obtain ⟨g, ug, pg, lg⟩ := cov u z.1
    rcases h2 g ug pg with e | e
    · subst e; exact (z.2 ((sg u).mp lg)).elim
    · subst e; exact lg
  have hch : ∀ c y, U' c = true → U' y = true → P' c = nI y → (U y = true ∧ y ≠ l ∧ y ≠ p) ∧ ∃ g, U g = true ∧ P g = nI y ∧ ((c = o ∧ g = p) ∨ (c = g ∧ g ≠ o ∧ g ≠ p)) ∧ ∀ u, L' c u = true ↔ L g u = true ∧ u ≠ v := by
    intro c y hc hy hq
    obtain ⟨uc, cl, cp⟩ := (eU c).mp hc
    have hy' := (eU y).mp hy
    refine ⟨hy', ?_⟩
    by_cases co : c = o
    · subst co
      rw [ePo] at hq
      exact ⟨p, hp, hq, Or.inl ⟨rfl, rfl⟩, hLo⟩
    · rw [eP c uc cl cp co] at hq
      exact ⟨c, uc, hq, Or.inr ⟨rfl, co, cp⟩, eL c uc cl cp⟩
  have hst : ∀ g y, U g = true → U' y = true → P g = nI y → g ≠ l → ∃ c, U' c = true ∧ P' c = nI y ∧ ((c = o ∧ g = p) ∨ (c = g ∧ g ≠ o ∧ g ≠ p)) ∧ ∀ u, L' c u = true ↔ L g u = true ∧ u ≠ v := by
    intro g y ug hy pg gl
    obtain ⟨uy, yl, yp⟩ := (eU y).mp hy
    by_cases gp : g = p
    · subst gp
      exact ⟨o, hUo, by rw [ePo]; exact pg, Or.inl ⟨rfl, rfl⟩, hLo⟩
    · have go : g ≠ o := fun z => yp (tw_pu h uy hp (by rw [← z]; exact pg) po)
      exact ⟨g, (eU g).mpr ⟨ug, gl, gp⟩, by rw [eP g ug gl gp go]; exact pg, Or.inr ⟨rfl, go, gp⟩, eL g ug gl gp⟩
  have hdi : ∀ c g d k, ((c = o ∧ g = p) ∨ (c = g ∧ g ≠ o ∧ g ≠ p)) → ((d = o ∧ k = p) ∨ (d = k ∧ k ≠ o ∧ k ≠ p)) → c ≠ d → g ≠ k := by
    intro c g d k h1 h2 e z
    subst z
    rcases h1 with ⟨a, a'⟩ | ⟨a, a', a''⟩ <;> rcases h2 with ⟨q, q'⟩ | ⟨q, q', q''⟩
    · exact e (a.trans q.symm)
    · exact q'' a'
    · exact a'' q'
    · exact e (a.trans q.symm)
  have hdi' : ∀ c g d k, ((c = o ∧ g = p) ∨ (c = g ∧ g ≠ o ∧ g ≠ p)) → ((d = o ∧ k = p) ∨ (d = k ∧ k ≠ o ∧ k ≠ p)) → g ≠ k → c ≠ d := by
    intro c g d k h1 h2 e z
    subst z
    rcases h1 with ⟨a, a'⟩ | ⟨a, a', a''⟩ <;> rcases h2 with ⟨q, q'⟩ | ⟨q, q', q''⟩
    · exact e (a'.trans q'.symm)
    · exact q' (q.symm.trans a)
    · exact a' (a.symm.trans q)
    · exact e (a.symm.trans q)
  refine ⟨?_, ?_, ⟨?_, ?_, ?_⟩, ?_, ?_, ?_, ?_, ?_, ?_, ?_⟩
  · exact fun u hu => tw_V8 h ((eV u).mp hu).1
  · exact fun y hy => tw_lt h ((eU y).mp hy).1
  · rw [er]; split
    · exact hUo
    · next e => exact (eU r).mpr ⟨tw_rU h, rl, fun z => e z.symm⟩
  · rw [er]; split
    · next e => rw [ePo, e]; exact tw_rP h
    · next e => rw [eP r (tw_rU h) rl (fun z => e z.symm) (fun z => tw_pr h hp po z.symm)]; exact tw_rP h
  · intro u hu
    obtain ⟨a, b⟩ := (eV u).mp hu
    rw [er]; split
    · next e => exact (hLo u).mpr ⟨by rw [e]; exact tw_rL h a, b⟩
    · next e => exact (eL r (tw_rU h) rl (fun z => e z.symm) u).mpr ⟨tw_rL h a, b⟩
  · intro y hy hr
    obtain ⟨uy, yl, yp⟩ := (eU y).mp hy
    by_cases yo : y = o
    · subst yo
      have pr : p ≠ r := by
        intro z
        rw [er, if_pos z] at hr
        exact hr rfl
      obtain ⟨q, hq, pq⟩ := tw_par h hp pr
      exact ⟨q, (eU q).mpr ⟨hq, fun z => nc p hp (by rw [← z]; exact pq), fun z => tw_self h hq hp pq z.symm⟩, by rw [ePo]; exact pq⟩
    · have yr : y ≠ r := by
        intro z
        rw [er] at hr
        by_cases e : p = r
        · exact yp (z.trans e.symm)
        · rw [if_neg e] at hr; exact hr z
      obtain ⟨q, hq, pq⟩ := tw_par h uy yr
      refine ⟨q, (eU q).mpr ⟨hq, fun z => nc y uy (by rw [← z]; exact pq), fun z => ?_⟩, by rw [eP y uy yl yp yo]; exact pq⟩
      rcases h2 y uy (by rw [← z]; exact pq) with e | e
      · exact yl e
      · exact yo e
  · intro y hy
    obtain ⟨uy, yl, yp⟩ := (eU y).mp hy
    obtain ⟨u, hu, e⟩ := tw_not1 h hl sg uy yl
    exact ⟨u, (eL y uy yl yp u).mpr ⟨hu, e⟩⟩
  · intro y u hy hu
    obtain ⟨uy, yl, yp⟩ := (eU y).mp hy
    obtain ⟨a, b⟩ := (eL y uy yl yp u).mp hu
    exact (eV u).mpr ⟨tw_LV h uy a, b⟩
  · intro c y hc hy hq u hu
    obtain ⟨⟨uy, yl, yp⟩, g, ug, pg, _, hg⟩ := hch c y hc hy hq
    obtain ⟨a, b⟩ := (hg u).mp hu
    exact (eL y uy yl yp u).mpr ⟨tw_sub h ug uy pg a, b⟩
  · intro c d y hc hd e hy hq hq' u hu hw
    obtain ⟨⟨uy, yl, yp⟩, g, ug, pg, cg, hg⟩ := hch c y hc hy hq
    obtain ⟨_, k, uk, pk, ck, hk⟩ := hch d y hd hy hq'
    exact hdi c g d k cg ck e (tw_dis h ug uk uy pg pk ((hg u).mp hu).1 ((hk u).mp hw).1)
  · intro y hy
    obtain ⟨uy, yl, yp⟩ := (eU y).mp hy
    rw [eK y uy yl yp]
    rcases tw_kd h uy with ⟨ky, ny, sy⟩ | ⟨k12, cov, c, d, e, uc, ud, pc, pd⟩
    · left
      refine ⟨ky, ?_, fun u w hu hw => sy u w ((eL y uy yl yp u).mp hu).1 ((eL y uy yl yp w).mp hw).1⟩
      intro c hc hq
      obtain ⟨_, g, ug, pg, _⟩ := hch c y hc hy hq
      exact ny g ug pg
    · right
      refine ⟨k12, ?_, ?_⟩
      · intro u hu
        obtain ⟨a, b⟩ := (eL y uy yl yp u).mp hu
        obtain ⟨g, ug, pg, lg⟩ := cov u a
        have gl : g ≠ l := fun z => b ((sg u).mp (by rw [← z]; exact lg))
        obtain ⟨c', uc', pc', _, hc'⟩ := hst g y ug hy pg gl
        exact ⟨c', uc', pc', (hc' u).mpr ⟨lg, b⟩⟩
      · have cl : c ≠ l := fun z => yp (tw_pu h uy hp (by rw [← z]; exact pc) pl)
        have dl : d ≠ l := fun z => yp (tw_pu h uy hp (by rw [← z]; exact pd) pl)
        obtain ⟨c', uc', pc', cc, _⟩ := hst c y uc hy pc cl
        obtain ⟨d', ud', pd', dd, _⟩ := hst d y ud hy pd dl
        exact ⟨c', d', hdi' c' c d' d cc dd e, uc', ud', pc', pd'⟩
  · intro c d y hc hd e hy hq hq' u w hu hw
    obtain ⟨⟨uy, yl, yp⟩, g, ug, pg, cg, hg⟩ := hch c y hc hy hq
    obtain ⟨_, k, uk, pk, ck, hk⟩ := hch d y hd hy hq'
    rw [eK y uy yl yp]
    exact tw_adj h ug uk (hdi c g d k cg ck e) uy pg pk ((hg u).mp hu).1 ((hk w).mp hw).1
/-- the inner node o melts into its parent q of the same kind -/
theorem tw_melt {U' : Nat → Bool} {K' P' : Nat → Int32} {L' : Nat → Nat → Bool} (h : tw_B V U r K P L E) {o q : Nat} (ho : U o = true) (hq : U q = true) (po : P o = nI q) (hk : K o = K q)
    (eU : ∀ y, U' y = true ↔ U y = true ∧ y ≠ o)
    (eK : ∀ y, U y = true → y ≠ o → K' y = K y) (eP : ∀ y, U y = true → y ≠ o → P y ≠ nI o → P' y = P y) (ePo : ∀ y, U y = true → P y = nI o → P' y = nI q)
    (eL : ∀ y, U y = true → y ≠ o → ∀ u, L' y u = true ↔ L y u = true) :
    tw_B V U' r K' P' L' E := by
  have oq : o ≠ q := tw_self h hq ho po
  have ro : r ≠ o := fun z => tw_pr h hq po z.symm
  have qin := tw_in h hq ho po
  have oin : (K o = 1 ∨ K o = 2) ∧ (∀ v, L o v = true → ∃ c, U c = true ∧ P c = nI o ∧ L c v = true) ∧ (∃ c d, c ≠ d ∧ U c = true ∧ U d = true ∧ P c = nI o ∧ P d = nI o) := by
    apply tw_inn h ho
    rw [hk]
    rcases qin.1 with z | z <;> rw [z] <;> decide
  have hUq : U' q = true := (eU q).mpr ⟨hq, fun z => oq z.symm⟩
  have co : ∀ c, U c = true → P c = nI o → c ≠ o := fun c uc pc => tw_self h ho uc pc
  have hch : ∀ c y, U' c = true → U' y = true → P' c = nI y → U c = true ∧ c ≠ o ∧ U y = true ∧ y ≠ o ∧ ((P c = nI o ∧ y = q) ∨ (P c = nI y)) := by
    intro c y hc hy hp
    obtain ⟨uc, c1⟩ := (eU c).mp hc
    obtain ⟨uy, y1⟩ := (eU y).mp hy
    by_cases z : P c = nI o
    · rw [ePo c uc z] at hp
      exact ⟨uc, c1, uy, y1, Or.inl ⟨z, (tw_nI (tw_lt h hq) (tw_lt h uy) hp).symm⟩⟩
    · rw [eP c uc c1 z] at hp
      exact ⟨uc, c1, uy, y1, Or.inr hp⟩
  -- every new child of y lies, with its leaves, in one old child of y or shares the old parent o
  refine ⟨?_, ?_, ⟨?_, ?_, ?_⟩, ?_, ?_, ?_, ?_, ?_, ?_, ?_⟩
  · exact fun u hu => tw_V8 h hu
  · exact fun y hy => tw_lt h ((eU y).mp hy).1
  · exact (eU r).mpr ⟨tw_rU h, ro⟩
  · rw [eP r (tw_rU h) ro (by rw [tw_rP h]; exact tw_m1 (tw_lt h ho))]; exact tw_rP h
  · exact fun u hu => (eL r (tw_rU h) ro u).mpr (tw_rL h hu)
  · intro y hy hr
    obtain ⟨uy, yo⟩ := (eU y).mp hy
    by_cases z : P y = nI o
    · exact ⟨q, hUq, ePo y uy z⟩
    · obtain ⟨p, hp, pp⟩ := tw_par h uy hr
      exact ⟨p, (eU p).mpr ⟨hp, fun e => z (by rw [← e]; exact pp)⟩, by rw [eP y uy yo z]; exact pp⟩
  · intro y hy
    obtain ⟨uy, yo⟩ := (eU y).mp hy
    obtain ⟨u, hu⟩ := tw_ne h uy
    exact ⟨u, (eL y uy yo u).mpr hu⟩
  · intro y u hy hu
    obtain ⟨uy, yo⟩ := (eU y).mp hy
    exact tw_LV h uy ((eL y uy yo u).mp hu)
  · intro c y hc hy hp u hu
    obtain ⟨uc, c1, uy, y1, ⟨pc, rfl⟩ | pc⟩ := hch c y hc hy hp
    · exact (eL y uy y1 u).mpr (tw_sub h ho uy po (tw_sub h uc ho pc ((eL c uc c1 u).mp hu)))
    · exact (eL y uy y1 u).mpr (tw_sub h uc uy pc ((eL c uc c1 u).mp hu))
  · intro c d y hc hd e hy hp hp' u hu hw
    obtain ⟨uc, c1, uy, y1, cc⟩ := hch c y hc hy hp
    obtain ⟨ud, d1, _, _, dd⟩ := hch d y hd hy hp'
    have lc := (eL c uc c1 u).mp hu
    have ld := (eL d ud d1 u).mp hw
    rcases cc with ⟨pc, rfl⟩ | pc
    · rcases dd with ⟨pd, _⟩ | pd
      · exact e (tw_dis h uc ud ho pc pd lc ld)
      · exact d1 (tw_dis h ud ho uy pd po ld (tw_sub h uc ho pc lc))
    · rcases dd with ⟨pd, rfl⟩ | pd
      · exact c1 (tw_dis h uc ho uy pc po lc (tw_sub h ud ho pd ld))
      · exact e (tw_dis h uc ud uy pc pd lc ld)
  · intro y hy
    obtain ⟨uy, yo⟩ := (eU y).mp hy
    rw [eK y uy yo]
    by_cases yq : y = q
    · subst yq
      right
      refine ⟨qin.1, ?_, ?_⟩
      · intro u hu
        obtain ⟨g, ug, pg, lg⟩ := qin.2.1 u ((eL y uy yo u).mp hu)
        by_cases go : g = o
        · subst go
          obtain ⟨k, uk, pk, lk⟩ := oin.2.1 u lg
          exact ⟨k, (eU k).mpr ⟨uk, co k uk pk⟩, ePo k uk pk, (eL k uk (co k uk pk) u).mpr lk⟩
        · have pn : P g ≠ nI o := fun z => yo (tw_pu h hq ho pg z)
          exact ⟨g, (eU g).mpr ⟨ug, go⟩, by rw [eP g ug go pn]; exact pg, (eL g ug go u).mpr lg⟩
      · obtain ⟨a, b, ab, ua, ub, pa, pb⟩ := oin.2.2
        exact ⟨a, b, ab, (eU a).mpr ⟨ua, co a ua pa⟩, (eU b).mpr ⟨ub, co b ub pb⟩, ePo a ua pa, ePo b ub pb⟩
    · have keep : ∀ g, U g = true → P g = nI y → g ≠ o ∧ P g ≠ nI o := fun g ug pg => ⟨fun z => yq (tw_pu h uy hq (by rw [← z]; exact pg) po), fun z => yo (tw_pu h uy ho pg z)⟩
      rcases tw_kd h uy with ⟨ky, ny, sy⟩ | ⟨k12, cov, c, d, e, uc, ud, pc, pd⟩
      · left
        refine ⟨ky, ?_, fun u w hu hw => sy u w ((eL y uy yo u).mp hu) ((eL y uy yo w).mp hw)⟩
        intro c hc hp
        obtain ⟨uc, _, _, _, ⟨_, z⟩ | pc⟩ := hch c y hc hy hp
        · exact yq z
        · exact ny c uc pc
      · right
        refine ⟨k12, ?_, c, d, e, (eU c).mpr ⟨uc, (keep c uc pc).1⟩, (eU d).mpr ⟨ud, (keep d ud pd).1⟩, by rw [eP c uc (keep c uc pc).1 (keep c uc pc).2]; exact pc, by rw [eP d ud (keep d ud pd).1 (keep d ud pd).2]; exact pd⟩
        intro u hu
        obtain ⟨g, ug, pg, lg⟩ := cov u ((eL y uy yo u).mp hu)
        obtain ⟨k1, k2⟩ := keep g ug pg
        exact ⟨g, (eU g).mpr ⟨ug, k1⟩, by rw [eP g ug k1 k2]; exact pg, (eL g ug k1 u).mpr lg⟩
  · intro c d y hc hd e hy hp hp' u w hu hw
    obtain ⟨uc, c1, uy, y1, cc⟩ := hch c y hc hy hp
    obtain ⟨ud, d1, _, _, dd⟩ := hch d y hd hy hp'
    have lc := (eL c uc c1 u).mp hu
    have ld := (eL d ud d1 w).mp hw
    rw [eK y uy y1]
    rcases cc with ⟨pc, rfl⟩ | pc
    · rcases dd with ⟨pd, _⟩ | pd
      · rw [← hk]
        exact tw_adj h uc ud e ho pc pd lc ld
      · exact tw_adj h ho ud (fun z => d1 z.symm) uy po pd (tw_sub h uc ho pc lc) ld
    · rcases dd with ⟨pd, rfl⟩ | pd
      · exact tw_adj h uc ho c1 uy pc po lc (tw_sub h ud ho pd ld)
      · exact tw_adj h uc ud e uy pc pd lc ld
/-- new names for the vertices -/
theorem tw_rename {V' : Nat → Bool} {L' E' : Nat → Nat → Bool} (h : tw_B V U r K P L E) (s : Nat → Nat) (s8 : ∀ u, V' u = true → u < 8) (si : ∀ u v, s u = s v → u = v) (ss : ∀ v, V v = true → ∃ u, s u = v)
    (eV : ∀ u, V' u = true ↔ V (s u) = true) (eL : ∀ y, U y = true → ∀ u, L' y u = true ↔ L y (s u) = true) (eE : ∀ u v, V' u = true → V' v = true → E' u v = E (s u) (s v)) : tw_B V' U r K P L' E' := by
  refine ⟨s8, fun x hx => tw_lt h hx, ⟨tw_rU h, tw_rP h, fun v hv => (eL r (tw_rU h) v).mpr (tw_rL h ((eV v).mp hv))⟩, fun x hx hr => tw_par h hx hr, ?_, fun x v hx hv => (eV v).mpr (tw_LV h hx ((eL x hx v).mp hv)), fun c x hc hx hp v hv => (eL x hx v).mpr (tw_sub h hc hx hp ((eL c hc v).mp hv)), fun c d x hc hd e hx hp hq v hv hw => e (tw_dis h hc hd hx hp hq ((eL c hc v).mp hv) ((eL d hd v).mp hw)), ?_, ?_⟩
  · intro x hx
    obtain ⟨v, hv⟩ := tw_ne h hx
    obtain ⟨u, rfl⟩ := ss v (tw_LV h hx hv)
    exact ⟨u, (eL x hx u).mpr hv⟩
  · intro x hx
    rcases tw_kd h hx with ⟨k0, nc, sg⟩ | ⟨k12, cov, two⟩
    · exact Or.inl ⟨k0, nc, fun u v hu hv => si u v (sg _ _ ((eL x hx u).mp hu) ((eL x hx v).mp hv))⟩
    · refine Or.inr ⟨k12, fun v hv => ?_, two⟩
      obtain ⟨c, uc, pc, lc⟩ := cov _ ((eL x hx v).mp hv)
      exact ⟨c, uc, pc, (eL c uc v).mpr lc⟩
  · intro c d x hc hd e hx hp hq u v hu hv
    have a := (eL c hc u).mp hu
    have b := (eL d hd v).mp hv
    rw [eE u v ((eV u).mpr (tw_LV h hc a)) ((eV v).mpr (tw_LV h hd b))]
    exact tw_adj h hc hd e hx hp hq a b
/-- the complement -/
theorem tw_compl {K' : Nat → Int32} {E' : Nat → Nat → Bool} (h : tw_B V U r K P L E) (e0 : ∀ y, U y = true → K y = 0 → K' y = 0) (e1 : ∀ y, U y = true → K y = 1 → K' y = 2) (e2 : ∀ y, U y = true → K y = 2 → K' y = 1)
    (eE : ∀ u v, V u = true → V v = true → u ≠ v → E' u v = !E u v) : tw_B V U r K' P L E' := by
  refine ⟨h.1, h.2.1, h.2.2.1, h.2.2.2.1, h.2.2.2.2.1, h.2.2.2.2.2.1, h.2.2.2.2.2.2.1, h.2.2.2.2.2.2.2.1, ?_, ?_⟩
  · intro x hx
    rcases tw_kd h hx with ⟨k0, nc, sg⟩ | ⟨k12, cov, two⟩
    · exact Or.inl ⟨e0 x hx k0, nc, sg⟩
    · refine Or.inr ⟨?_, cov, two⟩
      rcases k12 with z | z
      · exact Or.inr (e1 x hx z)
      · exact Or.inl (e2 x hx z)
  · intro c d x hc hd e hx hp hq u v hu hv
    have uv : u ≠ v := by
      intro z
      subst z
      exact e (tw_dis h hc hd hx hp hq hu hv)
    rw [eE u v (tw_LV h hc hu) (tw_LV h hd hv) uv, tw_adj h hc hd e hx hp hq hu hv]
    rcases (tw_in h hx hc hp).1 with z | z
    · rw [e1 x hx z, z]; decide
    · rw [e2 x hx z, z]; decide
end
end
section
/-! ===== Int32 masks ===== -/
/-- the mask of one bit -/
def ib_1 (i : Nat) : Int32 := (1 : Int32) <<< (nI i &&& 31)
theorem ib_one {i : Nat} (hi : i < 32) (j : Nat) : bt (ib_1 i) j = decide (j = i) := by
  rcases Nat.lt_or_ge j 32 with h | h
  · unfold ib_1
    rw [b_shl i hi 1 h]
    have h1 : ∀ k, k < 32 → bt 1 k = decide (k = 0) := by decide +kernel
    rcases Nat.lt_or_ge j i with z | z
    · rw [decide_eq_false (by omega), decide_eq_false (by omega)]; rfl
    · rw [decide_eq_true z, h1 (j - i) (by omega), Bool.true_and]
      by_cases e : j = i
      · rw [decide_eq_true (by omega), decide_eq_true e]
      · rw [decide_eq_false (by omega), decide_eq_false e]
  · rw [b_big h, decide_eq_false (by omega)]
theorem ib_bit (x : Int32) {i : Nat} (hi : i < 32) : ((x >>> (nI i &&& 31)) &&& 1) = 0 ↔ bt x i = false := by
  have h1 : ∀ k, k < 32 → bt 1 k = decide (k = 0) := by decide +kernel
  have h0 : bt ((x >>> (nI i &&& 31)) &&& 1) 0 = bt x i := by
    rw [b_and, h1 0 (by omega), b_sshr i hi x (by omega), if_pos (by omega)]
    simp
  constructor
  · intro h
    rw [h, b_0] at h0
    exact h0.symm
  · intro h
    apply b_ext
    intro j hj
    rw [b_0]
    by_cases e : j = 0
    · rw [e, h0, h]
    · rw [b_and, h1 j hj, decide_eq_false e, Bool.and_false]
theorem ib_bit1 (x : Int32) {i : Nat} (hi : i < 32) : ((x >>> (nI i &&& 31)) &&& 1) = 1 ↔ bt x i = true := by
  have h1 : ∀ k, k < 32 → bt 1 k = decide (k = 0) := by decide +kernel
  have h0 : bt ((x >>> (nI i &&& 31)) &&& 1) 0 = bt x i := by
    rw [b_and, h1 0 (by omega), b_sshr i hi x (by omega), if_pos (by omega)]
    simp
  constructor
  · intro h
    rw [h, h1 0 (by omega)] at h0
    exact h0.symm
  · intro h
    apply b_ext
    intro j hj
    rw [h1 j hj]
    by_cases e : j = 0
    · rw [e, h0, h]; rfl
    · rw [b_and, h1 j hj, decide_eq_false e, Bool.and_false]
theorem ib_bitv (x : Int32) {i : Nat} (hi : i < 32) : ((x >>> (nI i &&& 31)) &&& 1) = if bt x i = true then 1 else 0 := by
  by_cases h : bt x i = true
  · rw [if_pos h]; exact (ib_bit1 x hi).mpr h
  · rw [if_neg h]; exact (ib_bit x hi).mpr (cg_bF h)
theorem ib_not (x : Int32) {j : Nat} (hj : j < 32) : bt (x ^^^ (-1)) j = !bt x j := by
  rw [b_xor, b_m1 j hj]; cases bt x j <;> rfl
theorem ib_lt {x : Int32} {j : Nat} (h : bt x j = true) : j < 32 := by
  rcases Nat.lt_or_ge j 32 with z | z
  · exact z
  · rw [b_big z] at h; exact absurd h (by decide)
theorem ib_nI (p j : Nat) : bt (nI p) j = (decide (j < 32) && p.testBit j) := by
  show (BitVec.ofNat 32 p).getLsbD j = _
  rw [BitVec.getLsbD_ofNat]
theorem ib_nI' {p : Nat} (hp : p < 2 ^ 32) (j : Nat) : bt (nI p) j = p.testBit j := by
  rw [ib_nI]
  rcases Nat.lt_or_ge j 32 with z | z
  · simp [z]
  · rw [Nat.testBit_lt_two_pow (Nat.lt_of_lt_of_le hp (Nat.pow_le_pow_right (by decide) z))]; simp
theorem ib_zero {x : Int32} : x = 0 ↔ ∀ j, bt x j = false := by
  constructor
  · intro h j; rw [h]; exact b_0 j
  · intro h; apply b_ext; intro i _; rw [h i, b_0]
theorem ib_eq {x y : Int32} : x = y ↔ ∀ j, bt x j = bt y j := ⟨fun h j => by rw [h], fun h => b_ext fun i _ => h i⟩
theorem ib_sub (x y : Int32) : (x &&& (y ^^^ (-1))) = 0 ↔ ∀ j, bt x j = true → bt y j = true := by
  rw [ib_zero]
  constructor
  · intro h j hj
    have := h j
    rw [b_and, ib_not y (ib_lt hj), hj] at this
    revert this; cases bt y j <;> simp
  · intro h j
    rw [b_and]
    cases e : bt x j
    · rfl
    · rw [ib_not y (ib_lt e), h j e]; rfl
theorem ib_lowN : ∀ m : Nat, 0 < m → ∃ k, m.testBit k = true ∧ (m - 1).testBit k = false ∧ (∀ i, i < k → m.testBit i = false) ∧ ∀ j, k < j → (m - 1).testBit j = m.testBit j := by
  intro m
  induction m using Nat.strongRecOn with
  | _ m ih =>
    intro h0
    rcases Nat.mod_two_eq_zero_or_one m with e | e
    · obtain ⟨k, h1, h2, h3, h4⟩ := ih (m / 2) (by omega) (by omega)
      have hh : (m - 1) / 2 = m / 2 - 1 := by omega
      refine ⟨k + 1, ?_, ?_, ?_, ?_⟩
      · rw [Nat.testBit_succ]; exact h1
      · rw [Nat.testBit_succ, hh]; exact h2
      · intro i hi
        cases i with
        | zero => rw [Nat.testBit_zero]; simp [e]
        | succ i => rw [Nat.testBit_succ]; exact h3 i (by omega)
      · intro j hj
        cases j with
        | zero => omega
        | succ j => rw [Nat.testBit_succ, Nat.testBit_succ, hh]; exact h4 j (by omega)
    · have hh : (m - 1) / 2 = m / 2 := by omega
      refine ⟨0, ?_, ?_, ?_, ?_⟩
      · rw [Nat.testBit_zero]; simp [e]
      · rw [Nat.testBit_zero]; simp; omega
      · intro i hi; omega
      · intro j hj
        cases j with
        | zero => omega
        | succ j => rw [Nat.testBit_succ, Nat.testBit_succ, hh]
theorem ib_tN (x : Int32) (j : Nat) : bt x j = x.toBitVec.toNat.testBit j := rfl
theorem ib_one1 (x : Int32) : (x &&& (x - 1)) = 0 ↔ ∀ i j, bt x i = true → bt x j = true → i = j := by
  by_cases hz : x = 0
  · subst hz
    refine ⟨fun _ i j hi _ => ?_, fun _ => by decide⟩
    rw [b_0] at hi; exact absurd hi (by decide)
  · have hpos : 0 < x.toBitVec.toNat := by
      rcases Nat.eq_zero_or_pos x.toBitVec.toNat with e | e
      · exact (hz (Int32.toBitVec_inj.mp (BitVec.eq_of_toNat_eq e))).elim
      · exact e
    have hs : (x - 1).toBitVec.toNat = x.toBitVec.toNat - 1 := by
      have hl := x.toBitVec.isLt
      rw [Int32.toBitVec_sub]
      show (x.toBitVec - 1#32).toNat = _
      rw [BitVec.toNat_sub]
      show (2 ^ 32 - 1 + x.toBitVec.toNat) % 2 ^ 32 = _
      omega
    obtain ⟨k, h1, h2, h3, h4⟩ := ib_lowN _ hpos
    rw [ib_zero]
    constructor
    · intro h
      have key : ∀ i, bt x i = true → i = k := by
        intro i hi
        rcases Nat.lt_trichotomy i k with z | z | z
        · rw [ib_tN, h3 i z] at hi; exact absurd hi (by decide)
        · exact z
        · have := h i
          rw [b_and, hi, ib_tN, hs, h4 i z, ← ib_tN, hi] at this
          exact absurd this (by decide)
      intro i j hi hj
      rw [key i hi, key j hj]
    · intro h j
      rw [b_and]
      cases e : bt x j
      · rfl
      · have := h j k e h1
        rw [this, ib_tN (x - 1), hs, h2]; rfl
theorem ib_set {n : Nat} (hn : n ≤ 8) : ib_1 n = nI (2 ^ n) := (by decide +kernel : ∀ n, n < 9 → ib_1 n = nI (2 ^ n)) n (by omega)
theorem ib_byte {x : Nat} (hx : x < 20) : vp_nar .byte (nI x).toInt8.toInt32 = nI x := by
  rw [vp_nar_byte]
  exact (by decide +kernel : ∀ x, x < 20 → (nI x).toInt8.toInt32.toInt8.toInt32 = nI x) x hx
theorem ib_bm1 : vp_nar .byte (-1) = -1 := by rw [vp_nar_byte]; decide
theorem ib_bm1' : vp_nar .byte (-1 : Int32).toInt8.toInt32 = -1 := by rw [vp_nar_byte]; decide
theorem ib_b0 : vp_nar .byte 0 = 0 := by rw [vp_nar_byte]; decide
theorem ib_b0' : vp_nar .byte (0 : Int32).toInt8.toInt32 = 0 := by rw [vp_nar_byte]; decide
theorem ib_b1' : vp_nar .byte (1 : Int32).toInt8.toInt32 = 1 := by rw [vp_nar_byte]; decide
theorem ib_b2' : vp_nar .byte (2 : Int32).toInt8.toInt32 = 2 := by rw [vp_nar_byte]; decide
theorem ib_20 {x : Nat} (hx : x < 20) : ¬ (20 : Int32) ≤ nI x := nI_ge (b := 20) hx (by decide)
theorem ib_20' {x : Nat} (hx : 20 ≤ x) (h : x < 2 ^ 31) : (20 : Int32) ≤ nI x := nI_le (a := 20) hx h
theorem ib_19 {x : Nat} (hx : x < 19) : ¬ (19 : Int32) ≤ nI x := nI_ge (b := 19) hx (by decide)
theorem ib_31 {x : Nat} (hx : x < 31) : ¬ (31 : Int32) ≤ nI x := nI_ge (b := 31) hx (by decide)
theorem ib_8 {x : Nat} (hx : x < 8) : ¬ (8 : Int32) ≤ nI x := nI_ge (b := 8) hx (by decide)
theorem ib_neg {x : Nat} (hx : x < 2 ^ 31) : ¬ nI x < 0 := nI_pos hx
theorem ib_cl {x : Nat} (hx : x < 256) : (nI x).toNatClampNeg = x := nI_clamp (by omega)
theorem ib_in {x N : Nat} (hx : x < N) (hN : N < 1000) : vp_in (nI x) N := vp_in_nI hx (by omega)
end
section
/-! ===== X: the tree's own methods ===== -/
section
variable {f_vertexCount f_root f_usedNodes f_newWeight f_wholeChildren f_emptyChildren f_partChildren f_orderLength f_witnessKept : Int32} {a_kind a_parent a_leaves a_children a_weight a_order a_value a_witnessCells a_row : Nat → Int32}
theorem xw_newNode_2 {post : Int32 → SX → Prop} {w s : Int32} {x : Nat} (hx : x < 20) (hfree : x < 19 → bt f_usedNodes x = false) (hlow : ∀ y, y < x → bt f_usedNodes y = true) (hw : vp_nar .byte w.toInt8.toInt32 = w)
    (h : post (nI x) (f_vertexCount, f_root, f_usedNodes ||| ib_1 x, f_newWeight, f_wholeChildren, f_emptyChildren, f_partChildren, f_orderLength, f_witnessKept, upd a_kind x w, upd a_parent x (-1), upd a_leaves x s, upd a_children x 0, a_weight, a_order, a_value, a_witnessCells, a_row)) :
    ∀ d i, i + d = x → ∀ n, d < n → wX_newNode_2 post w s f_vertexCount f_root f_usedNodes f_newWeight f_wholeChildren f_emptyChildren f_partChildren f_orderLength f_witnessKept a_kind a_parent a_leaves a_children a_weight a_order a_value a_witnessCells a_row n (nI i) := by
  have hin : vp_in (nI x) 20 := ib_in hx (by omega)
  have hcl : (nI x).toNatClampNeg = x := ib_cl (by omega)
  have key : wX_newNode_25 post w s (nI x) f_vertexCount f_root f_usedNodes f_newWeight f_wholeChildren f_emptyChildren f_partChildren f_orderLength f_witnessKept a_kind a_parent a_leaves a_children a_weight a_order a_value a_witnessCells a_row := by
    unfold wX_newNode_25
    rw [hcl, hw, ib_bm1]
    exact nm_e ⟨hin, nm_e ⟨hin, nm_e ⟨hin, nm_e ⟨hin, nm_e h⟩⟩⟩⟩
  intro d
  induction d with
  | zero =>
    intro i hi n hn
    obtain ⟨m, rfl⟩ : ∃ m, n = m + 1 := ⟨n - 1, by omega⟩
    have : i = x := by omega
    subst this
    by_cases e : i = 19
    · subst e
      exact br_t (by decide) key
    · exact br_f (ib_19 (by omega)) (br_t ((ib_bit _ (by omega)).mpr (hfree (by omega))) key)
  | succ d ih =>
    intro i hi n hn
    obtain ⟨m, rfl⟩ : ∃ m, n = m + 1 := ⟨n - 1, by omega⟩
    refine br_f (ib_19 (by omega)) (br_f (fun z => ?_) (nm_r (nI_1 i) (ih (i + 1) (by omega) m (by omega))))
    have := (ib_bit _ (by omega)).mp z
    rw [hlow i (by omega)] at this
    exact absurd this (by decide)
theorem xw_newNode {post : Int32 → SX → Prop} {w s : Int32} {x : Nat} (hx : x < 20) (hfree : bt f_usedNodes x = false) (hlow : ∀ y, y < x → bt f_usedNodes y = true) (hw : vp_nar .byte w.toInt8.toInt32 = w)
    (h : post (nI x) (f_vertexCount, f_root, f_usedNodes ||| ib_1 x, f_newWeight, f_wholeChildren, f_emptyChildren, f_partChildren, f_orderLength, f_witnessKept, upd a_kind x w, upd a_parent x (-1), upd a_leaves x s, upd a_children x 0, a_weight, a_order, a_value, a_witnessCells, a_row)) :
    wpX_newNode post (f_vertexCount, f_root, f_usedNodes, f_newWeight, f_wholeChildren, f_emptyChildren, f_partChildren, f_orderLength, f_witnessKept, a_kind, a_parent, a_leaves, a_children, a_weight, a_order, a_value, a_witnessCells, a_row) w s := ⟨x + 1, xw_newNode_2 hx (fun _ => hfree) hlow hw h x 0 (by omega) (x + 1) (by omega)⟩
theorem xw_adopt {post : SX → Prop} {p x : Nat} (hp : p < 20) (hx : x < 20)
    (h : post (f_vertexCount, f_root, f_usedNodes, f_newWeight, f_wholeChildren, f_emptyChildren, f_partChildren, f_orderLength, f_witnessKept, a_kind, upd a_parent x (nI p), upd a_leaves p (a_leaves p ||| a_leaves x), upd a_children p (a_children p ||| ib_1 x), a_weight, a_order, a_value, a_witnessCells, a_row)) :
    wpX_adopt post (f_vertexCount, f_root, f_usedNodes, f_newWeight, f_wholeChildren, f_emptyChildren, f_partChildren, f_orderLength, f_witnessKept, a_kind, a_parent, a_leaves, a_children, a_weight, a_order, a_value, a_witnessCells, a_row) (nI p) (nI x) := by
  have ip : vp_in (nI p) 20 := ib_in hp (by omega)
  have ix : vp_in (nI x) 20 := ib_in hx (by omega)
  unfold wpX_adopt
  dsimp only
  rw [ib_cl (show p < 256 by omega), ib_cl (show x < 256 by omega), ib_byte hp]
  exact ⟨ip, ip, nm_e ⟨ip, ix, ip, nm_e ⟨ix, nm_e h⟩⟩⟩
theorem xw_freeNode {post : SX → Prop} {x : Nat} (hx : x < 20)
    (h : post (f_vertexCount, f_root, f_usedNodes &&& (ib_1 x ^^^ (-1)), f_newWeight, f_wholeChildren, f_emptyChildren, f_partChildren, f_orderLength, f_witnessKept, upd a_kind x 0, upd a_parent x (-1), upd a_leaves x 0, upd a_children x 0, a_weight, a_order, a_value, a_witnessCells, a_row)) :
    wpX_freeNode post (f_vertexCount, f_root, f_usedNodes, f_newWeight, f_wholeChildren, f_emptyChildren, f_partChildren, f_orderLength, f_witnessKept, a_kind, a_parent, a_leaves, a_children, a_weight, a_order, a_value, a_witnessCells, a_row) (nI x) := by
  have ix : vp_in (nI x) 20 := ib_in hx (by omega)
  unfold wpX_freeNode
  dsimp only
  rw [ib_cl (show x < 256 by omega), ib_bm1, ib_b0]
  exact nm_e ⟨ix, nm_e ⟨ix, nm_e ⟨ix, nm_e ⟨ix, nm_e h⟩⟩⟩⟩
theorem xw_replace0 {post : SX → Prop} {o x : Nat} (ho : o < 20) (hx : x < 20) (hp : a_parent o = -1)
    (h : post (f_vertexCount, nI x, f_usedNodes, f_newWeight, f_wholeChildren, f_emptyChildren, f_partChildren, f_orderLength, f_witnessKept, a_kind, upd a_parent x (-1), a_leaves, a_children, a_weight, a_order, a_value, a_witnessCells, a_row)) : wpX_replace post (f_vertexCount, f_root, f_usedNodes, f_newWeight, f_wholeChildren, f_emptyChildren, f_partChildren, f_orderLength, f_witnessKept, a_kind, a_parent, a_leaves, a_children, a_weight, a_order, a_value, a_witnessCells, a_row) (nI o) (nI x) := by
  unfold wpX_replace
  dsimp only
  rw [ib_cl (show o < 256 by omega), ib_cl (show x < 256 by omega), hp]
  exact ⟨ib_in ho (by omega), nm_e ⟨ib_in hx (by omega), nm_r (by rw [ib_bm1']) (br_f (by decide) h)⟩⟩
theorem xw_replace1 {post : SX → Prop} {o x p : Nat} (ho : o < 20) (hx : x < 20) (pp : p < 20) (hp : a_parent o = nI p)
    (h : post (f_vertexCount, f_root, f_usedNodes, f_newWeight, f_wholeChildren, f_emptyChildren, f_partChildren, f_orderLength, f_witnessKept, a_kind, upd a_parent x (nI p), a_leaves, upd a_children p ((a_children p &&& (ib_1 o ^^^ (-1))) ||| ib_1 x), a_weight, a_order, a_value, a_witnessCells, a_row)) : wpX_replace post (f_vertexCount, f_root, f_usedNodes, f_newWeight, f_wholeChildren, f_emptyChildren, f_partChildren, f_orderLength, f_witnessKept, a_kind, a_parent, a_leaves, a_children, a_weight, a_order, a_value, a_witnessCells, a_row) (nI o) (nI x) := by
  have ip : vp_in (nI p) 20 := ib_in pp (by omega)
  unfold wpX_replace
  dsimp only
  rw [ib_cl (show o < 256 by omega), ib_cl (show x < 256 by omega), hp]
  refine ⟨ib_in ho (by omega), nm_e ⟨ib_in hx (by omega), nm_r (by rw [ib_byte pp]) (br_t (nI_pos' (by omega)) ⟨ip, ip, ?_⟩)⟩⟩
  rw [ib_cl (show p < 256 by omega)]
  exact nm_e h
theorem xw_lowestBit {post : Int32 → Prop} {s : Int32} {k : Nat} (hk : k < 31) (h1 : bt s k = true) (h0 : ∀ j, j < k → bt s j = false) (h : post (nI k)) : wpX_lowestBit post (f_vertexCount, f_root, f_usedNodes, f_newWeight, f_wholeChildren, f_emptyChildren, f_partChildren, f_orderLength, f_witnessKept, a_kind, a_parent, a_leaves, a_children, a_weight, a_order, a_value, a_witnessCells, a_row) s := by
  suffices key : ∀ d i, i + d = k → ∀ n, d < n → wX_lowestBit_2 post s f_vertexCount f_root f_usedNodes f_newWeight f_wholeChildren f_emptyChildren f_partChildren f_orderLength f_witnessKept a_kind a_parent a_leaves a_children a_weight a_order a_value a_witnessCells a_row n (nI i) from ⟨k + 1, key k 0 (by omega) (k + 1) (by omega)⟩
  intro d
  induction d with
  | zero =>
    intro i hi n hn
    obtain ⟨m, rfl⟩ : ∃ m, n = m + 1 := ⟨n - 1, by omega⟩
    have : i = k := by omega
    subst this
    refine br_f (ib_31 hk) (br_f (fun z => ?_) h)
    have := (ib_bit _ (by omega)).mp z
    rw [h1] at this
    exact absurd this (by decide)
  | succ d ih =>
    intro i hi n hn
    obtain ⟨m, rfl⟩ : ∃ m, n = m + 1 := ⟨n - 1, by omega⟩
    exact br_f (ib_31 (by omega)) (br_t ((ib_bit _ (by omega)).mpr (h0 i (by omega))) (nm_r (nI_1 i) (ih (i + 1) (by omega) m (by omega))))
/-- going up from z: every used node that has all leaves of z gets the set s -/
theorem xw_spread_10 {V U : Nat → Bool} {r : Nat} {K P : Nat → Int32} {L E : Nat → Nat → Bool} (B : tw_B V U r K P L E) {post : SX → Prop} {s : Int32} :
    ∀ m z, 9 ≤ m + cg_cnt (L z) 8 → U z = true → (∀ y, U y = true → (∀ u, L z u = true → L y u = true) → a_parent y = P y) → ∀ (i : Nat) (a : Nat → Int32), i + m ≤ 20 → (∀ a', (∀ y, (U y = true ∧ ∀ u, L z u = true → L y u = true) → a' y = a y ||| s) → (∀ y, ¬ (U y = true ∧ ∀ u, L z u = true → L y u = true) → a' y = a y) → post (f_vertexCount, f_root, f_usedNodes, f_newWeight, f_wholeChildren, f_emptyChildren, f_partChildren, f_orderLength, f_witnessKept, a_kind, a_parent, a', a_children, a_weight, a_order, a_value, a_witnessCells, a_row)) →
    ∀ n, m + 1 < n → wX_spread_10 post s f_vertexCount f_root f_usedNodes f_newWeight f_wholeChildren f_emptyChildren f_partChildren f_orderLength f_witnessKept n (nI z) (nI i) a_kind a_parent a a_children a_weight a_order a_value a_witnessCells a_row := by
  intro m
  induction m with
  | zero =>
    intro z hm
    have := cg_cnt_le (L z) 8
    omega
  | succ m ih =>
    intro z hm hz hP i a him h n hn
    obtain ⟨k, rfl⟩ : ∃ k, n = k + 1 := ⟨n - 1, by omega⟩
    have iz : vp_in (nI z) 20 := ib_in (tw_lt B hz) (by omega)
    have lz : z < 20 := tw_lt B hz
    refine br_f (ib_20 (by omega)) (br_f (ib_neg (by omega)) ?_)
    rw [ib_cl (show z < 256 by omega), hP z hz (fun u hu => hu)]
    refine ⟨iz, iz, nm_e ⟨iz, nm_e (nm_r (nI_1 i) ?_)⟩⟩
    by_cases zr : z = r
    · rw [zr, tw_rP B]
      obtain ⟨k', rfl⟩ : ∃ k', k = k' + 1 := ⟨k - 1, by omega⟩
      have fin : post (f_vertexCount, f_root, f_usedNodes, f_newWeight, f_wholeChildren, f_emptyChildren, f_partChildren, f_orderLength, f_witnessKept, a_kind, a_parent, upd a r (a r ||| s), a_children, a_weight, a_order, a_value, a_witnessCells, a_row) := by
        apply h
        · intro y hy
          have : y = r := tw_top B hy.1 (by rw [← zr]; exact hy.2)
          rw [this, pk_us]
        · intro y hy
          refine pk_un (fun e => hy ?_)
          rw [e, zr]
          exact ⟨tw_rU B, fun u hu => hu⟩
      by_cases i20 : 20 ≤ i + 1
      · exact br_t (ib_20' i20 (by omega)) fin
      · exact br_f (ib_20 (by omega)) (br_t (by decide) fin)
    · obtain ⟨p, hp, pz⟩ := tw_par B hz zr
      rw [pz]
      have hc := tw_card B hp hz pz
      refine ih p (by omega) hp (fun y hy hs => hP y hy (fun u hu => hs u (tw_sub B hz hp pz hu))) (i + 1) _ (by omega) ?_ k (by omega)
      intro a' h1 h2
      apply h
      · intro y hy
        rcases tw_up B hz hy.1 hy.2 with e | ⟨q, hq, pq, sq⟩
        · subst e
          rw [h2 z (fun e => tw_np B hp hz pz e.2), pk_us]
        · have : q = p := tw_pu B hq hp pq pz
          subst this
          have yz : y ≠ z := by
            intro e
            subst e
            exact tw_np B hp hz pz sq
          rw [h1 y ⟨hy.1, sq⟩, pk_un yz]
      · intro y hy
        have yz : y ≠ z := by
          intro e
          subst e
          exact hy ⟨hz, fun u hu => hu⟩
        rw [h2 y (fun e => hy ⟨e.1, fun u hu => e.2 u (tw_sub B hz hp pz hu)⟩), pk_un yz]
theorem xw_spread {V U : Nat → Bool} {r : Nat} {K P : Nat → Int32} {L E : Nat → Nat → Bool} (B : tw_B V U r K P L E) {post : SX → Prop} {s : Int32} {x b : Nat} (hx : U x = true) (b20 : b < 20) (hb : a_parent b = P x) (hP : ∀ y, U y = true → y ≠ x → (∀ u, L x u = true → L y u = true) → a_parent y = P y)
    (h : ∀ a', (∀ y, (U y = true ∧ y ≠ x ∧ ∀ u, L x u = true → L y u = true) → a' y = a_leaves y ||| s) → (∀ y, ¬ (U y = true ∧ y ≠ x ∧ ∀ u, L x u = true → L y u = true) → a' y = a_leaves y) → post (f_vertexCount, f_root, f_usedNodes, f_newWeight, f_wholeChildren, f_emptyChildren, f_partChildren, f_orderLength, f_witnessKept, a_kind, a_parent, a', a_children, a_weight, a_order, a_value, a_witnessCells, a_row)) :
    wpX_spread post (f_vertexCount, f_root, f_usedNodes, f_newWeight, f_wholeChildren, f_emptyChildren, f_partChildren, f_orderLength, f_witnessKept, a_kind, a_parent, a_leaves, a_children, a_weight, a_order, a_value, a_witnessCells, a_row) (nI b) s := by
  unfold wpX_spread
  dsimp only
  rw [ib_cl (show b < 256 by omega), hb]
  refine ⟨ib_in b20 (by omega), nm_e ?_⟩
  by_cases xr : x = r
  · rw [xr, tw_rP B]
    refine ⟨1, br_f (by decide) (br_t (by decide) (h a_leaves ?_ (fun y _ => rfl)))⟩
    intro y hy
    exact (hy.2.1 ((tw_top B hy.1 (by rw [← xr]; exact hy.2.2)).trans xr.symm)).elim
  · obtain ⟨p, hp, px⟩ := tw_par B hx xr
    rw [px]
    refine ⟨11, xw_spread_10 B 9 p (by omega) hp (fun y hy hs => hP y hy (fun e => tw_np B hp hx px (by rw [← e]; exact hs)) (fun u hu => hs u (tw_sub B hx hp px hu))) 0 a_leaves (by omega) ?_ 11 (by omega)⟩
    intro a' h1 h2
    apply h a'
    · intro y hy
      rcases tw_up B hx hy.1 hy.2.2 with e | ⟨q, hq, pq, sq⟩
      · exact (hy.2.1 e.symm).elim
      · have : q = p := tw_pu B hq hp pq px
        subst this
        exact h1 y ⟨hy.1, sq⟩
    · intro y hy
      apply h2
      intro e
      refine hy ⟨e.1, ?_, fun u hu => e.2 u (tw_sub B hx hp px hu)⟩
      intro z
      subst z
      exact tw_np B hp hx px e.2
end
end
section
/-! ===== room in the pool; the tree as the two arrays hold it ===== -/
section
variable {V U : Nat → Bool} {r : Nat} {K P : Nat → Int32} {L E : Nat → Nat → Bool}
def tw_M (U : Nat → Bool) (P : Nat → Int32) (L : Nat → Nat → Bool) (x v : Nat) : Prop :=
  (∃ c, U c = true ∧ P c = nI x ∧ L c v = true ∧ ∀ w, L c w = true → v ≤ w) ∧ ∃ u, L x u = true ∧ u < v
theorem tw_least (h : tw_B V U r K P L E) {x : Nat} (hx : U x = true) : ∃ v, L x v = true ∧ ∀ w, L x w = true → v ≤ w := by
  obtain ⟨k, h1, h2⟩ := pk_least (fun v => L x v = true) (tw_ne h hx)
  exact ⟨k, h1, fun w hw => Nat.le_of_not_lt (fun z => h2 w z hw)⟩
theorem tw_Mex (h : tw_B V U r K P L E) {x : Nat} (hx : U x = true) (hk : K x ≠ 0) : ∃ v, tw_M U P L x v := by
  obtain ⟨_, _, a, b, e, ua, ub, pa, pb⟩ := tw_inn h hx hk
  obtain ⟨v, lv, mv⟩ := tw_least h ua
  obtain ⟨w, lw, mw⟩ := tw_least h ub
  rcases Nat.lt_trichotomy v w with z | z | z
  · exact ⟨w, ⟨b, ub, pb, lw, mw⟩, v, tw_sub h ua hx pa lv, z⟩
  · subst z; exact (e (tw_dis h ua ub hx pa pb lv lw)).elim
  · exact ⟨v, ⟨a, ua, pa, lv, mv⟩, w, tw_sub h ub hx pb lw, z⟩
theorem tw_Minj (h : tw_B V U r K P L E) {x y v : Nat} (hx : U x = true) (hy : U y = true) (mx : tw_M U P L x v) (my : tw_M U P L y v) : x = y := by
  obtain ⟨⟨c, uc, pc, lc, mc⟩, u, lu, hu⟩ := mx
  obtain ⟨⟨d, ud, pd, ld, md⟩, w, lw, hw⟩ := my
  rcases tw_cmp h hx hy (tw_sub h uc hx pc lc) (tw_sub h ud hy pd ld) with z | ⟨g, ug, pg, sg⟩ | ⟨g, ug, pg, sg⟩
  · exact z
  · have : g = d := tw_dis h ug ud hy pg pd (sg v (tw_sub h uc hx pc lc)) ld
    subst this
    have := md u (sg u lu)
    omega
  · have : g = c := tw_dis h ug uc hx pg pc (sg v (tw_sub h ud hy pd ld)) lc
    subst this
    have := mc w (sg w lw)
    omega
theorem tw_count (h : tw_B V U r K P L E) : cg_cnt U 20 ≤ 16 := by
  have hex : ∀ x, ∃ v, U x = true → (K x = 0 ∧ L x v = true ∧ v < 8) ∨ (K x ≠ 0 ∧ 8 ≤ v ∧ v < 16 ∧ tw_M U P L x (v - 8)) := by
    intro x
    by_cases hx : U x = true
    · by_cases k0 : K x = 0
      · obtain ⟨v, hv⟩ := tw_ne h hx
        exact ⟨v, fun _ => Or.inl ⟨k0, hv, tw_L8 h hx hv⟩⟩
      · obtain ⟨v, hv⟩ := tw_Mex h hx k0
        have hv' := hv
        obtain ⟨⟨c, uc, pc, lc, _⟩, _⟩ := hv'
        have := tw_L8 h uc lc
        exact ⟨v + 8, fun _ => Or.inr ⟨k0, by omega, by omega, by rw [Nat.add_sub_cancel]; exact hv⟩⟩
    · exact ⟨0, fun z => absurd z hx⟩
  obtain ⟨f, hf⟩ := Classical.axiomOfChoice hex
  have := cg_cnt_inj (A := U) (b := 16) f 20 (fun _ => true) (fun x _ hx => by
    rcases hf x hx with z | z
    · exact ⟨by omega, rfl⟩
    · exact ⟨by omega, rfl⟩) (fun x y _ _ hx hy e => by
    rcases hf x hx with ⟨kx, lx, _⟩ | ⟨kx, ax, _, mx⟩
    · rcases hf y hy with ⟨ky, ly, _⟩ | ⟨ky, ay, _, _⟩
      · rw [← e] at ly
        have sx := (tw_leaf h hx kx lx).2
        have sy := (tw_leaf h hy ky ly).2
        exact tw_inj h hx hy (fun u => by rw [sx, sy])
      · omega
    · rcases hf y hy with ⟨ky, ly, _⟩ | ⟨ky, ay, _, my⟩
      · omega
      · rw [← e] at my
        exact tw_Minj h hx hy mx my)
  have h2 := cg_cnt_le (fun _ => true) 16
  omega
end
theorem tw_free {U : Nat → Bool} (h : cg_cnt U 20 < 20) : ∃ x, x < 20 ∧ U x = false ∧ ∀ y, y < x → U y = true := by
  have hex : ∃ x, x < 20 ∧ U x = false := by
    refine Classical.byContradiction fun z => ?_
    have : cg_cnt U 20 = 20 := cg_cnt_all 20 (fun i hi => cg_bT (fun e => z ⟨i, hi, e⟩))
    omega
  obtain ⟨k, ⟨h1, h2⟩, h3⟩ := pk_least (fun x => x < 20 ∧ U x = false) hex
  exact ⟨k, h1, h2, fun y hy => cg_bT (fun e => h3 y hy ⟨by omega, e⟩)⟩
theorem tw_or1 (u : Int32) {x : Nat} (hx : x < 20) (y : Nat) : bt (u ||| ib_1 x) y = true ↔ bt u y = true ∨ y = x := by
  rw [b_or, ib_one (by omega)]
  simp
theorem tw_or0 (u : Int32) {x : Nat} (hx : x < 20) {y : Nat} : bt (u ||| ib_1 x) y = false ↔ bt u y = false ∧ y ≠ x := by
  rw [b_or, ib_one (by omega)]
  simp
theorem tw_an1 (u : Int32) {x : Nat} (hx : x < 20) (y : Nat) : bt (u &&& (ib_1 x ^^^ (-1))) y = true ↔ bt u y = true ∧ y ≠ x := by
  rw [b_and]
  constructor
  · intro h
    have h1 : bt u y = true := by revert h; cases bt u y <;> simp
    rw [h1, ib_not _ (ib_lt h1), ib_one (by omega)] at h
    simp at h
    exact ⟨h1, h⟩
  · intro h
    rw [h.1, ib_not _ (ib_lt h.1), ib_one (by omega)]
    simp [h.2]
theorem tw_anG (u g : Int32) (y : Nat) : bt (u &&& (g ^^^ (-1))) y = true ↔ bt u y = true ∧ bt g y = false := by
  rw [b_and]
  constructor
  · intro h
    have h1 : bt u y = true := by revert h; cases bt u y <;> simp
    rw [h1, ib_not _ (ib_lt h1)] at h
    simp at h
    exact ⟨h1, h⟩
  · intro h
    rw [h.1, ib_not _ (ib_lt h.1), h.2]
    rfl
theorem tw_cntor (u : Int32) {x : Nat} (hx : x < 20) : cg_cnt (bt (u ||| ib_1 x)) 20 ≤ cg_cnt (bt u) 20 + 1 := by
  have h1 := cg_cnt_ie (A := bt u) (B := fun y => decide (y = x)) 20
  have h2 : cg_cnt (bt (u ||| ib_1 x)) 20 = cg_cnt (fun y => bt u y || decide (y = x)) 20 := cg_cnt_congr 20 (fun i _ => by rw [b_or, ib_one (by omega)])
  have h3 := cg_cnt_one 20 x hx
  omega
/-- the tree as the arrays hold it -/
def cg_T (n : Nat) (root used : Int32) (kind parent leaves children : Nat → Int32) (E : Nat → Nat → Bool) : Prop :=
  (n = 0 ∧ root = -1 ∧ ∀ x, bt used x = false) ∨
  (0 < n ∧ n ≤ 8 ∧ ∃ r, root = nI r ∧ tw_B (fun v => decide (v < n)) (bt used) r kind parent (fun x => bt (leaves x)) E ∧ tw_A (bt used) kind parent ∧ tw_C (bt used) parent (fun x => bt (children x)))
theorem tw_bor (x y : Int32) (v : Nat) : bt (x ||| y) v = true ↔ bt x v = true ∨ bt y v = true := by
  rw [b_or]; cases bt x v <;> cases bt y v <;> simp
theorem tw_b1 {n : Nat} (hn : n < 32) (v : Nat) : bt (ib_1 n) v = true ↔ v = n := by
  rw [ib_one hn]; simp
theorem tw_b0 (v : Nat) : ¬ bt 0 v = true := by rw [b_0]; decide
end
section
/-! ===== alternation and children masks under the surgeries ===== -/
section
variable {V U U' : Nat → Bool} {r : Nat} {K P K' P' : Nat → Int32} {L E C C' : Nat → Nat → Bool}
theorem tw_Aleaf (h : tw_B V U r K P L E) (A : tw_A U K P) {x l : Nat} (hx : U x = true) (hk : K x ≠ 0) (hl : U l = false) (l20 : l < 20)
    (eU : ∀ y, U' y = true ↔ U y = true ∨ y = l)
    (eK : ∀ y, U y = true → K' y = K y) (eKl : K' l = 0)
    (eP : ∀ y, U y = true → P' y = P y) (ePl : P' l = nI x) : tw_A U' K' P' := by
  intro c y hc hy hp
  rcases (eU c).mp hc with uc | rfl
  · rw [eP c uc] at hp
    rcases (eU y).mp hy with uy | rfl
    · rw [eK c uc, eK y uy]; exact A c y uc uy hp
    · exact (tw_pnl h uc hl l20 hp).elim
  · rw [ePl] at hp
    rw [eKl]
    rcases (eU y).mp hy with uy | rfl
    · rw [eK y uy, ← tw_nI (tw_lt h hx) (tw_lt h uy) hp]; exact fun z => hk z.symm
    · exact (tw_neU hl hx (tw_nI (tw_lt h hx) l20 hp)).elim
theorem tw_Cleaf (h : tw_B V U r K P L E) (hC : tw_C U P C) {x l : Nat} (hx : U x = true) (hl : U l = false) (l20 : l < 20)
    (eU : ∀ y, U' y = true ↔ U y = true ∨ y = l)
    (eP : ∀ y, U y = true → P' y = P y) (ePl : P' l = nI x)
    (eC : ∀ y, U y = true → ∀ c, C' y c = true ↔ C y c = true ∨ (y = x ∧ c = l)) (eCl : ∀ c, ¬ C' l c = true) : tw_C U' P' C' := by
  intro y hy c
  rcases (eU y).mp hy with uy | rfl
  · rw [eC y uy c, hC y uy c, eU c]
    constructor
    · rintro (⟨uc, pc⟩ | ⟨e, f⟩)
      · exact ⟨Or.inl uc, by rw [eP c uc]; exact pc⟩
      · exact ⟨Or.inr f, by rw [f, ePl, e]⟩
    · rintro ⟨uc | rfl, pc⟩
      · rw [eP c uc] at pc; exact Or.inl ⟨uc, pc⟩
      · rw [ePl] at pc
        exact Or.inr ⟨(tw_nI (tw_lt h hx) (tw_lt h uy) pc).symm, rfl⟩
  · refine ⟨fun z => (eCl c z).elim, fun z => ?_⟩
    obtain ⟨uc, pc⟩ := z
    rcases (eU c).mp uc with uc | rfl
    · rw [eP c uc] at pc; exact (tw_pnl h uc hl l20 pc).elim
    · rw [ePl] at pc
      exact (tw_neU hl hx (tw_nI (tw_lt h hx) l20 pc)).elim
theorem tw_Abet (h : tw_B V U r K P L E) {x b l : Nat} {w : Int32} (A : ∀ c y, U c = true → U y = true → c ≠ x → P c = nI y → K c ≠ K y) (hw : w = 1 ∨ w = 2) (hkw : K x ≠ w) (hq : ∀ q, U q = true → P x = nI q → w ≠ K q) (hx : U x = true) (hb : U b = false) (hl : U l = false) (b20 : b < 20) (l20 : l < 20) (ebl : b ≠ l)
    (eU : ∀ y, U' y = true ↔ U y = true ∨ y = b ∨ y = l)
    (eK : ∀ y, U y = true → K' y = K y) (eKl : K' l = 0) (eKb : K' b = w)
    (eP : ∀ y, U y = true → y ≠ x → P' y = P y) (ePl : P' l = nI b) (ePx : P' x = nI b) (ePb : P' b = P x) : tw_A U' K' P' := by
  have w0 : w ≠ 0 := by rcases hw with z | z <;> rw [z] <;> decide
  have toB : ∀ y, U' y = true → nI b = nI y → y = b := by
    intro y hy e
    rcases (eU y).mp hy with uy | rfl | rfl
    · exact (tw_nI b20 (tw_lt h uy) e).symm
    · rfl
    · exact (tw_nI b20 l20 e).symm
  intro c y hc hy hp
  rcases (eU c).mp hc with uc | rfl | rfl
  · by_cases cx : c = x
    · subst cx
      rw [ePx] at hp
      rw [toB y hy hp, eK c uc, eKb]
      exact hkw
    · rw [eP c uc cx] at hp
      rcases (eU y).mp hy with uy | rfl | rfl
      · rw [eK c uc, eK y uy]; exact A c y uc uy cx hp
      · exact (tw_pnl h uc hb b20 hp).elim
      · exact (tw_pnl h uc hl l20 hp).elim
  · rw [ePb] at hp
    rcases (eU y).mp hy with uy | rfl | rfl
    · rw [eKb, eK y uy]; exact hq y uy hp
    · exact (tw_pnl h hx hb b20 hp).elim
    · exact (tw_pnl h hx hl l20 hp).elim
  · rw [ePl] at hp
    rw [toB y hy hp, eKl, eKb]
    exact fun z => w0 z.symm
theorem tw_Cbet (h : tw_B V U r K P L E) (hC : tw_C U P C) {x b l : Nat} (hx : U x = true) (hb : U b = false) (hl : U l = false) (b20 : b < 20) (l20 : l < 20) (ebl : b ≠ l)
    (eU : ∀ y, U' y = true ↔ U y = true ∨ y = b ∨ y = l)
    (eP : ∀ y, U y = true → y ≠ x → P' y = P y) (ePl : P' l = nI b) (ePx : P' x = nI b) (ePb : P' b = P x)
    (eC : ∀ y, U y = true → ∀ c, C' y c = true ↔ (C y c = true ∧ c ≠ x) ∨ (P x = nI y ∧ c = b)) (eCb : ∀ c, C' b c = true ↔ c = x ∨ c = l) (eCl : ∀ c, ¬ C' l c = true) : tw_C U' P' C' := by
  intro y hy c
  rcases (eU y).mp hy with uy | rfl | rfl
  · rw [eC y uy c, hC y uy c, eU c]
    constructor
    · rintro (⟨⟨uc, pc⟩, cx⟩ | ⟨e, f⟩)
      · exact ⟨Or.inl uc, by rw [eP c uc cx]; exact pc⟩
      · exact ⟨Or.inr (Or.inl f), by rw [f, ePb, e]⟩
    · rintro ⟨uc | rfl | rfl, pc⟩
      · by_cases cx : c = x
        · subst cx
          rw [ePx] at pc
          exact (tw_neU hb uy (tw_nI b20 (tw_lt h uy) pc).symm).elim
        · rw [eP c uc cx] at pc; exact Or.inl ⟨⟨uc, pc⟩, cx⟩
      · rw [ePb] at pc; exact Or.inr ⟨pc, rfl⟩
      · rw [ePl] at pc
        exact (tw_neU hb uy (tw_nI b20 (tw_lt h uy) pc).symm).elim
  · rw [eCb c, eU c]
    constructor
    · rintro (rfl | rfl)
      · exact ⟨Or.inl hx, ePx⟩
      · exact ⟨Or.inr (Or.inr rfl), ePl⟩
    · rintro ⟨uc | rfl | rfl, pc⟩
      · by_cases cx : c = x
        · exact Or.inl cx
        · rw [eP c uc cx] at pc; exact (tw_pnl h uc hb b20 pc).elim
      · rw [ePb] at pc; exact (tw_pnl h hx hb b20 pc).elim
      · exact Or.inr rfl
  · refine ⟨fun z => (eCl c z).elim, fun z => ?_⟩
    obtain ⟨uc, pc⟩ := z
    rcases (eU c).mp uc with uc | rfl | rfl
    · by_cases cx : c = x
      · subst cx
        rw [ePx] at pc
        exact (ebl (tw_nI b20 l20 pc)).elim
      · rw [eP c uc cx] at pc; exact (tw_pnl h uc hl l20 pc).elim
    · rw [ePb] at pc; exact (tw_pnl h hx hl l20 pc).elim
    · rw [ePl] at pc; exact (ebl (tw_nI b20 l20 pc)).elim
end
end
section
section
variable {f_vertexCount f_root f_usedNodes f_newWeight f_wholeChildren f_emptyChildren f_partChildren f_orderLength f_witnessKept : Int32} {a_kind a_parent a_leaves a_children a_weight a_order a_value a_witnessCells a_row : Nat → Int32}
variable {U : Nat → Bool} {r n : Nat} {K P : Nat → Int32} {L C E E' : Nat → Nat → Bool}
theorem xw_attach {post : SX → Prop} {x l : Nat} {w : Int32}
    (B : tw_B (fun v => decide (v < n)) U r K P L E) (A : tw_A U K P) (hC : tw_C U P C)
    (n8 : n < 8) (hw : w = 1 ∨ w = 2) (hx : U x = true) (hl : U l = false) (l20 : l < 20)
    (eU : ∀ y, bt f_usedNodes y = true ↔ U y = true ∨ y = l) (room : cg_cnt (bt f_usedNodes) 20 < 20) (hr : f_root = nI r)
    (eK : ∀ y, U y = true → a_kind y = K y) (eKl : a_kind l = 0)
    (eP : ∀ y, U y = true → a_parent y = P y)
    (eL : ∀ y, U y = true → ∀ v, bt (a_leaves y) v = L y v) (eLl : a_leaves l = ib_1 n)
    (eC : ∀ y, U y = true → ∀ c, bt (a_children y) c = C y c) (eCl : a_children l = 0)
    (eE : ∀ u v, u < n → v < n → E' u v = E u v) (eS : ∀ u, u < n → E' n u = E' u n)
    (N1 : ∀ u, L x u = true → E' u n = decide (w = 2))
    (N2 : ∀ y c d, U y = true → U c = true → U d = true → c ≠ d → P c = nI y → P d = nI y → (∀ u, L x u = true → L d u = true) → ∀ u, L c u = true → E' u n = decide (K y = 2))
    (hq : ∀ q, U q = true → P x = nI q → w ≠ K q)
    (h : ∀ root used kind parent leaves children, cg_T (n + 1) root used kind parent leaves children E' → post (f_vertexCount, root, used, f_newWeight, f_wholeChildren, f_emptyChildren, f_partChildren, f_orderLength, f_witnessKept, kind, parent, leaves, children, a_weight, a_order, a_value, a_witnessCells, a_row)) :
    wpX_attach post (f_vertexCount, f_root, f_usedNodes, f_newWeight, f_wholeChildren, f_emptyChildren, f_partChildren, f_orderLength, f_witnessKept, a_kind, a_parent, a_leaves, a_children, a_weight, a_order, a_value, a_witnessCells, a_row) (nI x) (nI l) w := by
  have lx := tw_lt B hx
  have xl : x ≠ l := tw_neU hl hx
  have w0 : w ≠ 0 := by rcases hw with z | z <;> rw [z] <;> decide
  have hn : (fun v => decide (v < n)) n = false := by simp
  have eE2 : ∀ u v, (fun v => decide (v < n)) u = true → (fun v => decide (v < n)) v = true → E' u v = E u v := fun u v hu hv => eE u v (of_decide_eq_true hu) (of_decide_eq_true hv)
  have eS2 : ∀ u, (fun v => decide (v < n)) u = true → E' n u = E' u n := fun u hu => eS u (of_decide_eq_true hu)
  have eV : ∀ v, (fun v => decide (v < n + 1)) v = true ↔ (fun v => decide (v < n)) v = true ∨ v = n := by
    intro v; simp; omega
  have nU : ∀ {y}, U y = true → y ≠ l := fun hy => tw_neU hl hy
  unfold wpX_attach
  dsimp only
  rw [ib_cl (show x < 256 by omega), ib_cl (show l < 256 by omega), eK x hx]
  refine ⟨ib_in lx (by omega), ?_⟩
  by_cases k : K x = w
  · refine br_t k (xw_adopt lx l20 ?_)
    dsimp only
    rw [pk_un (fun e => xl e.symm), eLl]
    refine ⟨ib_in l20 (by omega), xw_spread B hx lx ?_ ?_ ?_⟩
    · rw [pk_un xl, eP x hx]
    · intro y hy _ _
      rw [pk_un (nU hy), eP y hy]
    · intro a' h1 h2
      dsimp only
      apply h
      have hl' : a' l = ib_1 n := by
        rw [h2 l (fun z => by rw [hl] at z; exact absurd z.1 (by decide)), pk_un (fun e => xl e.symm), eLl]
      refine Or.inr ⟨by omega, by omega, r, hr, ?_, ?_, ?_⟩
      · refine tw_addLeaf B hx (by rw [k]; exact w0) hl l20 n8 hn eV eU eK eKl (fun y hy => by rw [pk_un (nU hy), eP y hy]) (by rw [pk_us]) ?_ ?_ eE2 eS2 (by rw [k]; exact N1) N2
        · intro y hy v
          by_cases yx : y = x
          · subst yx
            rw [h2 y (fun z => z.2.1 rfl), pk_us, tw_bor, eL y hy, tw_b1 (by omega)]
            exact ⟨fun z => z.imp id (fun z => ⟨z, fun _ hu => hu⟩), fun z => z.imp id (fun z => z.1)⟩
          · by_cases an : ∀ u, L x u = true → L y u = true
            · rw [h1 y ⟨hy, yx, an⟩, pk_un yx, tw_bor, eL y hy, tw_b1 (by omega)]
              exact ⟨fun z => z.imp id (fun z => ⟨z, an⟩), fun z => z.imp id (fun z => z.1)⟩
            · rw [h2 y (fun z => an z.2.2), pk_un yx, eL y hy]
              exact ⟨Or.inl, fun z => z.elim id (fun z => (an z.2).elim)⟩
        · intro v
          rw [hl', tw_b1 (by omega)]
      · exact tw_Aleaf B A hx (by rw [k]; exact w0) hl l20 eU eK eKl (fun y hy => by rw [pk_un (nU hy), eP y hy]) (by rw [pk_us])
      · refine tw_Cleaf B hC hx hl l20 eU (fun y hy => by rw [pk_un (nU hy), eP y hy]) (by rw [pk_us]) ?_ ?_
        · intro y hy c
          by_cases yx : y = x
          · subst yx
            rw [pk_us, tw_or1 _ l20, eC y hy]
            exact ⟨fun z => z.imp id (fun z => ⟨rfl, z⟩), fun z => z.imp id (fun z => z.2)⟩
          · rw [pk_un yx, eC y hy]
            exact ⟨Or.inl, fun z => z.elim id (fun z => (yx z.1).elim)⟩
        · intro c
          rw [pk_un (fun e => xl e.symm), eCl]
          exact tw_b0 c
  · obtain ⟨b, b20, hbf, hblow⟩ := tw_free room
    have hbU : U b = false := cg_bF (fun z => by rw [(eU b).mpr (Or.inl z)] at hbf; exact absurd hbf (by decide))
    have bl : b ≠ l := fun z => by rw [(eU b).mpr (Or.inr z)] at hbf; exact absurd hbf (by decide)
    have xb : x ≠ b := tw_neU hbU hx
    have nB : ∀ {y}, U y = true → y ≠ b := fun hy => tw_neU hbU hy
    have wb : vp_nar .byte w.toInt8.toInt32 = w := by rcases hw with z | z <;> rw [z]; exact ib_b1'; exact ib_b2'
    have eU' : ∀ y, bt (f_usedNodes ||| ib_1 b) y = true ↔ U y = true ∨ y = b ∨ y = l := by
      intro y
      rw [tw_or1 _ b20, eU]
      exact ⟨fun z => z.elim (fun z => z.imp id Or.inr) (fun z => Or.inr (Or.inl z)), fun z => z.elim (fun z => Or.inl (Or.inl z)) (fun z => z.elim Or.inr (fun z => Or.inl (Or.inr z)))⟩
    refine br_f k (xw_newNode b20 hbf hblow wb ?_)
    dsimp only
    -- the leaves just ahead of the spread
    have fl : ∀ (a' : Nat → Int32), (∀ y, (U y = true ∧ y ≠ x ∧ ∀ u, L x u = true → L y u = true) → a' y = upd (upd (upd a_leaves b 0) b (0 ||| a_leaves x)) b (0 ||| a_leaves x ||| ib_1 n) y ||| ib_1 n) → (∀ y, ¬ (U y = true ∧ y ≠ x ∧ ∀ u, L x u = true → L y u = true) → a' y = upd (upd (upd a_leaves b 0) b (0 ||| a_leaves x)) b (0 ||| a_leaves x ||| ib_1 n) y) →
        (∀ y, U y = true → y ≠ x → ∀ v, bt (a' y) v = true ↔ L y v = true ∨ (v = n ∧ ∀ u, L x u = true → L y u = true)) ∧ (∀ v, bt (a' x) v = true ↔ L x v = true) ∧ (∀ v, bt (a' b) v = true ↔ L x v = true ∨ v = n) ∧ (∀ v, bt (a' l) v = true ↔ v = n) := by
      intro a' h1 h2
      refine ⟨?_, ?_, ?_, ?_⟩
      · intro y hy yx v
        by_cases an : ∀ u, L x u = true → L y u = true
        · rw [h1 y ⟨hy, yx, an⟩, pk_un (nB hy), pk_un (nB hy), pk_un (nB hy), tw_bor, eL y hy, tw_b1 (by omega)]
          exact ⟨fun z => z.imp id (fun z => ⟨z, an⟩), fun z => z.imp id (fun z => z.1)⟩
        · rw [h2 y (fun z => an z.2.2), pk_un (nB hy), pk_un (nB hy), pk_un (nB hy), eL y hy]
          exact ⟨Or.inl, fun z => z.elim id (fun z => (an z.2).elim)⟩
      · intro v
        rw [h2 x (fun z => z.2.1 rfl), pk_un xb, pk_un xb, pk_un xb, eL x hx]
      · intro v
        rw [h2 b (fun z => by rw [hbU] at z; exact absurd z.1 (by decide)), pk_us, tw_bor, tw_bor, eL x hx, tw_b1 (by omega)]
        exact ⟨fun z => z.elim (fun z => z.elim (fun z => (tw_b0 v z).elim) Or.inl) Or.inr, fun z => z.elim (fun z => Or.inl (Or.inr z)) Or.inr⟩
      · intro v
        rw [h2 l (fun z => by rw [hl] at z; exact absurd z.1 (by decide)), pk_un (fun e => bl e.symm), pk_un (fun e => bl e.symm), pk_un (fun e => bl e.symm), eLl, tw_b1 (by omega)]
    by_cases xr : x = r
    · have px : P x = -1 := by rw [xr]; exact tw_rP B
      refine xw_replace0 lx b20 (by rw [pk_un xb, eP x hx, px]) ?_
      dsimp only
      refine xw_adopt b20 lx ?_
      dsimp only
      refine xw_adopt b20 l20 ?_
      dsimp only
      simp only [pk_us, pk_un (fun e => bl e.symm : l ≠ b), pk_un xb, eLl]
      refine ⟨ib_in l20 (by omega), xw_spread B hx b20 ?_ ?_ ?_⟩
      · rw [pk_un bl, pk_un (fun e => xb e.symm), pk_us, px]
      · intro y hy yx _
        rw [pk_un (nU hy), pk_un yx, pk_un (nB hy), pk_un (nB hy), eP y hy]
      · intro a' h1 h2
        obtain ⟨f1, f2, f3, f4⟩ := fl a' h1 h2
        dsimp only
        apply h
        have g1 : ∀ y, U y = true → upd a_kind b w y = K y := fun y hy => by rw [pk_un (nB hy), eK y hy]
        have g2 : upd a_kind b w l = 0 := by rw [pk_un (fun e => bl e.symm), eKl]
        have g3 : upd a_kind b w b = w := pk_us
        have p1 : ∀ y, U y = true → y ≠ x → upd (upd (upd (upd a_parent b (-1)) b (-1)) x (nI b)) l (nI b) y = P y := fun y hy yx => by rw [pk_un (nU hy), pk_un yx, pk_un (nB hy), pk_un (nB hy), eP y hy]
        have p2 : upd (upd (upd (upd a_parent b (-1)) b (-1)) x (nI b)) l (nI b) l = nI b := pk_us
        have p3 : upd (upd (upd (upd a_parent b (-1)) b (-1)) x (nI b)) l (nI b) x = nI b := by rw [pk_un xl, pk_us]
        have p4 : upd (upd (upd (upd a_parent b (-1)) b (-1)) x (nI b)) l (nI b) b = P x := by rw [pk_un bl, pk_un (fun e => xb e.symm), pk_us, px]
        refine Or.inr ⟨by omega, by omega, b, rfl, ?_, ?_, ?_⟩
        · exact tw_between B hw hx hbU hl b20 l20 bl n8 hn (by rw [if_pos xr]) eV eU' g1 g2 g3 p1 p2 p3 p4 f1 f2 f3 f4 eE2 eS2 N1 N2
        · exact tw_Abet B (fun c y hc hy _ hp => A c y hc hy hp) hw k hq hx hbU hl b20 l20 bl eU' g1 g2 g3 p1 p2 p3 p4
        · refine tw_Cbet B hC hx hbU hl b20 l20 bl eU' p1 p2 p3 p4 ?_ ?_ ?_
          · intro y hy c
            rw [pk_un (nB hy), pk_un (nB hy), pk_un (nB hy), eC y hy, hC y hy]
            constructor
            · intro z
              exact Or.inl ⟨z, fun e => by rw [e] at z; exact tw_pr B hy z.2 xr⟩
            · rintro (z | z)
              · exact z.1
              · exact (tw_pr B hy z.1 xr).elim
          · intro c
            rw [pk_us, tw_or1 _ l20, tw_or1 _ lx]
            exact ⟨fun z => z.elim (fun z => z.elim (fun z => (tw_b0 c z).elim) Or.inl) Or.inr, fun z => z.elim (fun z => Or.inl (Or.inr z)) Or.inr⟩
          · intro c
            rw [pk_un (fun e => bl e.symm), pk_un (fun e => bl e.symm), pk_un (fun e => bl e.symm), eCl]
            exact tw_b0 c
    · obtain ⟨p, hp, px⟩ := tw_par B hx xr
      have lp := tw_lt B hp
      have pb : p ≠ b := nB hp
      have pl : p ≠ l := nU hp
      refine xw_replace1 lx b20 lp (by rw [pk_un xb, eP x hx, px]) ?_
      dsimp only
      refine xw_adopt b20 lx ?_
      dsimp only
      refine xw_adopt b20 l20 ?_
      dsimp only
      simp only [pk_us, pk_un (fun e => bl e.symm : l ≠ b), pk_un xb, pk_un pb, pk_un (fun e => pb e.symm : b ≠ p), eLl]
      refine ⟨ib_in l20 (by omega), xw_spread B hx b20 ?_ ?_ ?_⟩
      · rw [pk_un bl, pk_un (fun e => xb e.symm), pk_us, px]
      · intro y hy yx _
        rw [pk_un (nU hy), pk_un yx, pk_un (nB hy), pk_un (nB hy), eP y hy]
      · intro a' h1 h2
        obtain ⟨f1, f2, f3, f4⟩ := fl a' h1 h2
        dsimp only
        apply h
        have g1 : ∀ y, U y = true → upd a_kind b w y = K y := fun y hy => by rw [pk_un (nB hy), eK y hy]
        have g2 : upd a_kind b w l = 0 := by rw [pk_un (fun e => bl e.symm), eKl]
        have g3 : upd a_kind b w b = w := pk_us
        have p1 : ∀ y, U y = true → y ≠ x → upd (upd (upd (upd a_parent b (-1)) b (nI p)) x (nI b)) l (nI b) y = P y := fun y hy yx => by rw [pk_un (nU hy), pk_un yx, pk_un (nB hy), pk_un (nB hy), eP y hy]
        have p2 : upd (upd (upd (upd a_parent b (-1)) b (nI p)) x (nI b)) l (nI b) l = nI b := pk_us
        have p3 : upd (upd (upd (upd a_parent b (-1)) b (nI p)) x (nI b)) l (nI b) x = nI b := by rw [pk_un xl, pk_us]
        have p4 : upd (upd (upd (upd a_parent b (-1)) b (nI p)) x (nI b)) l (nI b) b = P x := by rw [pk_un bl, pk_un (fun e => xb e.symm), pk_us, px]
        refine Or.inr ⟨by omega, by omega, r, hr, ?_, ?_, ?_⟩
        · exact tw_between B hw hx hbU hl b20 l20 bl n8 hn (by rw [if_neg xr]) eV eU' g1 g2 g3 p1 p2 p3 p4 f1 f2 f3 f4 eE2 eS2 N1 N2
        · exact tw_Abet B (fun c y hc hy _ hp => A c y hc hy hp) hw k hq hx hbU hl b20 l20 bl eU' g1 g2 g3 p1 p2 p3 p4
        · refine tw_Cbet B hC hx hbU hl b20 l20 bl eU' p1 p2 p3 p4 ?_ ?_ ?_
          · intro y hy c
            rw [pk_un (nB hy), pk_un (nB hy)]
            by_cases yp : y = p
            · subst yp
              rw [pk_us, tw_or1 _ b20, tw_an1 _ lx, eC y hy]
              exact ⟨fun z => z.imp id (fun z => ⟨px, z⟩), fun z => z.imp id (fun z => z.2)⟩
            · rw [pk_un yp, pk_un (nB hy), eC y hy, hC y hy]
              constructor
              · intro z
                exact Or.inl ⟨z, fun e => by rw [e] at z; exact yp (tw_pu B hy hp z.2 px)⟩
              · rintro (z | z)
                · exact z.1
                · exact (yp (tw_pu B hy hp z.1 px)).elim
          · intro c
            rw [pk_us, tw_or1 _ l20, tw_or1 _ lx]
            exact ⟨fun z => z.elim (fun z => z.elim (fun z => (tw_b0 c z).elim) Or.inl) Or.inr, fun z => z.elim (fun z => Or.inl (Or.inr z)) Or.inr⟩
          · intro c
            rw [pk_un (fun e => bl e.symm), pk_un (fun e => bl e.symm), pk_un (fun e => pl e.symm), pk_un (fun e => bl e.symm), eCl]
            exact tw_b0 c
end
end
section
section
variable {f_vertexCount f_root f_usedNodes f_newWeight f_wholeChildren f_emptyChildren f_partChildren f_orderLength f_witnessKept : Int32} {a_kind a_parent a_leaves a_children a_weight a_order a_value a_witnessCells a_row : Nat → Int32}
variable {r n : Nat} {E E' : Nat → Nat → Bool}
theorem xw_k3 {k : Int32} (h : k = 1 ∨ k = 2) : (3 - k = 1 ∨ 3 - k = 2) ∧ k ≠ 3 - k ∧ 3 - k ≠ k ∧ decide (3 - k = 2) = !decide (k = 2) ∧ vp_nar .byte k.toInt8.toInt32 = k ∧ vp_nar .byte (3 - k).toInt8.toInt32 = 3 - k ∧ k ≠ 0 := by
  rcases h with z | z <;> subst z
  · exact ⟨by decide, by decide, by decide, by decide, ib_b1', ib_b2', by decide⟩
  · exact ⟨by decide, by decide, by decide, by decide, ib_b2', ib_b1', by decide⟩
/-- the group of several children -/
theorem xw_group {post : SX → Prop} {x l i o : Nat} {g : Int32}
    {used : Int32} {kind parent leaves children : Nat → Int32}
    (B : tw_B (fun v => decide (v < n)) (bt used) r kind parent (fun y => bt (leaves y)) E) (A : tw_A (bt used) kind parent) (hC : tw_C (bt used) parent (fun y => bt (children y)))
    (n8 : n < 8) (hr : f_root = nI r) (hx : bt used x = true)
    (l20 : l < 20) (i20 : i < 20) (o20 : o < 20) (hl : bt used l = false) (hi : bt used i = false) (ho : bt used o = false) (li : l ≠ i) (lo : l ≠ o) (io : i ≠ o)
    (hg : ∀ c, bt g c = true → bt (children x) c = true) (hg1 : ∃ c, bt (children x) c = true ∧ bt g c = false) (hg2 : ∃ c d, c ≠ d ∧ bt g c = true ∧ bt g d = true)
    (eE : ∀ u v, u < n → v < n → E' u v = E u v) (eS : ∀ u, u < n → E' n u = E' u n)
    (NG : ∀ c, bt g c = true → ∀ u, bt (leaves c) u = true → E' u n = !decide (kind x = 2))
    (NO : ∀ c, bt (children x) c = true → bt g c = false → ∀ u, bt (leaves c) u = true → E' u n = decide (kind x = 2))
    (N2 : ∀ y c d, bt used y = true → bt used c = true → bt used d = true → c ≠ d → parent c = nI y → parent d = nI y → (∀ u, bt (leaves x) u = true → bt (leaves d) u = true) → ∀ u, bt (leaves c) u = true → E' u n = decide (kind y = 2))
    (h : ∀ root used kind parent leaves children, cg_T (n + 1) root used kind parent leaves children E' → post (f_vertexCount, root, used, f_newWeight, f_wholeChildren, f_emptyChildren, f_partChildren, f_orderLength, f_witnessKept, kind, parent, leaves, children, a_weight, a_order, a_value, a_witnessCells, a_row))
    (q1 : f_usedNodes = used ||| ib_1 l ||| ib_1 i ||| ib_1 o)
    (q2 : a_kind = upd (upd (upd kind l 0) i (kind x)) o (3 - kind x))
    (q3 : a_parent = upd (upd (upd parent l (-1)) i (-1)) o (-1))
    (q4 : a_leaves = upd (upd (upd leaves l (ib_1 n)) i 0) o 0)
    (q5 : a_children = upd (upd (upd (upd children l 0) i 0) o 0) x (children x &&& (g ^^^ (-1)))) :
    wX_split_84 post (nI x) g (nI l) (nI i) (nI o) 21 (nI 0) f_vertexCount f_root f_usedNodes f_newWeight f_wholeChildren f_emptyChildren f_partChildren f_orderLength f_witnessKept a_kind a_parent a_leaves a_children a_weight a_order a_value a_witnessCells a_row := by
  have lx := tw_lt B hx
  have xl : x ≠ l := tw_neU hl hx
  have xi : x ≠ i := tw_neU hi hx
  have xo : x ≠ o := tw_neU ho hx
  have hG : ∀ c, bt g c = true → bt used c = true ∧ parent c = nI x := fun c hc => (hC x hx c).mp (hg c hc)
  have g20 : ∀ c, bt g c = true → c < 20 := fun c hc => tw_lt B (hG c hc).1
  have kx := (tw_in B hx (hG _ hg2.choose_spec.choose_spec.2.1).1 (hG _ hg2.choose_spec.choose_spec.2.1).2).1
  obtain ⟨w12, kw, wk, w2, kb, wb, k0⟩ := xw_k3 kx
  have nl : ∀ {y}, bt used y = true → y ≠ l := fun hy => tw_neU hl hy
  have ni : ∀ {y}, bt used y = true → y ≠ i := fun hy => tw_neU hi hy
  have no : ∀ {y}, bt used y = true → y ≠ o := fun hy => tw_neU ho hy
  have gi : bt g i = false := cg_bF (fun z => ni (hG i z).1 rfl)
  have gl : bt g l = false := cg_bF (fun z => nl (hG l z).1 rfl)
  have go : bt g o = false := cg_bF (fun z => no (hG o z).1 rfl)
  have gx : bt g x = false := cg_bF (fun z => tw_self B hx hx (hG x z).2 rfl)
  -- what the loop has made of the arrays at its end
  have fin : ∀ p lv ch a' : Nat → Int32,
      (∀ y, p y = if bt g y = true ∧ y < 20 then nI i else a_parent y) → (∀ y, y ≠ i → lv y = a_leaves y) → (∀ v, bt (lv i) v = true ↔ ∃ c, c < 20 ∧ bt g c = true ∧ bt (leaves c) v = true) →
      (∀ y, y ≠ i → ch y = a_children y) → (∀ c, bt (ch i) c = true ↔ c < 20 ∧ bt g c = true) →
      (∀ y, (bt used y = true ∧ y ≠ x ∧ ∀ u, bt (leaves x) u = true → bt (leaves y) u = true) → a' y = leaves y ||| ib_1 n) →
      (∀ y, bt used y = true → y ≠ x → (¬ ∀ u, bt (leaves x) u = true → bt (leaves y) u = true) → a' y = leaves y) →
      a' x = leaves x ||| (lv i ||| ib_1 n) → a' l = ib_1 n → a' i = lv i → a' o = lv i ||| ib_1 n →
      post (f_vertexCount, f_root, f_usedNodes, f_newWeight, f_wholeChildren, f_emptyChildren, f_partChildren, f_orderLength, f_witnessKept, a_kind, upd (upd (upd p i (nI o)) l (nI o)) o (nI x), a', upd (upd (upd ch o (0 ||| ib_1 i)) o (0 ||| ib_1 i ||| ib_1 l)) x ((children x &&& (g ^^^ (-1))) ||| ib_1 o), a_weight, a_order, a_value, a_witnessCells, a_row) := by
    intro p lv ch a' ep el eli ec eci ea1 ea2 eax eal eai eao
    apply h
    obtain ⟨U1, hU1⟩ : ∃ U1 : Nat → Bool, ∀ y, U1 y = (bt used y || decide (y = i)) := ⟨_, fun _ => rfl⟩
    obtain ⟨P1, hP1⟩ : ∃ P1 : Nat → Int32, ∀ y, P1 y = if y = i then nI x else if bt g y = true then nI i else parent y := ⟨_, fun _ => rfl⟩
    obtain ⟨L1, hL1⟩ : ∃ L1 : Nat → Nat → Bool, ∀ y, L1 y = bt (upd leaves i (lv i) y) := ⟨_, fun _ => rfl⟩
    have hgroup : tw_B (fun v => decide (v < n)) U1 r (upd kind i (kind x)) P1 L1 E := by
      refine tw_group (G := bt g) B hx hi i20 hG hg2 ?_ ?_ ?_ pk_us ?_ ?_ (by rw [hP1, if_pos rfl]) ?_ ?_
      · obtain ⟨c, hc, hc'⟩ := hg1
        exact ⟨c, ((hC x hx c).mp hc).1, ((hC x hx c).mp hc).2, hc'⟩
      · intro y; rw [hU1]; simp
      · intro y hy; exact pk_un (ni hy)
      · intro y hy gy
        rw [hP1, if_neg (ni hy), gy, if_neg (by decide)]
      · intro y gy
        rw [hP1, if_neg (ni (hG y gy).1), if_pos gy]
      · intro y hy v
        rw [hL1, pk_un (ni hy)]
      · intro v
        rw [hL1, pk_us, eli]
        exact ⟨fun ⟨c, _, a, b⟩ => ⟨c, a, b⟩, fun ⟨c, a, b⟩ => ⟨c, g20 c a, a, b⟩⟩
    have hUi : U1 i = true := by rw [hU1]; simp
    have hUu : ∀ {y}, bt used y = true → U1 y = true := fun hy => by rw [hU1]; simp [hy]
    have hUc : ∀ {y}, U1 y = true → bt used y = true ∨ y = i := fun hy => by rw [hU1] at hy; simpa using hy
    have hUl : U1 l = false := by rw [hU1]; simp [hl, li]
    have hUo : U1 o = false := by rw [hU1]; simp [ho, Ne.symm io]
    have Pi : P1 i = nI x := by rw [hP1, if_pos rfl]
    have Pg : ∀ {y}, bt g y = true → P1 y = nI i := fun {y} gy => by
      rw [hP1, if_neg (ni (hG y gy).1), if_pos gy]
    have Pn : ∀ {y}, bt used y = true → bt g y = false → P1 y = parent y := fun {y} hy gy => by
      rw [hP1, if_neg (ni hy), gy, if_neg (by decide)]
    have Li : L1 i = bt (lv i) := by rw [hL1, pk_us]
    have Lu : ∀ {y}, bt used y = true → L1 y = bt (leaves y) := fun {y} hy => by rw [hL1, pk_un (ni hy)]
    have ix : ∀ v, bt (lv i) v = true → bt (leaves x) v = true := by
      intro v hv
      obtain ⟨c, _, gc, lc⟩ := (eli v).mp hv
      exact tw_sub B (hG c gc).1 hx (hG c gc).2 lc
    have anc : ∀ y, bt used y = true → ((∀ u, bt (lv i) u = true → bt (leaves y) u = true) ↔ (∀ u, bt (leaves x) u = true → bt (leaves y) u = true)) := by
      intro y hy
      constructor
      · intro hs
        have := tw_up hgroup hUi (hUu hy) (by rw [Li, Lu hy]; exact hs)
        rcases this with e | ⟨q, hq, pq, sq⟩
        · exact (ni hy e.symm).elim
        · rw [Pi] at pq
          have e : q = x := (tw_nI lx (tw_lt hgroup hq) pq).symm
          rw [e, Lu hx, Lu hy] at sq
          exact sq
      · exact fun hs u hu => hs u (ix u hu)
    have eUf : ∀ y, bt f_usedNodes y = true ↔ U1 y = true ∨ y = o ∨ y = l := by
      intro y
      rw [q1, tw_or1 _ o20, tw_or1 _ i20, tw_or1 _ l20, hU1]
      simp only [Bool.or_eq_true, decide_eq_true_eq]
      constructor
      · rintro (((a | a) | a) | a)
        · exact Or.inl (Or.inl a)
        · exact Or.inr (Or.inr a)
        · exact Or.inl (Or.inr a)
        · exact Or.inr (Or.inl a)
      · rintro ((a | a) | a | a)
        · exact Or.inl (Or.inl (Or.inl a))
        · exact Or.inl (Or.inr a)
        · exact Or.inr a
        · exact Or.inl (Or.inl (Or.inr a))
    have eV : ∀ v, (fun v => decide (v < n + 1)) v = true ↔ (fun v => decide (v < n)) v = true ∨ v = n := by
      intro v; simp; omega
    have eK1 : ∀ y, U1 y = true → a_kind y = upd kind i (kind x) y := by
      intro y hy
      rw [q2]
      rcases hUc hy with z | z
      · rw [pk_un (no z), pk_un (ni z), pk_un (nl z), pk_un (ni z)]
      · rw [z, pk_un io, pk_us, pk_us]
    have eKl : a_kind l = 0 := by rw [q2, pk_un lo, pk_un li, pk_us]
    have eKo : a_kind o = 3 - kind x := by rw [q2, pk_us]
    have pU : ∀ y, bt used y = true → p y = P1 y := by
      intro y hy
      rw [ep]
      by_cases gy : bt g y = true
      · rw [if_pos ⟨gy, g20 y gy⟩, Pg gy]
      · rw [if_neg (fun z => gy z.1), Pn hy (cg_bF gy), q3, pk_un (no hy), pk_un (ni hy), pk_un (nl hy)]
    have eP1 : ∀ y, U1 y = true → y ≠ i → upd (upd (upd p i (nI o)) l (nI o)) o (nI x) y = P1 y := by
      intro y hy yi
      rcases hUc hy with z | z
      · rw [pk_un (no z), pk_un (nl z), pk_un yi]
        exact pU y z
      · exact (yi z).elim
    have ePl : upd (upd (upd p i (nI o)) l (nI o)) o (nI x) l = nI o := by rw [pk_un lo, pk_us]
    have ePi : upd (upd (upd p i (nI o)) l (nI o)) o (nI x) i = nI o := by rw [pk_un io, pk_un (Ne.symm li), pk_us]
    have ePo : upd (upd (upd p i (nI o)) l (nI o)) o (nI x) o = P1 i := by rw [pk_us, Pi]
    refine Or.inr ⟨by omega, by omega, r, hr, ?_, ?_, ?_⟩
    · refine tw_between (x := i) (b := o) (l := l) (n := n) (w := 3 - kind x) hgroup w12 hUi hUo hUl o20 l20 (Ne.symm lo) n8 (by simp) ?_ eV eUf eK1 eKl eKo eP1 ePl ePi ePo ?_ ?_ ?_ ?_ ?_ ?_ ?_ ?_
      · rw [if_neg (fun z => ?_)]
        exact tw_pr hgroup (hUu hx) Pi z
      · intro y hy yi v
        rcases hUc hy with z | z
        · show bt (a' y) v = true ↔ L1 y v = true ∨ (v = n ∧ ∀ u, L1 i u = true → L1 y u = true)
          rw [Lu z, Li, anc y z]
          by_cases yx : y = x
          · subst yx
            rw [eax, tw_bor, tw_bor, tw_b1 (by omega)]
            exact ⟨fun q => q.elim Or.inl (fun q => q.elim (fun q => Or.inl (ix v q)) (fun q => Or.inr ⟨q, fun _ hu => hu⟩)), fun q => q.elim Or.inl (fun q => Or.inr (Or.inr q.1))⟩
          · by_cases an : ∀ u, bt (leaves x) u = true → bt (leaves y) u = true
            · rw [ea1 y ⟨z, yx, an⟩, tw_bor, tw_b1 (by omega)]
              exact ⟨fun q => q.imp id (fun q => ⟨q, an⟩), fun q => q.imp id (fun q => q.1)⟩
            · rw [ea2 y z yx an]
              exact ⟨Or.inl, fun q => q.elim id (fun q => (an q.2).elim)⟩
        · exact (yi z).elim
      · intro v
        show bt (a' i) v = true ↔ L1 i v = true
        rw [Li, eai]
      · intro v
        show bt (a' o) v = true ↔ L1 i v = true ∨ v = n
        rw [Li, eao, tw_bor, tw_b1 (by omega)]
      · intro v
        show bt (a' l) v = true ↔ v = n
        rw [eal, tw_b1 (by omega)]
      · exact fun u v hu hv => eE u v (of_decide_eq_true hu) (of_decide_eq_true hv)
      · exact fun u hu => eS u (of_decide_eq_true hu)
      · intro u hu
        have hu' : bt (lv i) u = true := by rw [← Li]; exact hu
        obtain ⟨c, _, gc, lc⟩ := (eli u).mp hu'
        rw [w2]
        exact NG c gc u lc
      · intro y c d hy hc hd e pc pd hs u hu
        have hsi : ∀ u, bt (lv i) u = true → L1 d u = true := by rw [← Li]; exact hs
        -- d holds i
        rcases tw_up hgroup hUi hd hs with z | ⟨q, hq, pq, sq⟩
        · -- d = i, y = x
          have yx : y = x := tw_pu hgroup hy (hUu hx) (by rw [z]; exact pd) Pi
          subst yx
          rcases hUc hc with uc | uc
          · have gc : bt g c = false := cg_bF (fun q => by
              have := tw_pu hgroup hy hUi pc (Pg q)
              exact xi this)
            rw [Pn uc gc] at pc
            rw [Lu uc] at hu
            rw [pk_un (ni hx)]
            exact NO c ((hC y hx c).mpr ⟨uc, pc⟩) gc u hu
          · exact (e (uc.trans z)).elim
        · rw [Pi] at pq
          have qx : q = x := (tw_nI lx (tw_lt hgroup hq) pq).symm
          subst qx
          have di : d ≠ i := by
            intro z
            subst z
            exact tw_np hgroup hq hUi Pi sq
          have ud : bt used d = true := (hUc hd).elim id (fun z => (di z).elim)
          have gd : bt g d = false := cg_bF (fun z => tw_np B hx (hG d z).1 (hG d z).2 (by rw [Lu hx, Lu ud] at sq; exact sq))
          have yi : y ≠ i := by
            intro z
            subst z
            rw [Pn ud gd] at pd
            exact tw_pnl B ud hi i20 pd
          have uy : bt used y = true := (hUc hy).elim id (fun z => (yi z).elim)
          rw [Pn ud gd] at pd
          have ci : c ≠ i := by
            intro z
            subst z
            rw [Pi] at pc
            have yq := tw_nI lx (tw_lt B uy) pc
            subst yq
            exact tw_np B uy ud pd (by rw [Lu hx, Lu ud] at sq; exact sq)
          have uc : bt used c = true := (hUc hc).elim id (fun z => (ci z).elim)
          have gc : bt g c = false := cg_bF (fun z => yi (tw_pu hgroup hy hUi pc (Pg z)))
          rw [Pn uc gc] at pc
          rw [Lu hx, Lu ud] at sq
          rw [Lu uc] at hu
          rw [pk_un yi]
          exact N2 y c d uy uc ud e pc pd sq u hu
    · refine tw_Abet (x := i) (b := o) (l := l) (w := 3 - kind x) hgroup ?_ w12 (by rw [pk_us]; exact kw) ?_ hUi hUo hUl o20 l20 (Ne.symm lo) eUf eK1 eKl eKo eP1 ePl ePi ePo
      · intro c y hc hy ci hp
        have uc : bt used c = true := (hUc hc).elim id (fun z => (ci z).elim)
        rw [pk_un ci]
        by_cases gc : bt g c = true
        · rw [Pg gc] at hp
          have : y = i := (tw_nI i20 (tw_lt hgroup hy) hp).symm
          rw [this, pk_us]
          exact A c x uc hx (hG c gc).2
        · rw [Pn uc (cg_bF gc)] at hp
          have yi : y ≠ i := by
            intro z
            subst z
            exact tw_pnl B uc hi i20 hp
          rw [pk_un yi]
          exact A c y uc ((hUc hy).elim id (fun z => (yi z).elim)) hp
      · intro q hq pq
        rw [Pi] at pq
        have : q = x := (tw_nI lx (tw_lt hgroup hq) pq).symm
        rw [this, pk_un xi]
        exact wk
    · refine tw_Cbet (x := i) (b := o) (l := l) (C := fun y c => decide (U1 c = true ∧ P1 c = nI y)) hgroup (fun y _ c => by rw [decide_eq_true_eq]) hUi hUo hUl o20 l20 (Ne.symm lo) eUf eP1 ePl ePi ePo ?_ ?_ ?_
      · intro y hy c
        rw [decide_eq_true_eq, Pi]
        rcases hUc hy with uy | yi
        · by_cases yx : y = x
          · subst yx
            rw [pk_us, tw_or1 _ o20, tw_anG, hC y hx]
            constructor
            · rintro (⟨⟨uc, pc⟩, gc⟩ | z)
              · exact Or.inl ⟨⟨hUu uc, by rw [Pn uc gc]; exact pc⟩, ni uc⟩
              · exact Or.inr ⟨rfl, z⟩
            · rintro (⟨⟨uc, pc⟩, ci⟩ | ⟨_, z⟩)
              · have uc : bt used c = true := (hUc uc).elim id (fun z => (ci z).elim)
                have gc : bt g c = false := cg_bF (fun q => by
                  rw [Pg q] at pc
                  exact xi (tw_nI i20 lx pc).symm)
                rw [Pn uc gc] at pc
                exact Or.inl ⟨⟨uc, pc⟩, gc⟩
              · exact Or.inr z
          · rw [pk_un yx, pk_un (no uy), pk_un (no uy), ec y (ni uy), q5, pk_un yx, pk_un (no uy), pk_un (ni uy), pk_un (nl uy), hC y uy]
            constructor
            · rintro ⟨uc, pc⟩
              have gc : bt g c = false := cg_bF (fun q => yx (tw_pu B uy hx pc (hG c q).2))
              exact Or.inl ⟨⟨hUu uc, by rw [Pn uc gc]; exact pc⟩, ni uc⟩
            · rintro (⟨⟨uc, pc⟩, ci⟩ | ⟨z, _⟩)
              · have uc : bt used c = true := (hUc uc).elim id (fun z => (ci z).elim)
                have gc : bt g c = false := cg_bF (fun q => by
                  rw [Pg q] at pc
                  exact ni uy (tw_nI i20 (tw_lt B uy) pc).symm)
                rw [Pn uc gc] at pc
                exact ⟨uc, pc⟩
              · exact (yx (tw_nI lx (tw_lt B uy) z).symm).elim
        · subst yi
          rw [pk_un (Ne.symm xi), pk_un io, pk_un io, eci]
          constructor
          · rintro ⟨_, gc⟩
            exact Or.inl ⟨⟨hUu (hG c gc).1, Pg gc⟩, ni (hG c gc).1⟩
          · rintro (⟨⟨uc, pc⟩, ci⟩ | ⟨z, _⟩)
            · have uc : bt used c = true := (hUc uc).elim id (fun z => (ci z).elim)
              by_cases gc : bt g c = true
              · exact ⟨g20 c gc, gc⟩
              · rw [Pn uc (cg_bF gc)] at pc
                exact (tw_pnl B uc hi i20 pc).elim
            · exact (xi (tw_nI lx i20 z)).elim
      · intro c
        rw [pk_un (Ne.symm xo), pk_us, tw_or1 _ l20, tw_or1 _ i20]
        exact ⟨fun z => z.elim (fun z => z.elim (fun z => (tw_b0 c z).elim) Or.inl) Or.inr, fun z => z.elim (fun z => Or.inl (Or.inr z)) Or.inr⟩
      · intro c
        rw [pk_un (Ne.symm xl), pk_un lo, pk_un lo, ec l li, q5, pk_un (Ne.symm xl), pk_un lo, pk_un li, pk_us]
        exact tw_b0 c
  -- the loop
  suffices loop : ∀ d j, j + d = 20 → ∀ p lv ch : Nat → Int32,
      (∀ y, p y = if bt g y = true ∧ y < j then nI i else a_parent y) → (∀ y, y ≠ i → lv y = a_leaves y) → (∀ v, bt (lv i) v = true ↔ ∃ c, c < j ∧ bt g c = true ∧ bt (leaves c) v = true) →
      (∀ y, y ≠ i → ch y = a_children y) → (∀ c, bt (ch i) c = true ↔ c < j ∧ bt g c = true) → ∀ f, d < f →
      wX_split_84 post (nI x) g (nI l) (nI i) (nI o) f (nI j) f_vertexCount f_root f_usedNodes f_newWeight f_wholeChildren f_emptyChildren f_partChildren f_orderLength f_witnessKept a_kind p lv ch a_weight a_order a_value a_witnessCells a_row by
    refine loop 20 0 rfl a_parent a_leaves a_children ?_ (fun _ _ => rfl) ?_ (fun _ _ => rfl) ?_ 21 (by omega)
    · intro y; rw [if_neg (fun z => Nat.not_lt_zero y z.2)]
    · intro v
      rw [q4, pk_un io, pk_us]
      exact ⟨fun z => (tw_b0 v z).elim, fun ⟨c, z, _⟩ => (Nat.not_lt_zero c z).elim⟩
    · intro c
      rw [q5, pk_un (Ne.symm xi), pk_un io, pk_us]
      exact ⟨fun z => (tw_b0 c z).elim, fun z => (Nat.not_lt_zero c z.1).elim⟩
  intro d
  induction d with
  | zero =>
    intro j hj p lv ch ep el eli ec eci f hf
    obtain ⟨m, rfl⟩ : ∃ m, f = m + 1 := ⟨f - 1, by omega⟩
    have : j = 20 := by omega
    subst this
    refine br_t (by decide) (xw_adopt o20 i20 ?_)
    dsimp only
    refine xw_adopt o20 l20 ?_
    dsimp only
    refine xw_adopt lx o20 ?_
    dsimp only
    have v1 : lv o = 0 := by rw [el o (Ne.symm io), q4, pk_us]
    have v2 : lv l = ib_1 n := by rw [el l li, q4, pk_un lo, pk_un li, pk_us]
    have v3 : lv x = leaves x := by rw [el x xi, q4, pk_un xo, pk_un xi, pk_un xl]
    have c1 : ch o = 0 := by rw [ec o (Ne.symm io), q5, pk_un (Ne.symm xo), pk_us]
    have c2 : ch x = children x &&& (g ^^^ (-1)) := by rw [ec x xi, q5, pk_us]
    have vU : ∀ y, bt used y = true → lv y = leaves y := fun y hy => by rw [el y (ni hy), q4, pk_un (no hy), pk_un (ni hy), pk_un (nl hy)]
    rw [ib_cl (show l < 256 by omega)]
    simp only [pk_us, pk_un xo, pk_un lo, pk_un (Ne.symm xl : l ≠ x), v1, v2, v3, c1, c2]
    refine ⟨ib_in l20 (by omega), xw_spread B hx lx ?_ ?_ ?_⟩
    · rw [pk_un xo, pk_un xl, pk_un xi, ep, gx, if_neg (fun z => absurd z.1 (by decide)), q3, pk_un xo, pk_un xi, pk_un xl]
    · intro y hy yx hs
      have gy : bt g y = false := cg_bF (fun z => tw_np B hx (hG y z).1 (hG y z).2 hs)
      rw [pk_un (no hy), pk_un (nl hy), pk_un (ni hy), ep, gy, if_neg (fun z => absurd z.1 (by decide)), q3, pk_un (no hy), pk_un (ni hy), pk_un (nl hy)]
    · intro a' h1 h2
      dsimp only
      have nu : ∀ {y}, bt used y = false → ¬ (bt used y = true ∧ y ≠ x ∧ ∀ u, bt (leaves x) u = true → bt (leaves y) u = true) := fun hy z => by rw [hy] at z; exact absurd z.1 (by decide)
      refine fin p lv ch a' ep el eli ec eci ?_ ?_ ?_ ?_ ?_ ?_
      · intro y hy
        rw [h1 y hy, pk_un hy.2.1, pk_un (no hy.1), pk_un (no hy.1), vU y hy.1]
      · intro y hy yx an
        rw [h2 y (fun z => an z.2.2), pk_un yx, pk_un (no hy), pk_un (no hy), vU y hy]
      · rw [h2 x (fun z => z.2.1 rfl), pk_us]
        congr 2
        apply b_ext; intro k _; rw [b_or, b_0]; simp
      · rw [h2 l (nu hl), pk_un (Ne.symm xl), pk_un lo, pk_un lo, v2]
      · rw [h2 i (nu hi), pk_un (Ne.symm xi), pk_un io, pk_un io]
      · rw [h2 o (nu ho), pk_un (Ne.symm xo), pk_us]
        congr 1
        apply b_ext; intro k _; rw [b_or, b_0]; simp
  | succ d ih =>
    intro j hj p lv ch ep el eli ec eci f hf
    obtain ⟨m, rfl⟩ : ∃ m, f = m + 1 := ⟨f - 1, by omega⟩
    refine br_f (ib_20 (by omega)) ?_
    by_cases gj : bt g j = true
    · have ji : j ≠ i := ni (hG j gj).1
      refine br_f (fun z => by rw [(ib_bit _ (by omega)).mp z] at gj; exact absurd gj (by decide)) (xw_adopt i20 (show j < 20 by omega) ?_)
      dsimp only
      refine nm_r (nI_1 j) (ih (j + 1) (by omega) _ _ _ ?_ ?_ ?_ ?_ ?_ m (by omega))
      · intro y
        by_cases yj : y = j
        · subst yj
          rw [pk_us, if_pos ⟨gj, by omega⟩]
        · rw [pk_un yj, ep]
          by_cases z : bt g y = true ∧ y < j
          · rw [if_pos z, if_pos ⟨z.1, by omega⟩]
          · rw [if_neg z, if_neg (fun q => z ⟨q.1, by omega⟩)]
      · intro y yi
        rw [pk_un yi, el y yi]
      · intro v
        rw [pk_us, tw_bor, eli]
        have : lv j = leaves j := by
          have hj := (hG j gj).1
          rw [el j ji, q4, pk_un (no hj), pk_un (ni hj), pk_un (nl hj)]
        rw [this]
        constructor
        · rintro (⟨c, a, b, e⟩ | z)
          · exact ⟨c, by omega, b, e⟩
          · exact ⟨j, by omega, gj, z⟩
        · rintro ⟨c, a, b, e⟩
          by_cases cj : c = j
          · subst cj; exact Or.inr e
          · exact Or.inl ⟨c, by omega, b, e⟩
      · intro y yi
        rw [pk_un yi, ec y yi]
      · intro c
        rw [pk_us, tw_or1 _ (by omega), eci]
        constructor
        · rintro (⟨a, b⟩ | z)
          · exact ⟨by omega, b⟩
          · subst z; exact ⟨by omega, gj⟩
        · rintro ⟨a, b⟩
          by_cases cj : c = j
          · exact Or.inr cj
          · exact Or.inl ⟨by omega, b⟩
    · have key : ∀ c, (c < j + 1 ∧ bt g c = true) ↔ (c < j ∧ bt g c = true) := by
        intro c
        constructor
        · rintro ⟨a, b⟩
          refine ⟨?_, b⟩
          have : c ≠ j := fun z => gj (by rw [← z]; exact b)
          omega
        · rintro ⟨a, b⟩
          exact ⟨by omega, b⟩
      refine br_t ((ib_bit _ (by omega)).mpr (cg_bF gj)) (nm_r (nI_1 j) (ih (j + 1) (by omega) p lv ch ?_ el ?_ ec ?_ m (by omega)))
      · intro y
        rw [ep]
        by_cases z : bt g y = true ∧ y < j
        · rw [if_pos z, if_pos ⟨z.1, by omega⟩]
        · rw [if_neg z, if_neg (fun q => z ⟨q.1, ((key y).mp ⟨q.2, q.1⟩).1⟩)]
      · intro v
        rw [eli]
        constructor
        · rintro ⟨c, a, b, e⟩
          exact ⟨c, by omega, b, e⟩
        · rintro ⟨c, a, b, e⟩
          exact ⟨c, ((key c).mp ⟨a, b⟩).1, b, e⟩
      · intro c
        rw [eci, key]
end
end
section
section
variable {f_vertexCount f_root f_usedNodes f_newWeight f_wholeChildren f_emptyChildren f_partChildren f_orderLength f_witnessKept : Int32} {a_kind a_parent a_leaves a_children a_weight a_order a_value a_witnessCells a_row : Nat → Int32}
variable {r n : Nat} {E E' : Nat → Nat → Bool}
theorem xw_split {post : SX → Prop} {x : Nat} {g : Int32}
    (B : tw_B (fun v => decide (v < n)) (bt f_usedNodes) r a_kind a_parent (fun y => bt (a_leaves y)) E) (A : tw_A (bt f_usedNodes) a_kind a_parent) (hC : tw_C (bt f_usedNodes) a_parent (fun y => bt (a_children y)))
    (n8 : n < 8) (hn : f_vertexCount = nI n) (hr : f_root = nI r) (hx : bt f_usedNodes x = true)
    (hg : ∀ c, bt g c = true → bt (a_children x) c = true) (hg0 : ∃ c, bt g c = true) (hg1 : ∃ c, bt (a_children x) c = true ∧ bt g c = false)
    (eE : ∀ u v, u < n → v < n → E' u v = E u v) (eS : ∀ u, u < n → E' n u = E' u n)
    (NG : ∀ c, bt g c = true → ∀ u, bt (a_leaves c) u = true → E' u n = !decide (a_kind x = 2))
    (NO : ∀ c, bt (a_children x) c = true → bt g c = false → ∀ u, bt (a_leaves c) u = true → E' u n = decide (a_kind x = 2))
    (N2 : ∀ y c d, bt f_usedNodes y = true → bt f_usedNodes c = true → bt f_usedNodes d = true → c ≠ d → a_parent c = nI y → a_parent d = nI y → (∀ u, bt (a_leaves x) u = true → bt (a_leaves d) u = true) → ∀ u, bt (a_leaves c) u = true → E' u n = decide (a_kind y = 2))
    (h : ∀ root used kind parent leaves children, cg_T (n + 1) root used kind parent leaves children E' → post (f_vertexCount, root, used, f_newWeight, f_wholeChildren, f_emptyChildren, f_partChildren, f_orderLength, f_witnessKept, kind, parent, leaves, children, a_weight, a_order, a_value, a_witnessCells, a_row)) :
    wpX_split post (f_vertexCount, f_root, f_usedNodes, f_newWeight, f_wholeChildren, f_emptyChildren, f_partChildren, f_orderLength, f_witnessKept, a_kind, a_parent, a_leaves, a_children, a_weight, a_order, a_value, a_witnessCells, a_row) (nI x) g := by
  have lx := tw_lt B hx
  have cnt := tw_count B
  have hG : ∀ c, bt g c = true → bt f_usedNodes c = true ∧ a_parent c = nI x := fun c hc => (hC x hx c).mp (hg c hc)
  obtain ⟨c0, gc0⟩ := hg0
  have kx := (tw_in B hx (hG c0 gc0).1 (hG c0 gc0).2).1
  obtain ⟨w12, kw, wk, w2, kb, wb, k0⟩ := xw_k3 kx
  obtain ⟨l, l20, hl, hlow⟩ := tw_free (U := bt f_usedNodes) (by omega)
  have xl : x ≠ l := tw_neU hl hx
  have nl : ∀ {y}, bt f_usedNodes y = true → y ≠ l := fun hy => tw_neU hl hy
  subst hn
  unfold wpX_split
  dsimp only
  refine xw_newNode l20 hl hlow ib_b0' ?_
  dsimp only
  rw [ib_cl (show x < 256 by omega), pk_un xl]
  refine ⟨ib_in lx (by omega), nm_e ?_⟩
  have cnt1 := tw_cntor f_usedNodes l20
  by_cases one : (g &&& (g - 1)) = 0
  · refine br_t one ?_
    have ho := (ib_one1 g).mp one
    have cU := (hG c0 gc0).1
    have cP := (hG c0 gc0).2
    refine xw_lowestBit (show c0 < 31 by have := tw_lt B cU; omega) gc0 (fun j hj => cg_bF (fun z => by have := ho j c0 z gc0; omega)) ?_
    refine xw_attach B A hC n8 w12 cU hl l20 (fun y => tw_or1 _ l20 y) (by omega) hr (fun y hy => pk_un (nl hy)) pk_us (fun y hy => pk_un (nl hy)) (fun y hy v => by rw [pk_un (nl hy)]) pk_us (fun y hy v => by rw [pk_un (nl hy)]) pk_us eE eS ?_ ?_ ?_ h
    · intro u hu
      rw [w2]
      exact NG c0 gc0 u hu
    · intro y c d hy hc hd e pc pd hs u hu
      rcases tw_up B cU hd hs with z | ⟨q, hq, pq, sq⟩
      · subst z
        have yx : y = x := tw_pu B hy hx pd cP
        subst yx
        exact NO c ((hC y hx c).mpr ⟨hc, pc⟩) (cg_bF (fun z => e (ho c c0 z gc0))) u hu
      · have qx : q = x := tw_pu B hq hx pq cP
        subst qx
        exact N2 y c d hy hc hd e pc pd sq u hu
    · intro q hq pq
      rw [tw_pu B hq hx pq cP]
      exact wk
  · refine br_f one ⟨ib_in lx (by omega), ?_⟩
    have h2 : ∃ c d, c ≠ d ∧ bt g c = true ∧ bt g d = true := by
      refine Classical.byContradiction fun z => one ((ib_one1 g).mpr fun i j hi hj => ?_)
      exact Classical.byContradiction fun q => z ⟨i, j, q, hi, hj⟩
    obtain ⟨i, i20, hi, ilow⟩ := tw_free (U := bt (f_usedNodes ||| ib_1 l)) (by omega)
    have cnt2 := tw_cntor (f_usedNodes ||| ib_1 l) i20
    obtain ⟨o, o20, ho, olow⟩ := tw_free (U := bt (f_usedNodes ||| ib_1 l ||| ib_1 i)) (by omega)
    have hi' := (tw_or0 _ l20).mp hi
    have ho' := (tw_or0 _ i20).mp ho
    have ho'' := (tw_or0 _ l20).mp ho'.1
    have xi : x ≠ i := tw_neU hi'.1 hx
    have xo : x ≠ o := tw_neU ho''.1 hx
    refine xw_newNode i20 hi ilow kb ?_
    dsimp only
    refine xw_newNode o20 ho olow wb ?_
    dsimp only
    rw [pk_un xo, pk_un xi, pk_un xl]
    refine ⟨ib_in lx (by omega), ib_in lx (by omega), nm_e ⟨21, ?_⟩⟩
    exact xw_group B A hC n8 hr hx l20 i20 o20 hl hi'.1 ho''.1 (Ne.symm hi'.2) (Ne.symm ho''.2) (Ne.symm ho'.2) hg hg1 h2 eE eS NG NO N2 h rfl rfl rfl rfl rfl
/-- the children sorted -/
theorem xw_sortChildren {post : SX → Prop} {x : Nat} {N : Int32} (hx : x < 20)
    (h : ∀ w e p : Int32, (∀ c, bt w c = true ↔ c < 20 ∧ bt (a_children x) c = true ∧ ¬ (N &&& a_leaves c) = 0 ∧ (N &&& a_leaves c) = a_leaves c) →
      (∀ c, bt e c = true ↔ c < 20 ∧ bt (a_children x) c = true ∧ (N &&& a_leaves c) = 0) →
      (∀ c, bt p c = true ↔ c < 20 ∧ bt (a_children x) c = true ∧ ¬ (N &&& a_leaves c) = 0 ∧ ¬ (N &&& a_leaves c) = a_leaves c) →
      post (f_vertexCount, f_root, f_usedNodes, f_newWeight, w, e, p, f_orderLength, f_witnessKept, a_kind, a_parent, a_leaves, a_children, a_weight, a_order, a_value, a_witnessCells, a_row)) : wpX_sortChildren post (f_vertexCount, f_root, f_usedNodes, f_newWeight, f_wholeChildren, f_emptyChildren, f_partChildren, f_orderLength, f_witnessKept, a_kind, a_parent, a_leaves, a_children, a_weight, a_order, a_value, a_witnessCells, a_row) (nI x) N := by
  have ix : vp_in (nI x) 20 := ib_in hx (by omega)
  suffices loop : ∀ d j, j + d = 20 → ∀ w e p : Int32, (∀ c, bt w c = true ↔ c < j ∧ bt (a_children x) c = true ∧ ¬ (N &&& a_leaves c) = 0 ∧ (N &&& a_leaves c) = a_leaves c) →
      (∀ c, bt e c = true ↔ c < j ∧ bt (a_children x) c = true ∧ (N &&& a_leaves c) = 0) →
      (∀ c, bt p c = true ↔ c < j ∧ bt (a_children x) c = true ∧ ¬ (N &&& a_leaves c) = 0 ∧ ¬ (N &&& a_leaves c) = a_leaves c) → ∀ f, d < f →
      wX_sortChildren_17 post (nI x) N f_vertexCount f_root f_usedNodes f_newWeight f_orderLength f_witnessKept a_kind a_parent a_leaves a_children a_weight a_order a_value a_witnessCells a_row f (nI j) w e p by
    refine ⟨21, loop 20 0 rfl 0 0 0 ?_ ?_ ?_ 21 (by omega)⟩ <;>
    · intro c
      exact ⟨fun z => (tw_b0 c z).elim, fun z => (Nat.not_lt_zero c z.1).elim⟩
  intro d
  induction d with
  | zero =>
    intro j hj w e p h1 h2 h3 f hf
    obtain ⟨m, rfl⟩ : ∃ m, f = m + 1 := ⟨f - 1, by omega⟩
    have : j = 20 := by omega
    subst this
    exact br_t (by decide) (h w e p h1 h2 h3)
  | succ d ih =>
    intro j hj w e p h1 h2 h3 f hf
    obtain ⟨m, rfl⟩ : ∃ m, f = m + 1 := ⟨f - 1, by omega⟩
    have ij : vp_in (nI j) 20 := ib_in (show j < 20 by omega) (by omega)
    -- one more child, of which Q holds or not
    have ext : ∀ (m : Int32) (Q : Nat → Prop), (∀ c, bt m c = true ↔ c < j ∧ Q c) → ¬ Q j → ∀ c, bt m c = true ↔ c < j + 1 ∧ Q c := by
      intro m Q hm hQ c
      rw [hm]
      constructor
      · exact fun z => ⟨by omega, z.2⟩
      · intro z
        have : c ≠ j := fun q => hQ (by rw [← q]; exact z.2)
        exact ⟨by omega, z.2⟩
    have add : ∀ (m : Int32) (Q : Nat → Prop), (∀ c, bt m c = true ↔ c < j ∧ Q c) → Q j → ∀ c, bt (m ||| ib_1 j) c = true ↔ c < j + 1 ∧ Q c := by
      intro m Q hm hQ c
      rw [tw_or1 _ (by omega), hm]
      constructor
      · rintro (z | z)
        · exact ⟨by omega, z.2⟩
        · subst z; exact ⟨by omega, hQ⟩
      · intro z
        by_cases q : c = j
        · exact Or.inr q
        · exact Or.inl ⟨by omega, z.2⟩
    refine br_f (ib_20 (by omega)) ⟨ix, ?_⟩
    rw [ib_cl (show x < 256 by omega), ib_cl (show j < 256 by omega)]
    by_cases cj : bt (a_children x) j = true
    · refine br_f (fun z => by rw [(ib_bit _ (by omega)).mp z] at cj; exact absurd cj (by decide)) ⟨ij, nm_e ?_⟩
      by_cases s0 : (N &&& a_leaves j) = 0
      · refine br_t s0 (nm_e (nm_r (nI_1 j) (ih (j + 1) (by omega) w (e ||| ib_1 j) p ?_ ?_ ?_ m (by omega))))
        · exact ext w _ h1 (fun z => z.2.1 s0)
        · exact add e _ h2 ⟨cj, s0⟩
        · exact ext p _ h3 (fun z => z.2.1 s0)
      · refine br_f s0 ⟨ij, ?_⟩
        by_cases s1 : (N &&& a_leaves j) = a_leaves j
        · refine br_t s1 (nm_e (nm_r (nI_1 j) (ih (j + 1) (by omega) (w ||| ib_1 j) e p ?_ ?_ ?_ m (by omega))))
          · exact add w _ h1 ⟨cj, s0, s1⟩
          · exact ext e _ h2 (fun z => s0 z.2)
          · exact ext p _ h3 (fun z => z.2.2 s1)
        · refine br_f s1 (nm_e (nm_r (nI_1 j) (ih (j + 1) (by omega) w e (p ||| ib_1 j) ?_ ?_ ?_ m (by omega))))
          · exact ext w _ h1 (fun z => s1 z.2.2)
          · exact ext e _ h2 (fun z => s0 z.2)
          · exact add p _ h3 ⟨cj, s0, s1⟩
    · refine br_t ((ib_bit _ (by omega)).mpr (cg_bF cj)) (nm_r (nI_1 j) (ih (j + 1) (by omega) w e p ?_ ?_ ?_ m (by omega)))
      · exact ext w _ h1 (fun z => cj z.1)
      · exact ext e _ h2 (fun z => cj z.1)
      · exact ext p _ h3 (fun z => cj z.1)
end
/-- a four-path among the vertices up to n -/
def cg_P4 (n : Nat) (E : Nat → Nat → Bool) : Prop := ∃ a b c d, a ≤ n ∧ b ≤ n ∧ c ≤ n ∧ d ≤ n ∧ E a b = true ∧ E b c = true ∧ E c d = true ∧ E a c = false ∧ E a d = false ∧ E b d = false
section
variable {U : Nat → Bool} {r n : Nat} {K P : Nat → Int32} {L E E' : Nat → Nat → Bool}
/-- a partly seen child of x and, beside it, a vertex seen against x's kind -/
theorem tw_refuse (B : tw_B (fun v => decide (v < n)) U r K P L E) (A : tw_A U K P)
    (eE : ∀ u v, u < n → v < n → E' u v = E u v) (eS : ∀ u, u < n → E' n u = E' u n) (sy : ∀ u v, u < n → v < n → E u v = E v u)
    {x c q : Nat} (hx : U x = true) (hc : U c = true) (pc : P c = nI x) {a b : Nat} (la : L c a = true) (ha : E' a n = true) (lb : L c b = true) (hb : E' b n = false)
    {d : Nat} (hd : U d = true) (pd : P d = nI x) (e : c ≠ d) (lq : L d q = true) (hq : E' q n = !decide (K x = 2)) : cg_P4 n E' := by
  have lt : ∀ {y v}, U y = true → L y v = true → v < n := fun hy hv => of_decide_eq_true (tw_LV B hy hv)
  have kc : K c ≠ 0 := by
    intro k0
    have := (tw_leaf B hc k0 la).2 b
    rw [this.mp lb, ha] at hb
    exact absurd hb (by decide)
  obtain ⟨u, v, lu, lv, au, av, uv⟩ := tw_cut B hc kc (A := fun w => E' w n) la ha lb hb
  have un := lt hc lu
  have vn := lt hc lv
  have qn := lt hd lq
  have E1 := tw_adj B hc hd e hx pc pd lu lq
  have E2 := tw_adj B hc hd e hx pc pd lv lq
  have kne := A c x hc hx pc
  have kc12 := (tw_inn B hc kc).1
  have kx12 := (tw_in B hx hc pc).1
  have au : E' u n = true := au
  have av : E' v n = false := av
  rcases kx12 with kx | kx
  · -- x a union, c a join: v - u - n - q
    have k2 : K c = 2 := by rcases kc12 with z | z; · exact (kne (z.trans kx.symm)).elim
                            · exact z
    rw [k2] at uv
    rw [kx] at E1 E2 hq
    refine ⟨v, u, n, q, by omega, by omega, by omega, by omega, ?_, au, ?_, av, ?_, ?_⟩
    · rw [eE v u vn un, sy v u vn un]; exact uv
    · rw [eS q qn]; exact hq
    · rw [eE v q vn qn]; exact E2
    · rw [eE u q un qn]; exact E1
  · -- x a join, c a union: n - u - q - v
    have k1 : K c = 1 := by rcases kc12 with z | z; · exact z
                            · exact (kne (z.trans kx.symm)).elim
    rw [k1] at uv
    rw [kx] at E1 E2 hq
    refine ⟨n, u, q, v, by omega, by omega, by omega, by omega, ?_, ?_, ?_, ?_, ?_, ?_⟩
    · rw [eS u un]; exact au
    · rw [eE u q un qn]; exact E1
    · rw [eE q v qn vn, sy q v qn vn]; exact E2
    · rw [eS q qn]; exact hq
    · rw [eS v vn]; exact av
    · rw [eE u v un vn]; exact uv
end
end
section
section
variable {f_vertexCount f_root f_usedNodes f_newWeight f_wholeChildren f_emptyChildren f_partChildren f_orderLength f_witnessKept : Int32} {a_kind a_parent a_leaves a_children a_weight a_order a_value a_witnessCells a_row : Nat → Int32}
variable {r n : Nat} {E E' : Nat → Nat → Bool}
theorem xw_insert_26 {post : Int32 → SX → Prop} {N : Int32}
    (B : tw_B (fun v => decide (v < n)) (bt f_usedNodes) r a_kind a_parent (fun y => bt (a_leaves y)) E) (A : tw_A (bt f_usedNodes) a_kind a_parent) (hC : tw_C (bt f_usedNodes) a_parent (fun y => bt (a_children y)))
    (n8 : n < 8) (hn : f_vertexCount = nI n) (hr : f_root = nI r)
    (eE : ∀ u v, u < n → v < n → E' u v = E u v) (eS : ∀ u, u < n → E' n u = E' u n) (sy : ∀ u v, u < n → v < n → E u v = E v u) (hN : ∀ u, u < n → E' u n = bt N u)
    (h0 : ∀ w e p, cg_P4 n E' → post 0 (f_vertexCount, f_root, f_usedNodes, f_newWeight, w, e, p, f_orderLength, f_witnessKept, a_kind, a_parent, a_leaves, a_children, a_weight, a_order, a_value, a_witnessCells, a_row))
    (h1 : ∀ w e p root used kind parent leaves children, cg_T (n + 1) root used kind parent leaves children E' → post 1 (f_vertexCount, root, used, f_newWeight, w, e, p, f_orderLength, f_witnessKept, kind, parent, leaves, children, a_weight, a_order, a_value, a_witnessCells, a_row)) :
    ∀ m x, cg_cnt (bt (a_leaves x)) 8 ≤ m → bt f_usedNodes x = true →
      (∀ y c d, bt f_usedNodes y = true → bt f_usedNodes c = true → bt f_usedNodes d = true → c ≠ d → a_parent c = nI y → a_parent d = nI y → (∀ u, bt (a_leaves x) u = true → bt (a_leaves d) u = true) → ∀ u, bt (a_leaves c) u = true → E' u n = decide (a_kind y = 2)) →
      (x = r ∨ ((∃ a, bt (a_leaves x) a = true ∧ bt N a = true) ∧ ∃ b, bt (a_leaves x) b = true ∧ bt N b = false)) →
      ∀ (i : Nat) (w e p : Int32), i + m ≤ 20 → ∀ f, m < f → wX_insert_26 post N f (nI x) (nI i) f_vertexCount f_root f_usedNodes f_newWeight w e p f_orderLength f_witnessKept a_kind a_parent a_leaves a_children a_weight a_order a_value a_witnessCells a_row := by
  subst hn
  have lt : ∀ {y v}, bt f_usedNodes y = true → bt (a_leaves y) v = true → v < n := fun hy hv => of_decide_eq_true (tw_LV B hy hv)
  have seen0 : ∀ {y}, (N &&& a_leaves y) = 0 ↔ ∀ u, bt (a_leaves y) u = true → bt N u = false := by
    intro y
    rw [ib_zero]
    constructor
    · intro z u hu
      have := z u
      rw [b_and, hu, Bool.and_true] at this
      exact this
    · intro z u
      rw [b_and]
      cases q : bt (a_leaves y) u
      · simp
      · rw [z u q]; rfl
  have seen1 : ∀ {y}, (N &&& a_leaves y) = a_leaves y ↔ ∀ u, bt (a_leaves y) u = true → bt N u = true := by
    intro y
    rw [ib_eq]
    constructor
    · intro z u hu
      have := z u
      rw [b_and, hu, Bool.and_true] at this
      exact this
    · intro z u
      rw [b_and]
      cases q : bt (a_leaves y) u
      · simp
      · rw [z u q]; rfl
  have notall : ∀ {y} {b : Bool}, (¬ ∀ u, bt (a_leaves y) u = true → bt N u = b) → ∃ u, bt (a_leaves y) u = true ∧ bt N u = !b := by
    intro y b z
    refine Classical.byContradiction fun q => z fun u hu => ?_
    refine Classical.byContradiction fun t => q ⟨u, hu, ?_⟩
    revert t; cases bt N u <;> cases b <;> simp
  intro m
  induction m with
  | zero =>
    intro x hm hx
    obtain ⟨v, hv⟩ := tw_ne B hx
    have := cg_cnt_pos (A := bt (a_leaves x)) (tw_L8 B hx hv) hv
    omega
  | succ m ih =>
    intro x hm hx N2 hpart i w e p him f hf
    obtain ⟨f, rfl⟩ : ∃ k, f = k + 1 := ⟨f - 1, by omega⟩
    have lx := tw_lt B hx
    have ix : vp_in (nI x) 20 := ib_in lx (by omega)
    have cnt := tw_count B
    refine br_f (ib_20 (by omega)) ⟨ix, nm_e ?_⟩
    rw [ib_cl (show x < 256 by omega)]
    -- at the root, seen whole or not at all
    have all : ∀ (k : Int32), (k = 1 ∨ k = 2) → (∀ u, bt (a_leaves x) u = true → E' u n = decide (k = 2)) → x = r →
        ∀ l, l < 20 → bt f_usedNodes l = false → wX_insert_85 post k (nI l) (nI x) (nI n) f_root (f_usedNodes ||| ib_1 l) f_newWeight w e p f_orderLength f_witnessKept (upd a_kind l 0) (upd a_parent l (-1)) (upd a_leaves l (ib_1 n)) (upd a_children l 0) a_weight a_order a_value a_witnessCells a_row := by
      intro k k12 N1 xr l l20 hl
      have nl : ∀ {y}, bt f_usedNodes y = true → y ≠ l := fun hy => tw_neU hl hy
      have cnt1 := tw_cntor f_usedNodes l20
      unfold wX_insert_85
      refine xw_attach B A hC n8 k12 hx hl l20 (fun y => tw_or1 _ l20 y) (by omega) hr (fun y hy => pk_un (nl hy)) pk_us (fun y hy => pk_un (nl hy)) (fun y hy v => by rw [pk_un (nl hy)]) pk_us (fun y hy v => by rw [pk_un (nl hy)]) pk_us eE eS N1 N2 (fun q hq pq => (tw_pr B hq pq xr).elim) ?_
      intro root used kind parent leaves children T
      exact h1 w e p root used kind parent leaves children T
    by_cases s0 : (N &&& a_leaves x) = 0
    · have z := seen0.mp s0
      have xr : x = r := by
        rcases hpart with q | ⟨⟨a, la, na⟩, _⟩
        · exact q
        · rw [z a la] at na; exact absurd na (by decide)
      refine br_t s0 ?_
      unfold wX_insert_58
      obtain ⟨l, l20, hl, hlow⟩ := tw_free (U := bt f_usedNodes) (by omega)
      refine xw_newNode l20 hl hlow ib_b0' ?_
      dsimp only
      exact br_t s0 (all 1 (Or.inl rfl) (fun u hu => by rw [hN u (lt hx hu), z u hu]; decide) xr l l20 hl)
    · refine br_f s0 ⟨ix, ?_⟩
      by_cases s1 : (N &&& a_leaves x) = a_leaves x
      · have z := seen1.mp s1
        have xr : x = r := by
          rcases hpart with q | ⟨_, ⟨a, la, na⟩⟩
          · exact q
          · rw [z a la] at na; exact absurd na (by decide)
        refine br_t s1 ?_
        unfold wX_insert_58
        obtain ⟨l, l20, hl, hlow⟩ := tw_free (U := bt f_usedNodes) (by omega)
        refine xw_newNode l20 hl hlow ib_b0' ?_
        dsimp only
        exact br_f s0 (all 2 (Or.inr rfl) (fun u hu => by rw [hN u (lt hx hu), z u hu]; decide) xr l l20 hl)
      · refine br_f s1 ?_
        obtain ⟨a, la, na⟩ := notall (fun z => s0 (seen0.mpr z))
        obtain ⟨b, lb, nb⟩ := notall (fun z => s1 (seen1.mpr z))
        have na : bt N a = true := na
        have nb : bt N b = false := nb
        have kx : a_kind x ≠ 0 := by
          intro k0
          have := (tw_leaf B hx k0 la).2 b
          rw [this.mp lb, na] at nb
          exact absurd nb (by decide)
        obtain ⟨k12, cov, _⟩ := tw_inn B hx kx
        refine xw_sortChildren lx ?_
        intro w' e' p' hw he hp
        -- the children by what they hold
        have chU : ∀ {c}, bt (a_children x) c = true → bt f_usedNodes c = true ∧ a_parent c = nI x := fun hc => (hC x hx _).mp hc
        have ch20 : ∀ {c}, bt (a_children x) c = true → c < 20 := fun hc => tw_lt B (chU hc).1
        have ne0 : ∀ {c}, bt (a_children x) c = true → (∀ u, bt (a_leaves c) u = true → bt N u = true) → ¬ (N &&& a_leaves c) = 0 := by
          intro c hc z q
          obtain ⟨v, hv⟩ := tw_ne B (chU hc).1
          have h1 := z v hv
          rw [seen0.mp q v hv] at h1
          exact absurd h1 (by decide)
        -- the rest, for the mask g of the children seen against x's kind
        have rest : ∀ g : Int32, (∀ c, bt g c = true ↔ bt (a_children x) c = true ∧ ∀ u, bt (a_leaves c) u = true → E' u n = !decide (a_kind x = 2)) →
            (∀ c, bt (a_children x) c = true → bt g c = false → bt p' c = false → ∀ u, bt (a_leaves c) u = true → E' u n = decide (a_kind x = 2)) →
            (p' = 0 → wX_insert_126 post g (nI x) (nI n) f_root f_usedNodes f_newWeight w' e' p' f_orderLength f_witnessKept a_kind a_parent a_leaves a_children a_weight a_order a_value a_witnessCells a_row) ∧
            (¬ p' = 0 → wX_insert_152 post (wX_insert_26 post N f) N (nI i) g (nI n) f_root f_usedNodes f_newWeight w' e' p' f_orderLength f_witnessKept a_kind a_parent a_leaves a_children a_weight a_order a_value a_witnessCells a_row) := by
          intro g hg hgo
          constructor
          · intro p0
            have p0' : ∀ c, bt p' c = false := fun c => by rw [p0]; exact b_0 c
            unfold wX_insert_126
            refine xw_split B A hC n8 rfl hr hx (fun c hc => ((hg c).mp hc).1) ?_ ?_ eE eS (fun c hc => ((hg c).mp hc).2) (fun c hc gc => hgo c hc gc (p0' c)) N2 ?_
            · -- someone is against
              refine Classical.byContradiction fun z => ?_
              have z' : ∀ c, bt g c = false := fun c => cg_bF (fun q => z ⟨c, q⟩)
              obtain ⟨c, uc, pc, lc⟩ := cov a la
              obtain ⟨d, ud, pd, ld⟩ := cov b lb
              have h2 := hgo c ((hC x hx c).mpr ⟨uc, pc⟩) (z' c) (p0' c) a lc
              have h3 := hgo d ((hC x hx d).mpr ⟨ud, pd⟩) (z' d) (p0' d) b ld
              rw [hN a (lt hx la), na] at h2
              rw [hN b (lt hx lb), nb, ← h2] at h3
              exact absurd h3 (by decide)
            · refine Classical.byContradiction fun z => ?_
              have z' : ∀ c, bt (a_children x) c = true → bt g c = true := fun c hc => cg_bT (fun q => z ⟨c, hc, q⟩)
              obtain ⟨c, uc, pc, lc⟩ := cov a la
              obtain ⟨d, ud, pd, ld⟩ := cov b lb
              have h2 := ((hg c).mp (z' c ((hC x hx c).mpr ⟨uc, pc⟩))).2 a lc
              have h3 := ((hg d).mp (z' d ((hC x hx d).mpr ⟨ud, pd⟩))).2 b ld
              rw [hN a (lt hx la), na] at h2
              rw [hN b (lt hx lb), nb, ← h2] at h3
              exact absurd h3 (by decide)
            · intro root used kind parent leaves children T
              exact h1 w' e' p' root used kind parent leaves children T
          · intro p0
            have hpp : ∃ c, bt p' c = true := Classical.byContradiction fun z => p0 (ib_zero.mpr fun j => cg_bF fun q => z ⟨j, q⟩)
            have part : ∀ {c}, bt p' c = true → bt (a_children x) c = true ∧ (∃ u, bt (a_leaves c) u = true ∧ bt N u = true) ∧ ∃ u, bt (a_leaves c) u = true ∧ bt N u = false := by
              intro c hc
              obtain ⟨_, hc1, hc2, hc3⟩ := (hp c).mp hc
              obtain ⟨u, hu, nu⟩ := notall (fun z => hc2 (seen0.mpr z))
              obtain ⟨v, hv, nv⟩ := notall (fun z => hc3 (seen1.mpr z))
              exact ⟨hc1, ⟨u, hu, nu⟩, ⟨v, hv, nv⟩⟩
            have against : ∀ {c d q}, bt p' c = true → bt (a_children x) d = true → c ≠ d → bt (a_leaves d) q = true → E' q n = !decide (a_kind x = 2) → cg_P4 n E' := by
              intro c d q hc hd cd lq hq
              obtain ⟨hc1, ⟨u, lu, nu⟩, ⟨v, lv, nv⟩⟩ := part hc
              have ⟨uc, pc⟩ := chU hc1
              have ⟨ud, pd⟩ := chU hd
              exact tw_refuse B A eE eS sy hx uc pc lu (by rw [hN u (lt uc lu)]; exact nu) lv (by rw [hN v (lt uc lv)]; exact nv) ud pd cd lq hq
            obtain ⟨c, hc⟩ := hpp
            unfold wX_insert_152
            by_cases g0 : g = 0
            · refine br_t g0 ?_
              have g0' : ∀ c, bt g c = false := fun c => by rw [g0]; exact b_0 c
              by_cases one : (p' &&& (p' - 1)) = 0
              · refine br_t one ?_
                have ho := (ib_one1 p').mp one
                obtain ⟨hc1, ⟨u, lu, nu⟩, ⟨v, lv, nv⟩⟩ := part hc
                have ⟨uc, pc⟩ := chU hc1
                have hcard := tw_card B hx uc pc
                have c20 := ch20 hc1
                refine xw_lowestBit (show c < 31 by omega) hc (fun j hj => cg_bF (fun z => by have := ho j c z hc; omega)) (nm_r (nI_1 i) ?_)
                refine ih c (by omega) uc ?_ (Or.inr ⟨⟨u, lu, nu⟩, ⟨v, lv, nv⟩⟩) (i + 1) w' e' p' (by omega) f (by omega)
                intro y c' d hy hc' hd e1 pc' pd' hs u hu
                rcases tw_up B uc hd hs with z | ⟨q, hq, pq, sq⟩
                · subst z
                  have yx : y = x := tw_pu B hy hx pd' pc
                  subst yx
                  have hcc := (hC y hx c').mpr ⟨hc', pc'⟩
                  exact hgo c' hcc (g0' c') (cg_bF (fun z => e1 (ho c' c z hc))) u hu
                · have qx : q = x := tw_pu B hq hx pq pc
                  subst qx
                  exact N2 y c' d hy hc' hd e1 pc' pd' sq u hu
              · refine br_f one (h0 w' e' p' ?_)
                have h2 : ∃ c d, c ≠ d ∧ bt p' c = true ∧ bt p' d = true := by
                  refine Classical.byContradiction fun z => one ((ib_one1 p').mpr fun i j hi hj => ?_)
                  exact Classical.byContradiction fun q => z ⟨i, j, q, hi, hj⟩
                obtain ⟨c1, d1, cd, hc1, hd1⟩ := h2
                obtain ⟨hd2, ⟨u, lu, nu⟩, ⟨v, lv, nv⟩⟩ := part hd1
                have ⟨ud, pd⟩ := chU hd2
                rcases k12 with k | k
                · exact against hc1 hd2 cd lu (by rw [hN u (lt ud lu), nu, k]; decide)
                · exact against hc1 hd2 cd lv (by rw [hN v (lt ud lv), nv, k]; decide)
            · refine br_f g0 (h0 w' e' p' ?_)
              have hgg : ∃ d, bt g d = true := Classical.byContradiction fun z => g0 (ib_zero.mpr fun j => cg_bF fun q => z ⟨j, q⟩)
              obtain ⟨d, hd⟩ := hgg
              have hd' := (hg d).mp hd
              obtain ⟨hc1, ⟨u, lu, nu⟩, ⟨v, lv, nv⟩⟩ := part hc
              have ⟨uc, pc⟩ := chU hc1
              have cd : c ≠ d := by
                intro z
                subst z
                have h2 := hd'.2 u lu
                have h3 := hd'.2 v lv
                rw [hN u (lt uc lu), nu] at h2
                rw [hN v (lt uc lv), nv, ← h2] at h3
                exact absurd h3 (by decide)
              obtain ⟨q, lq⟩ := tw_ne B (chU hd'.1).1
              exact against hc hd'.1 cd lq (hd'.2 q lq)
        dsimp only
        rcases k12 with k | k
        · -- a union: the whole children are against
          have r1 := rest w' (by
            intro c
            rw [hw c, k]
            constructor
            · rintro ⟨_, hc, _, hc3⟩
              exact ⟨hc, fun u hu => by rw [hN u (lt (chU hc).1 hu), seen1.mp hc3 u hu]; decide⟩
            · rintro ⟨hc, z⟩
              have z' : ∀ u, bt (a_leaves c) u = true → bt N u = true := fun u hu => by rw [← hN u (lt (chU hc).1 hu), z u hu]; decide
              exact ⟨ch20 hc, hc, ne0 hc z', seen1.mpr z'⟩) (by
            intro c hc gc pc u hu
            rw [k, hN u (lt (chU hc).1 hu)]
            have : (N &&& a_leaves c) = 0 := by
              refine Classical.byContradiction fun z => ?_
              by_cases q : (N &&& a_leaves c) = a_leaves c
              · rw [(hw c).mpr ⟨ch20 hc, hc, z, q⟩] at gc; exact absurd gc (by decide)
              · rw [(hp c).mpr ⟨ch20 hc, hc, z, q⟩] at pc; exact absurd pc (by decide)
            rw [seen0.mp this u hu]; decide)
          have k2 : ¬ a_kind x = 2 := by rw [k]; decide
          exact ⟨fun z => ⟨ix, br_f k2 (r1.1 z)⟩, fun z => ⟨ix, br_f k2 (r1.2 z)⟩⟩
        · have r1 := rest e' (by
            intro c
            rw [he c, k]
            constructor
            · rintro ⟨_, hc, hc3⟩
              exact ⟨hc, fun u hu => by rw [hN u (lt (chU hc).1 hu), seen0.mp hc3 u hu]; decide⟩
            · rintro ⟨hc, z⟩
              have z' : ∀ u, bt (a_leaves c) u = true → bt N u = false := fun u hu => by rw [← hN u (lt (chU hc).1 hu), z u hu]; decide
              exact ⟨ch20 hc, hc, seen0.mpr z'⟩) (by
            intro c hc gc pc u hu
            rw [k, hN u (lt (chU hc).1 hu)]
            have s0 : ¬ (N &&& a_leaves c) = 0 := by
              intro z
              rw [(he c).mpr ⟨ch20 hc, hc, z⟩] at gc; exact absurd gc (by decide)
            have : (N &&& a_leaves c) = a_leaves c := by
              refine Classical.byContradiction fun q => ?_
              rw [(hp c).mpr ⟨ch20 hc, hc, s0, q⟩] at pc; exact absurd pc (by decide)
            rw [seen1.mp this u hu]; decide)
          exact ⟨fun z => ⟨ix, br_t k (r1.1 z)⟩, fun z => ⟨ix, br_t k (r1.2 z)⟩⟩
theorem xw_insert {post : Int32 → SX → Prop} {N : Int32} (T : cg_T n f_root f_usedNodes a_kind a_parent a_leaves a_children E)
    (n8 : n < 8) (hn : f_vertexCount = nI n)
    (eE : ∀ u v, u < n → v < n → E' u v = E u v) (eS : ∀ u, u < n → E' n u = E' u n) (sy : ∀ u v, u < n → v < n → E u v = E v u) (hN : ∀ u, u < n → E' u n = bt N u)
    (h0 : ∀ w e p, cg_P4 n E' → post 0 (f_vertexCount, f_root, f_usedNodes, f_newWeight, w, e, p, f_orderLength, f_witnessKept, a_kind, a_parent, a_leaves, a_children, a_weight, a_order, a_value, a_witnessCells, a_row))
    (h1 : ∀ w e p root used kind parent leaves children, cg_T (n + 1) root used kind parent leaves children E' → post 1 (f_vertexCount, root, used, f_newWeight, w, e, p, f_orderLength, f_witnessKept, kind, parent, leaves, children, a_weight, a_order, a_value, a_witnessCells, a_row)) :
    wpX_insert post (f_vertexCount, f_root, f_usedNodes, f_newWeight, f_wholeChildren, f_emptyChildren, f_partChildren, f_orderLength, f_witnessKept, a_kind, a_parent, a_leaves, a_children, a_weight, a_order, a_value, a_witnessCells, a_row) N := by
  unfold wpX_insert
  dsimp only
  rcases T with ⟨n0, hr, hU⟩ | ⟨n0, _, r, hr, B, A, hC⟩
  · rw [hr]
    subst n0
    refine br_f (by decide) (xw_newNode (x := 0) (by decide) (hU 0) (fun y hy => (Nat.not_lt_zero y hy).elim) ib_b0' ?_)
    dsimp only
    refine h1 f_wholeChildren f_emptyChildren f_partChildren _ _ _ _ _ _ (Or.inr ⟨by omega, by omega, 0, rfl, ?_, ?_, ?_⟩)
    · refine tw_first (by decide) (fun v => by simp) (fun y => ?_) pk_us pk_us (fun v => ?_)
      · rw [tw_or1 _ (by decide), hU]; simp
      · rw [pk_us]
        show bt (ib_1 0) v = true ↔ _
        rw [tw_b1 (by decide)]
    · intro c x hc hx hp
      rw [tw_or1 _ (by decide), hU] at hc hx
      have hc : c = 0 := by simpa using hc
      have hx : x = 0 := by simpa using hx
      rw [hc, pk_us, hx] at hp
      exact absurd hp (by decide)
    · intro x hx c
      rw [tw_or1 _ (by decide), hU] at hx
      have hx : x = 0 := by simpa using hx
      show bt (upd a_children 0 0 x) c = true ↔ _
      rw [hx, pk_us]
      refine ⟨fun z => (tw_b0 c z).elim, ?_⟩
      rintro ⟨hc, hp⟩
      rw [tw_or1 _ (by decide), hU] at hc
      have hc : c = 0 := by simpa using hc
      rw [hc, pk_us] at hp
      exact absurd hp (by decide)
  · have lr := tw_lt B (tw_rU B)
    rw [hr]
    refine br_t (nI_pos' (by omega)) ⟨9, ?_⟩
    rw [← hr]
    rw [show f_root = nI r from hr]
    have key := xw_insert_26 (post := post) (N := N) B A hC n8 hn hr eE eS sy hN h0 h1 8 r (cg_cnt_le _ 8) (tw_rU B) ?_ (Or.inl rfl) 0 f_wholeChildren f_emptyChildren f_partChildren (by omega) 9 (by omega)
    · rw [← hr]
      rw [← hr] at key
      exact key
    · intro y c d hy hc hd e pc pd hs
      have dr := tw_top B hd hs
      exact (tw_pr B hy pd dr).elim
end
end
section
section
variable {f_vertexCount f_root f_usedNodes f_newWeight f_wholeChildren f_emptyChildren f_partChildren f_orderLength f_witnessKept : Int32} {a_kind a_parent a_leaves a_children a_weight a_order a_value a_witnessCells a_row : Nat → Int32}
variable {r n : Nat} {E : Nat → Nat → Bool}
theorem xw_lowestNode_19 {post : Int32 → Prop} {J : Int32 → Int32 → Prop} {A : Int32} {x i : Nat} (hx : x < 20)
    (K1 : ∀ c, c < 20 → bt (a_children x) c = true → (∀ v, bt A v = true → bt (a_leaves c) v = true) → J (nI c) (nI (i + 1)))
    (K0 : (∀ c, c < 20 → bt (a_children x) c = true → ¬ ∀ v, bt A v = true → bt (a_leaves c) v = true) → post (nI x)) :
    ∀ d j, j + d = 20 → ∀ lo : Int32, ((lo = -1 ∧ ∀ c, c < j → bt (a_children x) c = true → ¬ ∀ v, bt A v = true → bt (a_leaves c) v = true) ∨ (∃ c, c < 20 ∧ bt (a_children x) c = true ∧ (∀ v, bt A v = true → bt (a_leaves c) v = true) ∧ lo = nI c)) →
      ∀ f, d < f → wX_lowestNode_19 post J A (nI x) (nI i) f_vertexCount f_root f_usedNodes f_newWeight f_wholeChildren f_emptyChildren f_partChildren f_orderLength f_witnessKept a_kind a_parent a_leaves a_children a_weight a_order a_value a_witnessCells a_row f lo (nI j) := by
  have ix : vp_in (nI x) 20 := ib_in hx (by omega)
  intro d
  induction d with
  | zero =>
    intro j hj lo hlo f hf
    obtain ⟨m, rfl⟩ : ∃ m, f = m + 1 := ⟨f - 1, by omega⟩
    have : j = 20 := by omega
    subst this
    refine br_t (by decide) ?_
    rcases hlo with ⟨e, hno⟩ | ⟨c, c20, hc, hs, e⟩
    · rw [e]
      exact br_f (by decide) (K0 hno)
    · rw [e]
      exact br_t (nI_pos' (by omega)) (nm_r (nI_1 i) (K1 c c20 hc hs))
  | succ d ih =>
    intro j hj lo hlo f hf
    obtain ⟨m, rfl⟩ : ∃ m, f = m + 1 := ⟨f - 1, by omega⟩
    refine br_f (ib_20 (by omega)) ⟨ix, ?_⟩
    rw [ib_cl (show x < 256 by omega), ib_cl (show j < 256 by omega)]
    by_cases cj : bt (a_children x) j = true
    · refine br_f (fun z => by rw [(ib_bit _ (by omega)).mp z] at cj; exact absurd cj (by decide)) ⟨ib_in (show j < 20 by omega) (by omega), ?_⟩
      by_cases s : (A &&& (a_leaves j ^^^ (-1))) = 0
      · exact br_t s (nm_r (nI_1 j) (ih (j + 1) (by omega) (nI j) (Or.inr ⟨j, by omega, cj, (ib_sub _ _).mp s, rfl⟩) m (by omega)))
      · refine br_f s (nm_r (nI_1 j) (ih (j + 1) (by omega) lo ?_ m (by omega)))
        rcases hlo with ⟨e, hno⟩ | z
        · refine Or.inl ⟨e, fun c hc hcc => ?_⟩
          by_cases cq : c = j
          · subst cq; exact fun q => s ((ib_sub _ _).mpr q)
          · exact hno c (by omega) hcc
        · exact Or.inr z
    · refine br_t ((ib_bit _ (by omega)).mpr (cg_bF cj)) (nm_r (nI_1 j) (ih (j + 1) (by omega) lo ?_ m (by omega)))
      rcases hlo with ⟨e, hno⟩ | z
      · refine Or.inl ⟨e, fun c hc hcc => ?_⟩
        have : c ≠ j := fun q => cj (by rw [← q]; exact hcc)
        exact hno c (by omega) hcc
      · exact Or.inr z
theorem xw_lowestNode {V : Nat → Bool} {post : Int32 → Prop} {A : Int32} (B : tw_B V (bt f_usedNodes) r a_kind a_parent (fun y => bt (a_leaves y)) E) (hC : tw_C (bt f_usedNodes) a_parent (fun y => bt (a_children y))) (hr : f_root = nI r)
    (hA : ∀ v, bt A v = true → V v = true)
    (h : ∀ m, bt f_usedNodes m = true → (∀ v, bt A v = true → bt (a_leaves m) v = true) → (∀ c, bt f_usedNodes c = true → a_parent c = nI m → ¬ ∀ v, bt A v = true → bt (a_leaves c) v = true) → post (nI m)) :
    wpX_lowestNode post (f_vertexCount, f_root, f_usedNodes, f_newWeight, f_wholeChildren, f_emptyChildren, f_partChildren, f_orderLength, f_witnessKept, a_kind, a_parent, a_leaves, a_children, a_weight, a_order, a_value, a_witnessCells, a_row) A := by
  suffices loop : ∀ m x, cg_cnt (bt (a_leaves x)) 8 ≤ m → bt f_usedNodes x = true → (∀ v, bt A v = true → bt (a_leaves x) v = true) → ∀ i, i + m ≤ 20 → ∀ f, m < f → wX_lowestNode_7 post A f_vertexCount f_root f_usedNodes f_newWeight f_wholeChildren f_emptyChildren f_partChildren f_orderLength f_witnessKept a_kind a_parent a_leaves a_children a_weight a_order a_value a_witnessCells a_row f (nI x) (nI i) by
    unfold wpX_lowestNode
    dsimp only
    have key := loop 8 r (cg_cnt_le _ 8) (tw_rU B) (fun v hv => tw_rL B (hA v hv)) 0 (by omega) 9 (by omega)
    rw [hr]
    rw [hr] at key
    exact ⟨9, key⟩
  intro m
  induction m with
  | zero =>
    intro x hm hx
    obtain ⟨v, hv⟩ := tw_ne B hx
    have := cg_cnt_pos (A := bt (a_leaves x)) (tw_L8 B hx hv) hv
    omega
  | succ m ih =>
    intro x hm hx hs i him f hf
    obtain ⟨f, rfl⟩ : ∃ k, f = k + 1 := ⟨f - 1, by omega⟩
    refine br_f (ib_20 (by omega)) ⟨21, xw_lowestNode_19 (tw_lt B hx) ?_ ?_ 20 0 rfl (-1) (Or.inl ⟨rfl, fun c hc => (Nat.not_lt_zero c hc).elim⟩) 21 (by omega)⟩
    · intro c c20 hc hs'
      obtain ⟨uc, pc⟩ := (hC x hx c).mp hc
      have := tw_card B hx uc pc
      exact ih c (by omega) uc hs' (i + 1) (by omega) f (by omega)
    · intro hno
      exact h x hx hs (fun c uc pc => hno c (tw_lt B uc) ((hC x hx c).mpr ⟨uc, pc⟩))
/-- the pair's mask -/
theorem xw_pair {u v : Nat} (hu : u < 32) (hv : v < 32) (w : Nat) : bt (ib_1 u ||| ib_1 v) w = true ↔ w = u ∨ w = v := by
  rw [tw_bor, tw_b1 hu, tw_b1 hv]
/-- where two vertices meet -/
theorem xw_meet {post : Int32 → Prop} {u v : Nat} (T : cg_T n f_root f_usedNodes a_kind a_parent a_leaves a_children E) (n8 : n ≤ 8) (hu : u < n) (hv : v < n) (e : u ≠ v)
    (h : ∀ m r, bt f_usedNodes m = true → f_root = nI r → tw_B (fun v => decide (v < n)) (bt f_usedNodes) r a_kind a_parent (fun x => bt (a_leaves x)) E → tw_A (bt f_usedNodes) a_kind a_parent → (a_kind m = 1 ∨ a_kind m = 2) → E u v = decide (a_kind m = 2) → bt (a_leaves m) u = true → bt (a_leaves m) v = true →
      (∀ c, bt f_usedNodes c = true → a_parent c = nI m → ¬ (bt (a_leaves c) u = true ∧ bt (a_leaves c) v = true)) → post (nI m)) :
    wpX_lowestNode post (f_vertexCount, f_root, f_usedNodes, f_newWeight, f_wholeChildren, f_emptyChildren, f_partChildren, f_orderLength, f_witnessKept, a_kind, a_parent, a_leaves, a_children, a_weight, a_order, a_value, a_witnessCells, a_row) (ib_1 u ||| ib_1 v) := by
  rcases T with ⟨n0, _⟩ | ⟨_, _, r, hr, B, A, hC⟩
  · omega
  · refine xw_lowestNode B hC hr ?_ ?_
    · intro w hw
      rcases (xw_pair (by omega) (by omega) w).mp hw with z | z <;> subst z <;> simp [hu, hv]
    · intro m hm hs hno
      have lu := hs u ((xw_pair (by omega) (by omega) u).mpr (Or.inl rfl))
      have lv := hs v ((xw_pair (by omega) (by omega) v).mpr (Or.inr rfl))
      have hno' : ∀ c, bt f_usedNodes c = true → a_parent c = nI m → ¬ (bt (a_leaves c) u = true ∧ bt (a_leaves c) v = true) := by
        intro c uc pc z
        refine hno c uc pc (fun w hw => ?_)
        rcases (xw_pair (by omega) (by omega) w).mp hw with q | q <;> subst q
        · exact z.1
        · exact z.2
      obtain ⟨k12, hE⟩ := tw_meet B hm lu lv e hno'
      exact h m r hm hr B A k12 hE lu lv hno'
/-- X's adjacent, on any two ints -/
theorem xw_adjacent {post : Int32 → Prop} {u v : Nat} (T : cg_T n f_root f_usedNodes a_kind a_parent a_leaves a_children E) (n8 : n ≤ 8) (hn : f_vertexCount = nI n) (hu : u < n) (hv : v < n) (ir : ∀ u, u < n → E u u = false)
    (h : post (if E u v = true then 1 else 0)) : wpX_adjacent post (f_vertexCount, f_root, f_usedNodes, f_newWeight, f_wholeChildren, f_emptyChildren, f_partChildren, f_orderLength, f_witnessKept, a_kind, a_parent, a_leaves, a_children, a_weight, a_order, a_value, a_witnessCells, a_row) (nI u) (nI v) := by
  unfold wpX_adjacent
  dsimp only
  rw [hn]
  refine br_f (ib_neg (by omega)) (br_f (nI_ge hu (by omega)) (br_f (ib_neg (by omega)) (br_f (nI_ge hv (by omega)) ?_)))
  by_cases e : u = v
  · subst e
    rw [ir u hu, if_neg (by decide)] at h
    exact br_t rfl h
  · refine br_f (fun z => e ((nI_eq (by omega) (by omega)).mp z)) ?_
    rw [← hn]
    refine xw_meet T n8 hu hv e ?_
    intro m r hm _ B _ k12 hE _ _ _
    rw [hE] at h
    have lm := tw_lt B hm
    rw [ib_cl (show m < 256 by omega)]
    refine ⟨ib_in lm (by omega), ?_⟩
    by_cases k : a_kind m = 2
    · rw [decide_eq_true k, if_pos rfl] at h
      exact br_t k h
    · rw [decide_eq_false k, if_neg (by decide)] at h
      exact br_f k h
end
end
section
/-- the tree over a vertex set, as the arrays hold it -/
def cg_V (V : Nat → Bool) (root used : Int32) (kind parent leaves children : Nat → Int32) (E : Nat → Nat → Bool) : Prop :=
  ((∀ v, V v = false) ∧ root = -1 ∧ ∀ x, bt used x = false) ∨
  ((∃ v, V v = true) ∧ ∃ r, root = nI r ∧ tw_B V (bt used) r kind parent (fun x => bt (leaves x)) E ∧ tw_A (bt used) kind parent ∧ tw_C (bt used) parent (fun x => bt (children x)))
section
variable {f_vertexCount f_root f_usedNodes f_newWeight f_wholeChildren f_emptyChildren f_partChildren f_orderLength f_witnessKept : Int32} {a_kind a_parent a_leaves a_children a_weight a_order a_value a_witnessCells a_row : Nat → Int32}
variable {V V' U : Nat → Bool} {r : Nat} {K P : Nat → Int32} {L C E : Nat → Nat → Bool}
theorem xw_melt {post : SX → Prop} {q o : Nat} {mv : Int32} (B : tw_B V U r K P L E) (hU : U o = true) (hq : U q = true) (po : P o = nI q) (hk : K o = K q)
    (A : ∀ c y, U c = true → U y = true → c ≠ o → P c = nI y → K c ≠ K y) (hC : tw_C U P C) (hV : ∃ v, V v = true) (hr : f_root = nI r)
    (hmv : ∀ c, bt mv c = true ↔ C o c = true)
    (eU : ∀ y, bt f_usedNodes y = true ↔ U y = true ∧ y ≠ o)
    (eK : ∀ y, U y = true → y ≠ o → a_kind y = K y) (eP : ∀ y, U y = true → y ≠ o → a_parent y = P y)
    (eL : ∀ y, U y = true → y ≠ o → ∀ u, bt (a_leaves y) u = true ↔ L y u = true)
    (eC : ∀ y, U y = true → y ≠ o → ∀ c, bt (a_children y) c = true ↔ C y c = true ∧ c ≠ o)
    (h : ∀ parent leaves children, cg_V V f_root f_usedNodes a_kind parent leaves children E → post (f_vertexCount, f_root, f_usedNodes, f_newWeight, f_wholeChildren, f_emptyChildren, f_partChildren, f_orderLength, f_witnessKept, a_kind, parent, leaves, children, a_weight, a_order, a_value, a_witnessCells, a_row)) :
    wX_collapse_79 post (nI q) mv 21 (nI 0) f_vertexCount f_root f_usedNodes f_newWeight f_wholeChildren f_emptyChildren f_partChildren f_orderLength f_witnessKept a_kind a_parent a_leaves a_children a_weight a_order a_value a_witnessCells a_row := by
  have lq := tw_lt B hq
  have oq : o ≠ q := tw_self B hq hU po
  have hm : ∀ c, bt mv c = true → U c = true ∧ P c = nI o := fun c hc => (hC o hU c).mp ((hmv c).mp hc)
  have hm' : ∀ c, U c = true → P c = nI o → bt mv c = true := fun c uc pc => (hmv c).mpr ((hC o hU c).mpr ⟨uc, pc⟩)
  have m20 : ∀ c, bt mv c = true → c < 20 := fun c hc => tw_lt B (hm c hc).1
  have mo : ∀ c, bt mv c = true → c ≠ o := fun c hc => tw_self B hU (hm c hc).1 (hm c hc).2
  have mq : ∀ c, bt mv c = true → c ≠ q := fun c hc z => by
    have h1 := tw_card B hU (hm c hc).1 (hm c hc).2
    have h2 := tw_card B hq hU po
    rw [z] at h1
    omega
  suffices loop : ∀ d j, j + d = 20 → ∀ p lv ch : Nat → Int32,
      (∀ y, p y = if bt mv y = true ∧ y < j then nI q else a_parent y) → (∀ y, ∀ u, bt (lv y) u = true ↔ bt (a_leaves y) u = true) →
      (∀ y, y ≠ q → ch y = a_children y) → (∀ c, bt (ch q) c = true ↔ bt (a_children q) c = true ∨ (c < j ∧ bt mv c = true)) → ∀ f, d < f →
      wX_collapse_79 post (nI q) mv f (nI j) f_vertexCount f_root f_usedNodes f_newWeight f_wholeChildren f_emptyChildren f_partChildren f_orderLength f_witnessKept a_kind p lv ch a_weight a_order a_value a_witnessCells a_row by
    refine loop 20 0 rfl a_parent a_leaves a_children ?_ (fun _ _ => Iff.rfl) (fun _ _ => rfl) ?_ 21 (by omega)
    · intro y; rw [if_neg (fun z => Nat.not_lt_zero y z.2)]
    · intro c
      exact ⟨Or.inl, fun z => z.elim id (fun z => (Nat.not_lt_zero c z.1).elim)⟩
  intro d
  induction d with
  | zero =>
    intro j hj p lv ch ep el ec ecq f hf
    obtain ⟨m, rfl⟩ : ∃ m, f = m + 1 := ⟨f - 1, by omega⟩
    have : j = 20 := by omega
    subst this
    refine br_t (by decide) (h p lv ch ?_)
    have eP1 : ∀ y, U y = true → y ≠ o → P y ≠ nI o → p y = P y := by
      intro y hy yo pn
      rw [ep, if_neg (fun z => pn (hm y z.1).2), eP y hy yo]
    have eP2 : ∀ y, U y = true → P y = nI o → p y = nI q := by
      intro y hy pn
      have := hm' y hy pn
      rw [ep, if_pos ⟨this, m20 y this⟩]
    refine Or.inr ⟨hV, r, hr, ?_, ?_, ?_⟩
    · exact tw_melt B hU hq po hk eU eK eP1 eP2 (fun y hy yo u => by rw [el]; exact eL y hy yo u)
    · intro c y hc hy hp
      obtain ⟨uc, co⟩ := (eU c).mp hc
      obtain ⟨uy, yo⟩ := (eU y).mp hy
      rw [eK c uc co, eK y uy yo]
      by_cases z : P c = nI o
      · rw [eP2 c uc z] at hp
        rw [← tw_nI lq (tw_lt B uy) hp, ← hk]
        exact A c o uc hU co z
      · rw [eP1 c uc co z] at hp
        exact A c y uc uy co hp
    · intro y hy c
      obtain ⟨uy, yo⟩ := (eU y).mp hy
      show bt (ch y) c = true ↔ _
      rw [eU c]
      by_cases yq : y = q
      · subst yq
        rw [ecq, eC y uy yo, hC y uy]
        constructor
        · rintro (⟨⟨uc, pc⟩, co⟩ | ⟨_, z⟩)
          · exact ⟨⟨uc, co⟩, by rw [eP1 c uc co (fun z => yo (tw_pu B uy hU pc z))]; exact pc⟩
          · exact ⟨⟨(hm c z).1, mo c z⟩, eP2 c (hm c z).1 (hm c z).2⟩
        · rintro ⟨⟨uc, co⟩, pc⟩
          by_cases z : P c = nI o
          · have := hm' c uc z
            exact Or.inr ⟨m20 c this, this⟩
          · rw [eP1 c uc co z] at pc
            exact Or.inl ⟨⟨uc, pc⟩, co⟩
      · rw [ec y yq, eC y uy yo, hC y uy]
        constructor
        · rintro ⟨⟨uc, pc⟩, co⟩
          exact ⟨⟨uc, co⟩, by rw [eP1 c uc co (fun z => yo (tw_pu B uy hU pc z))]; exact pc⟩
        · rintro ⟨⟨uc, co⟩, pc⟩
          by_cases z : P c = nI o
          · rw [eP2 c uc z] at pc
            exact (yq (tw_nI lq (tw_lt B uy) pc).symm).elim
          · rw [eP1 c uc co z] at pc
            exact ⟨⟨uc, pc⟩, co⟩
  | succ d ih =>
    intro j hj p lv ch ep el ec ecq f hf
    obtain ⟨m, rfl⟩ : ∃ m, f = m + 1 := ⟨f - 1, by omega⟩
    refine br_f (ib_20 (by omega)) ?_
    by_cases gj : bt mv j = true
    · refine br_f (fun z => by rw [(ib_bit _ (by omega)).mp z] at gj; exact absurd gj (by decide)) (xw_adopt lq (show j < 20 by omega) ?_)
      dsimp only
      refine nm_r (nI_1 j) (ih (j + 1) (by omega) _ _ _ ?_ ?_ ?_ ?_ m (by omega))
      · intro y
        by_cases yj : y = j
        · subst yj
          rw [pk_us, if_pos ⟨gj, by omega⟩]
        · rw [pk_un yj, ep]
          by_cases z : bt mv y = true ∧ y < j
          · rw [if_pos z, if_pos ⟨z.1, by omega⟩]
          · rw [if_neg z, if_neg (fun q => z ⟨q.1, by omega⟩)]
      · intro y u
        by_cases yq : y = q
        · subst yq
          rw [pk_us, tw_bor, el, el]
          refine ⟨fun z => z.elim id (fun z => ?_), Or.inl⟩
          have hj := hm j gj
          rw [eL j hj.1 (mo j gj)] at z
          rw [eL y hq (Ne.symm oq)]
          exact tw_sub B hU hq po (tw_sub B hj.1 hU hj.2 z)
        · rw [pk_un yq, el]
      · intro y yq
        rw [pk_un yq, ec y yq]
      · intro c
        rw [pk_us, tw_or1 _ (by omega), ecq]
        constructor
        · rintro ((z | z) | z)
          · exact Or.inl z
          · exact Or.inr ⟨by omega, z.2⟩
          · subst z; exact Or.inr ⟨by omega, gj⟩
        · rintro (z | ⟨a, b⟩)
          · exact Or.inl (Or.inl z)
          · by_cases cj : c = j
            · exact Or.inr cj
            · exact Or.inl (Or.inr ⟨by omega, b⟩)
    · have key : ∀ c, (c < j + 1 ∧ bt mv c = true) ↔ (c < j ∧ bt mv c = true) := by
        intro c
        constructor
        · rintro ⟨a, b⟩
          refine ⟨?_, b⟩
          have : c ≠ j := fun z => gj (by rw [← z]; exact b)
          omega
        · rintro ⟨a, b⟩
          exact ⟨by omega, b⟩
      refine br_t ((ib_bit _ (by omega)).mpr (cg_bF gj)) (nm_r (nI_1 j) (ih (j + 1) (by omega) p lv ch ?_ el ec ?_ m (by omega)))
      · intro y
        rw [ep]
        by_cases z : bt mv y = true ∧ y < j
        · rw [if_pos z, if_pos ⟨z.1, by omega⟩]
        · rw [if_neg z, if_neg (fun q => z ⟨q.1, ((key y).mp ⟨q.2, q.1⟩).1⟩)]
      · intro c
        rw [ecq, key]
theorem xw_collapse {post : SX → Prop} {l p o v : Nat} (B : tw_B V U r K P L E) (A : tw_A U K P) (hC : tw_C U P C)
    (hl : U l = true) (k0 : K l = 0) (hp : U p = true) (pl : P l = nI p) (hv : L l v = true)
    (ho : U o = true) (po : P o = nI p) (ol : o ≠ l) (h2 : ∀ c, U c = true → P c = nI p → c = l ∨ c = o)
    (eV : ∀ u, V' u = true ↔ V u = true ∧ u ≠ v) (hr : f_root = nI r)
    (eU : ∀ y, bt f_usedNodes y = true ↔ U y = true ∧ y ≠ l)
    (eK : ∀ y, U y = true → y ≠ l → a_kind y = K y) (eP : ∀ y, U y = true → y ≠ l → a_parent y = P y)
    (eL : ∀ y, U y = true → y ≠ l → ∀ u, bt (a_leaves y) u = true ↔ L y u = true ∧ u ≠ v)
    (eC : ∀ y, U y = true → y ≠ l → ∀ c, bt (a_children y) c = true ↔ C y c = true ∧ c ≠ l)
    (h : ∀ root used kind parent leaves children, cg_V V' root used kind parent leaves children E → post (f_vertexCount, root, used, f_newWeight, f_wholeChildren, f_emptyChildren, f_partChildren, f_orderLength, f_witnessKept, kind, parent, leaves, children, a_weight, a_order, a_value, a_witnessCells, a_row)) :
    wpX_collapse post (f_vertexCount, f_root, f_usedNodes, f_newWeight, f_wholeChildren, f_emptyChildren, f_partChildren, f_orderLength, f_witnessKept, a_kind, a_parent, a_leaves, a_children, a_weight, a_order, a_value, a_witnessCells, a_row) (nI p) := by
  have lp' := tw_lt B hp
  have lo := tw_lt B ho
  have op : o ≠ p := tw_self B hp ho po
  have pl' : p ≠ l := Ne.symm (tw_self B hp hl pl)
  obtain ⟨nc, sg⟩ := tw_leaf B hl k0 hv
  have hV : ∃ u, V' u = true := by
    obtain ⟨u, hu, e⟩ := tw_not1 B hl sg hp pl'
    exact ⟨u, (eV u).mpr ⟨tw_LV B hp hu, e⟩⟩
  have cp : ∀ c, bt (a_children p) c = true ↔ c = o := by
    intro c
    rw [eC p hp pl', hC p hp]
    constructor
    · rintro ⟨⟨uc, pc⟩, cl⟩
      exact (h2 c uc pc).elim (fun z => (cl z).elim) id
    · intro z
      subst z
      exact ⟨⟨ho, po⟩, ol⟩
  unfold wpX_collapse
  dsimp only
  rw [ib_cl (show p < 256 by omega)]
  refine ⟨ib_in lp' (by omega), xw_lowestBit (show o < 31 by omega) ((cp o).mpr rfl) (fun j hj => cg_bF (fun z => by have := (cp j).mp z; omega)) ⟨ib_in lp' (by omega), nm_e ?_⟩⟩
  have eU' : ∀ y, bt (f_usedNodes &&& (ib_1 p ^^^ (-1))) y = true ↔ U y = true ∧ y ≠ l ∧ y ≠ p := by
    intro y
    rw [tw_an1 _ lp', eU]
    exact ⟨fun z => ⟨z.1.1, z.1.2, z.2⟩, fun z => ⟨⟨z.1, z.2.1⟩, z.2.2⟩⟩
  have eK' : ∀ y, U y = true → y ≠ l → y ≠ p → upd a_kind p 0 y = K y := fun y hy yl yp => by rw [pk_un yp, eK y hy yl]
  have eL' : ∀ y, U y = true → y ≠ l → y ≠ p → ∀ u, bt (upd a_leaves p 0 y) u = true ↔ L y u = true ∧ u ≠ v := fun y hy yl yp u => by rw [pk_un yp]; exact eL y hy yl u
  by_cases pr : p = r
  · have Pp : P p = -1 := by rw [pr]; exact tw_rP B
    rw [eP p hp pl', Pp]
    refine xw_replace0 lp' lo (by rw [eP p hp pl', Pp]) ?_
    dsimp only
    refine xw_freeNode lp' ?_
    dsimp only
    refine br_t (by decide) (h _ _ _ _ _ _ (Or.inr ⟨hV, o, rfl, ?_, ?_, ?_⟩))
    · refine tw_bypass B hl k0 hp pl hv ho po ol h2 (by rw [if_pos pr]) eV eU' eK' ?_ ?_ eL'
      · intro y hy yl yp yo
        rw [pk_un yp, pk_un yo, eP y hy yl]
      · rw [pk_un op, pk_us, Pp]
    · intro c y hc hy hq
      obtain ⟨uc, cl, cp'⟩ := (eU' c).mp hc
      obtain ⟨uy, yl, yp⟩ := (eU' y).mp hy
      rw [eK' c uc cl cp', eK' y uy yl yp]
      rw [pk_un cp'] at hq
      by_cases co : c = o
      · subst co
        rw [pk_us] at hq
        exact (tw_m1 (tw_lt B uy) hq).elim
      · rw [pk_un co, eP c uc cl] at hq
        exact A c y uc uy hq
    · intro y hy c
      obtain ⟨uy, yl, yp⟩ := (eU' y).mp hy
      show bt (upd a_children p 0 y) c = true ↔ _
      rw [pk_un yp, eC y uy yl, hC y uy, eU' c]
      constructor
      · rintro ⟨⟨uc, pc⟩, cl⟩
        have cp' : c ≠ p := fun z => by rw [z, Pp] at pc; exact tw_m1 (tw_lt B uy) pc
        have co : c ≠ o := fun z => by rw [z] at pc; exact yp (tw_pu B uy hp pc po)
        exact ⟨⟨uc, cl, cp'⟩, by rw [pk_un cp', pk_un co, eP c uc cl]; exact pc⟩
      · rintro ⟨⟨uc, cl, cp'⟩, pc⟩
        rw [pk_un cp'] at pc
        by_cases co : c = o
        · subst co
          rw [pk_us] at pc
          exact (tw_m1 (tw_lt B uy) pc).elim
        · rw [pk_un co, eP c uc cl] at pc
          exact ⟨⟨uc, pc⟩, cl⟩
  · obtain ⟨q, hq, Pp⟩ := tw_par B hp pr
    have lq := tw_lt B hq
    have qp : q ≠ p := Ne.symm (tw_self B hq hp Pp)
    have ql : q ≠ l := fun z => nc p hp (by rw [← z]; exact Pp)
    have qo : q ≠ o := by
      intro z
      have h1 := tw_card B hq hp Pp
      have h2 := tw_card B hp ho po
      rw [← z] at h2
      omega
    rw [eP p hp pl', Pp]
    refine xw_replace1 lp' lo lq (by rw [eP p hp pl', Pp]) ?_
    dsimp only
    refine xw_freeNode lp' ?_
    dsimp only
    refine br_f (ib_neg (by omega)) ⟨ib_in lo (by omega), ib_in lq (by omega), ?_⟩
    rw [ib_cl (show o < 256 by omega), ib_cl (show q < 256 by omega), pk_un op, pk_un qp, eK o ho ol, eK q hq ql]
    have eP1 : ∀ y, U y = true → y ≠ l → y ≠ p → y ≠ o → upd (upd a_parent o (nI q)) p (-1) y = P y := fun y hy yl yp yo => by rw [pk_un yp, pk_un yo, eP y hy yl]
    have eP2 : upd (upd a_parent o (nI q)) p (-1) o = P p := by rw [pk_un op, pk_us, Pp]
    have eC' : ∀ y, U y = true → y ≠ l → y ≠ p → ∀ c, bt (upd (upd a_children q ((a_children q &&& (ib_1 p ^^^ (-1))) ||| ib_1 o)) p 0 y) c = true ↔ ((U c = true ∧ c ≠ l ∧ c ≠ p) ∧ upd (upd a_parent o (nI q)) p (-1) c = nI y) := by
      intro y uy yl yp c
      rw [pk_un yp]
      by_cases yq : y = q
      · subst yq
        rw [pk_us, tw_or1 _ lo, tw_an1 _ lp', eC y uy yl, hC y uy]
        constructor
        · rintro (⟨⟨⟨uc, pc⟩, cl⟩, cp'⟩ | z)
          · have co : c ≠ o := fun z => by rw [z] at pc; exact yp (tw_pu B uy hp pc po)
            exact ⟨⟨uc, cl, cp'⟩, by rw [eP1 c uc cl cp' co]; exact pc⟩
          · subst z
            exact ⟨⟨ho, ol, op⟩, by rw [eP2]; exact Pp⟩
        · rintro ⟨⟨uc, cl, cp'⟩, pc⟩
          by_cases co : c = o
          · exact Or.inr co
          · rw [eP1 c uc cl cp' co] at pc
            exact Or.inl ⟨⟨⟨uc, pc⟩, cl⟩, cp'⟩
      · rw [pk_un yq, eC y uy yl, hC y uy]
        constructor
        · rintro ⟨⟨uc, pc⟩, cl⟩
          have cp' : c ≠ p := fun z => by rw [z] at pc; exact yq (tw_pu B uy hq pc Pp)
          have co : c ≠ o := fun z => by rw [z] at pc; exact yp (tw_pu B uy hp pc po)
          exact ⟨⟨uc, cl, cp'⟩, by rw [eP1 c uc cl cp' co]; exact pc⟩
        · rintro ⟨⟨uc, cl, cp'⟩, pc⟩
          by_cases co : c = o
          · subst co
            rw [eP2, Pp] at pc
            exact (yq (tw_nI lq (tw_lt B uy) pc).symm).elim
          · rw [eP1 c uc cl cp' co] at pc
            exact ⟨⟨uc, pc⟩, cl⟩
    by_cases kk : K o = K q
    · refine br_t kk ⟨ib_in lo (by omega), nm_e ⟨ib_in lq (by omega), ib_in lq (by omega), nm_e (xw_freeNode lo ?_)⟩⟩
      dsimp only
      rw [pk_un op, pk_un (Ne.symm qo : o ≠ q), pk_un qp, pk_us]
      refine ⟨21, ?_⟩
      obtain ⟨U1, hU1⟩ : ∃ U1 : Nat → Bool, ∀ y, U1 y = true ↔ U y = true ∧ y ≠ l ∧ y ≠ p := ⟨_, eU'⟩
      obtain ⟨P1, hP1⟩ : ∃ P1 : Nat → Int32, P1 = upd (upd a_parent o (nI q)) p (-1) := ⟨_, rfl⟩
      obtain ⟨L1, hL1⟩ : ∃ L1 : Nat → Nat → Bool, ∀ y, L1 y = bt (upd a_leaves p 0 y) := ⟨fun y => bt (upd a_leaves p 0 y), fun y => rfl⟩
      have hb : tw_B V' U1 r K P1 L1 E := by
        refine tw_bypass B hl k0 hp pl hv ho po ol h2 (by rw [if_neg pr]) eV hU1 (fun _ _ _ _ => rfl) ?_ ?_ ?_
        · rw [hP1]; exact eP1
        · rw [hP1]; exact eP2
        · intro y hy yl yp u
          rw [hL1]; exact eL' y hy yl yp u
      have uo1 : U1 o = true := (hU1 o).mpr ⟨ho, ol, op⟩
      have uq1 : U1 q = true := (hU1 q).mpr ⟨hq, ql, qp⟩
      refine xw_melt (C := fun y c => decide (U1 c = true ∧ P1 c = nI y)) hb uo1 uq1 (by rw [hP1, eP2]; exact Pp) kk ?_ (fun y _ c => by rw [decide_eq_true_eq]) hV hr ?_ ?_ ?_ ?_ ?_ ?_ (fun parent leaves children T => h _ _ _ parent leaves children T)
      · intro c y hc hy co hp'
        obtain ⟨uc, cl, cp'⟩ := (hU1 c).mp hc
        obtain ⟨uy, yl, yp⟩ := (hU1 y).mp hy
        rw [hP1, eP1 c uc cl cp' co] at hp'
        exact A c y uc uy hp'
      · intro c
        rw [decide_eq_true_eq, eC o ho ol, hC o ho, hU1, hP1]
        constructor
        · rintro ⟨⟨uc, pc⟩, cl⟩
          have cp' : c ≠ p := fun z => by rw [z, Pp] at pc; exact qo (tw_nI lq lo pc)
          have co : c ≠ o := tw_self B ho uc pc
          exact ⟨⟨uc, cl, cp'⟩, by rw [eP1 c uc cl cp' co]; exact pc⟩
        · rintro ⟨⟨uc, cl, cp'⟩, pc⟩
          by_cases co : c = o
          · subst co
            rw [eP2, Pp] at pc
            exact (qo (tw_nI lq lo pc)).elim
          · rw [eP1 c uc cl cp' co] at pc
            exact ⟨⟨uc, pc⟩, cl⟩
      · intro y
        rw [tw_an1 _ lo, eU', hU1]
      · intro y hy yo
        obtain ⟨uy, yl, yp⟩ := (hU1 y).mp hy
        rw [pk_un yo, eK' y uy yl yp]
      · intro y hy yo
        rw [pk_un yo, hP1]
      · intro y hy yo u
        obtain ⟨uy, yl, yp⟩ := (hU1 y).mp hy
        rw [pk_un yo, hL1]
      · intro y hy yo c
        obtain ⟨uy, yl, yp⟩ := (hU1 y).mp hy
        have e1 := eC' y uy yl yp c
        rw [pk_un yo, decide_eq_true_eq, hU1, hP1]
        by_cases yq : y = q
        · subst yq
          rw [pk_un yp, pk_us] at e1
          rw [pk_us]
          show bt (((a_children y &&& (ib_1 p ^^^ (-1))) ||| ib_1 o) &&& (ib_1 o ^^^ (-1))) c = true ↔ _
          rw [tw_an1 _ lo, e1]
        · rw [pk_un yq, e1]
          constructor
          · intro z
            refine ⟨z, fun co => ?_⟩
            rw [co, eP2, Pp] at z
            exact yq (tw_nI lq (tw_lt B uy) z.2).symm
          · exact fun z => z.1
    · refine br_f kk (h _ _ _ _ _ _ (Or.inr ⟨hV, r, hr, ?_, ?_, ?_⟩))
      · exact tw_bypass B hl k0 hp pl hv ho po ol h2 (by rw [if_neg pr]) eV eU' eK' eP1 eP2 eL'
      · intro c y hc hy hq'
        obtain ⟨uc, cl, cp'⟩ := (eU' c).mp hc
        obtain ⟨uy, yl, yp⟩ := (eU' y).mp hy
        rw [eK' c uc cl cp', eK' y uy yl yp]
        by_cases co : c = o
        · subst co
          rw [eP2, Pp] at hq'
          rw [← tw_nI lq (tw_lt B uy) hq']
          exact kk
        · rw [eP1 c uc cl cp' co] at hq'
          exact A c y uc uy hq'
      · intro y hy c
        obtain ⟨uy, yl, yp⟩ := (eU' y).mp hy
        show bt (upd (upd a_children q ((a_children q &&& (ib_1 p ^^^ (-1))) ||| ib_1 o)) p 0 y) c = true ↔ _
        rw [eC' y uy yl yp c, eU' c]
end
end
section
section
variable {f_vertexCount f_root f_usedNodes f_newWeight f_wholeChildren f_emptyChildren f_partChildren f_orderLength f_witnessKept : Int32} {a_kind a_parent a_leaves a_children a_weight a_order a_value a_witnessCells a_row : Nat → Int32}
variable {V V' : Nat → Bool} {r : Nat} {E : Nat → Nat → Bool}
/-- going up from z: every used node that has all leaves of z loses the set s -/
theorem xw_take_49 {U : Nat → Bool} {K P : Nat → Int32} {L : Nat → Nat → Bool} (B : tw_B V U r K P L E) {post : SX → Prop} {s ab : Int32} :
    ∀ m z, 9 ≤ m + cg_cnt (L z) 8 → U z = true → (∀ y, U y = true → (∀ u, L z u = true → L y u = true) → a_parent y = P y) → ∀ (i : Nat) (a : Nat → Int32), i + m ≤ 20 → (∀ a', (∀ y, (U y = true ∧ ∀ u, L z u = true → L y u = true) → a' y = a y &&& (s ^^^ (-1))) → (∀ y, ¬ (U y = true ∧ ∀ u, L z u = true → L y u = true) → a' y = a y) → wX_takeLeaf_89 post ab f_vertexCount f_root f_usedNodes f_newWeight f_wholeChildren f_emptyChildren f_partChildren f_orderLength f_witnessKept a_kind a_parent a' a_children a_weight a_order a_value a_witnessCells a_row) →
    ∀ n, m + 1 < n → wX_takeLeaf_49 post s ab f_vertexCount f_root f_usedNodes f_newWeight f_wholeChildren f_emptyChildren f_partChildren f_orderLength f_witnessKept n (nI z) (nI i) a_kind a_parent a a_children a_weight a_order a_value a_witnessCells a_row := by
  intro m
  induction m with
  | zero =>
    intro z hm
    have := cg_cnt_le (L z) 8
    omega
  | succ m ih =>
    intro z hm hz hP i a him h n hn
    obtain ⟨k, rfl⟩ : ∃ k, n = k + 1 := ⟨n - 1, by omega⟩
    have iz : vp_in (nI z) 20 := ib_in (tw_lt B hz) (by omega)
    have lz : z < 20 := tw_lt B hz
    refine br_f (ib_20 (by omega)) (br_f (ib_neg (by omega)) ?_)
    rw [ib_cl (show z < 256 by omega), hP z hz (fun u hu => hu)]
    refine ⟨iz, iz, nm_e ⟨iz, nm_e (nm_r (nI_1 i) ?_)⟩⟩
    by_cases zr : z = r
    · rw [zr, tw_rP B]
      obtain ⟨k', rfl⟩ : ∃ k', k = k' + 1 := ⟨k - 1, by omega⟩
      have fin : wX_takeLeaf_89 post ab f_vertexCount f_root f_usedNodes f_newWeight f_wholeChildren f_emptyChildren f_partChildren f_orderLength f_witnessKept a_kind a_parent (upd a r (a r &&& (s ^^^ (-1)))) a_children a_weight a_order a_value a_witnessCells a_row := by
        apply h
        · intro y hy
          have : y = r := tw_top B hy.1 (by rw [← zr]; exact hy.2)
          rw [this, pk_us]
        · intro y hy
          refine pk_un (fun e => hy ?_)
          rw [e, zr]
          exact ⟨tw_rU B, fun u hu => hu⟩
      by_cases i20 : 20 ≤ i + 1
      · exact br_t (ib_20' i20 (by omega)) fin
      · exact br_f (ib_20 (by omega)) (br_t (by decide) fin)
    · obtain ⟨p, hp, pz⟩ := tw_par B hz zr
      rw [pz]
      have hc := tw_card B hp hz pz
      refine ih p (by omega) hp (fun y hy hs => hP y hy (fun u hu => hs u (tw_sub B hz hp pz hu))) (i + 1) _ (by omega) ?_ k (by omega)
      intro a' h1 h2
      apply h
      · intro y hy
        rcases tw_up B hz hy.1 hy.2 with e | ⟨q, hq, pq, sq⟩
        · subst e
          rw [h2 z (fun e => tw_np B hp hz pz e.2), pk_us]
        · have : q = p := tw_pu B hq hp pq pz
          subst this
          have yz : y ≠ z := by
            intro e
            subst e
            exact tw_np B hp hz pz sq
          rw [h1 y ⟨hy.1, sq⟩, pk_un yz]
      · intro y hy
        have yz : y ≠ z := by
          intro e
          subst e
          exact hy ⟨hz, fun u hu => hu⟩
        rw [h2 y (fun e => hy ⟨e.1, fun u hu => e.2 u (tw_sub B hz hp pz hu)⟩), pk_un yz]
theorem xw_takeLeaf {post : SX → Prop} {l v : Nat} (B : tw_B V (bt f_usedNodes) r a_kind a_parent (fun y => bt (a_leaves y)) E) (A : tw_A (bt f_usedNodes) a_kind a_parent) (hC : tw_C (bt f_usedNodes) a_parent (fun y => bt (a_children y))) (hr : f_root = nI r)
    (hl : bt f_usedNodes l = true) (k0 : a_kind l = 0) (hv : bt (a_leaves l) v = true) (eV : ∀ u, V' u = true ↔ V u = true ∧ u ≠ v)
    (h : ∀ root used kind parent leaves children, cg_V V' root used kind parent leaves children E → post (f_vertexCount, root, used, f_newWeight, f_wholeChildren, f_emptyChildren, f_partChildren, f_orderLength, f_witnessKept, kind, parent, leaves, children, a_weight, a_order, a_value, a_witnessCells, a_row)) :
    wpX_takeLeaf post (f_vertexCount, f_root, f_usedNodes, f_newWeight, f_wholeChildren, f_emptyChildren, f_partChildren, f_orderLength, f_witnessKept, a_kind, a_parent, a_leaves, a_children, a_weight, a_order, a_value, a_witnessCells, a_row) (nI l) := by
  have ll := tw_lt B hl
  have v8 := tw_L8 B hl hv
  obtain ⟨nc, sg⟩ := tw_leaf B hl k0 hv
  have eU : ∀ y, bt (f_usedNodes &&& (ib_1 l ^^^ (-1))) y = true ↔ bt f_usedNodes y = true ∧ y ≠ l := fun y => tw_an1 _ ll y
  unfold wpX_takeLeaf
  dsimp only
  rw [ib_cl (show l < 256 by omega)]
  refine ⟨ib_in ll (by omega), nm_e ⟨ib_in ll (by omega), nm_e (xw_freeNode ll ?_)⟩⟩
  dsimp only
  by_cases lr : l = r
  · have Pl : a_parent l = -1 := by rw [lr]; exact tw_rP B
    rw [Pl]
    refine br_f (by decide) (h _ _ _ _ _ _ (Or.inl ⟨?_, rfl, ?_⟩))
    · intro u
      refine cg_bF fun z => ?_
      obtain ⟨a, b⟩ := (eV u).mp z
      have := tw_rL B a
      rw [← lr] at this
      exact b ((sg u).mp this)
    · intro y
      refine cg_bF fun z => ?_
      obtain ⟨hy, yl⟩ := (eU y).mp z
      obtain ⟨u, hu, e⟩ := tw_not1 B hl sg hy yl
      have := tw_rL B (tw_LV B hy hu)
      rw [← lr] at this
      exact e ((sg u).mp this)
  · obtain ⟨p, hp, pl⟩ := tw_par B hl lr
    have lp' := tw_lt B hp
    have pl' : p ≠ l := Ne.symm (tw_self B hp hl pl)
    rw [pl]
    refine br_t (nI_pos' (by omega)) ⟨ib_in lp' (by omega), ib_in lp' (by omega), nm_e ⟨11, ?_⟩⟩
    rw [ib_cl (show p < 256 by omega), pk_un pl']
    refine xw_take_49 (a_parent := upd a_parent l (-1)) B 9 p (by omega) hp (fun y hy hs => pk_un (fun z => ?_)) 0 _ (by omega) ?_ 11 (by omega)
    · subst z
      exact tw_np B hp hl pl hs
    · intro a' h1 h2
      have anc : ∀ y, bt f_usedNodes y = true → y ≠ l → ∀ u, bt (a' y) u = true ↔ bt (a_leaves y) u = true ∧ u ≠ v := by
        intro y hy yl u
        by_cases an : ∀ u, bt (a_leaves p) u = true → bt (a_leaves y) u = true
        · rw [h1 y ⟨hy, an⟩, pk_un yl, tw_anG]
          constructor
          · rintro ⟨a, b⟩
            refine ⟨a, fun z => ?_⟩
            rw [z, hv] at b
            exact absurd b (by decide)
          · rintro ⟨a, b⟩
            exact ⟨a, cg_bF (fun z => b ((sg u).mp z))⟩
        · rw [h2 y (fun z => an z.2), pk_un yl]
          refine ⟨fun z => ⟨z, fun e => an ?_⟩, fun z => z.1⟩
          subst e
          rcases tw_up B hl hy (fun w hw => by rw [(sg w).mp hw]; exact z) with q | ⟨q, hq, pq, sq⟩
          · exact (yl q.symm).elim
          · rw [tw_pu B hq hp pq pl] at sq
            exact sq
      have eK : ∀ y, bt f_usedNodes y = true → y ≠ l → upd a_kind l 0 y = a_kind y := fun y _ yl => pk_un yl
      have eP : ∀ y, bt f_usedNodes y = true → y ≠ l → upd a_parent l (-1) y = a_parent y := fun y _ yl => pk_un yl
      have eC : ∀ y, bt f_usedNodes y = true → y ≠ l → ∀ c, bt (upd (upd a_children l 0) p (a_children p &&& (ib_1 l ^^^ (-1))) y) c = true ↔ bt (a_children y) c = true ∧ c ≠ l := by
        intro y hy yl c
        by_cases yp : y = p
        · subst yp
          rw [pk_us, tw_an1 _ ll]
        · rw [pk_un yp, pk_un yl]
          refine ⟨fun z => ⟨z, fun e => ?_⟩, fun z => z.1⟩
          rw [e] at z
          exact yp (tw_pu B hy hp ((hC y hy l).mp z).2 pl)
      unfold wX_takeLeaf_89
      refine ⟨ib_in lp' (by omega), ib_in lp' (by omega), ?_⟩
      rw [ib_cl (show p < 256 by omega)]
      have cp := eC p hp pl'
      generalize hD : upd (upd a_children l 0) p (a_children p &&& (ib_1 l ^^^ (-1))) = D at eC cp
      have hD' : upd (upd a_children l 0) p (a_children p &&& ((1 : Int32) <<< (nI l &&& 31) ^^^ (-1))) = D := hD
      rw [hD']
      by_cases one : (D p &&& (D p - 1)) = 0
      · have ho := (ib_one1 _).mp one
        obtain ⟨o, ol, uo, po⟩ := tw_oth B hp hl pl
        have bo : bt (D p) o = true := (cp o).mpr ⟨(hC p hp o).mpr ⟨uo, po⟩, ol⟩
        refine br_t one (xw_collapse B A hC hl k0 hp pl hv uo po ol ?_ eV hr eU eK eP anc eC h)
        intro c uc pc
        by_cases cl : c = l
        · exact Or.inl cl
        · exact Or.inr (ho c o ((cp c).mpr ⟨(hC p hp c).mpr ⟨uc, pc⟩, cl⟩) bo)
      · refine br_f one (h _ _ _ _ _ _ (Or.inr ⟨?_, r, hr, ?_, ?_, ?_⟩))
        · obtain ⟨u, hu, e⟩ := tw_not1 B hl sg hp pl'
          exact ⟨u, (eV u).mpr ⟨tw_LV B hp hu, e⟩⟩
        · refine tw_removeLeaf B hl k0 hp pl hv ?_ eV eU eK eP anc
          have h2 : ∃ c d, c ≠ d ∧ bt (D p) c = true ∧ bt (D p) d = true := by
            refine Classical.byContradiction fun z => one ((ib_one1 _).mpr fun i j hi hj => ?_)
            exact Classical.byContradiction fun q => z ⟨i, j, q, hi, hj⟩
          obtain ⟨c, d, cd, hc, hd⟩ := h2
          have hc' := (cp c).mp hc
          have hd' := (cp d).mp hd
          have hc2 := (hC p hp c).mp hc'.1
          have hd2 := (hC p hp d).mp hd'.1
          exact ⟨c, d, cd, hc'.2, hd'.2, hc2.1, hd2.1, hc2.2, hd2.2⟩
        · intro c y hc hy hq
          obtain ⟨uc, cl⟩ := (eU c).mp hc
          obtain ⟨uy, yl⟩ := (eU y).mp hy
          rw [eP c uc cl] at hq
          rw [eK c uc cl, eK y uy yl]
          exact A c y uc uy hq
        · intro y hy c
          obtain ⟨uy, yl⟩ := (eU y).mp hy
          show bt (D y) c = true ↔ _
          rw [eC y uy yl, hC y uy, eU c]
          constructor
          · rintro ⟨⟨uc, pc⟩, cl⟩
            exact ⟨⟨uc, cl⟩, by rw [eP c uc cl]; exact pc⟩
          · rintro ⟨⟨uc, cl⟩, pc⟩
            rw [eP c uc cl] at pc
            exact ⟨⟨uc, pc⟩, cl⟩
end
end
section
/-- the vertex names after v has gone -/
def cg_sk (v u : Nat) : Nat := if u < v then u else u + 1
theorem cg_sk_inj (v : Nat) : ∀ a b, cg_sk v a = cg_sk v b → a = b := by
  intro a b h
  unfold cg_sk at h
  split at h <;> split at h <;> omega
theorem cg_sk_sur {v w : Nat} (h : w ≠ v) : ∃ u, cg_sk v u = w := by
  rcases Nat.lt_or_ge w v with z | z
  · exact ⟨w, by unfold cg_sk; rw [if_pos z]⟩
  · exact ⟨w - 1, by unfold cg_sk; rw [if_neg (by omega)]; omega⟩
theorem cg_sk_ne (v u : Nat) : cg_sk v u ≠ v := by
  unfold cg_sk
  split <;> omega
theorem cg_sk_lt {v u n : Nat} (hv : v < n) : cg_sk v u < n ↔ u < n - 1 := by
  unfold cg_sk
  split <;> omega
/-- a list with cell v cut out -/
def cg_cut (W : Nat → Int32) (v n : Nat) : Nat → Int32 := fun j => if v ≤ j ∧ j < n then W (j + 1) else W j
theorem cg_cut_0 (W : Nat → Int32) (v : Nat) : cg_cut W v v = W := by
  funext j
  unfold cg_cut
  rw [if_neg (by omega)]
theorem cg_cut_s (W : Nat → Int32) {v i : Nat} (h : v ≤ i) : upd (cg_cut W v i) i (cg_cut W v i (i + 1)) = cg_cut W v (i + 1) := by
  funext j
  unfold upd cg_cut
  by_cases e : j = i
  · subst e
    rw [if_pos rfl, if_neg (by omega), if_pos (by omega)]
  · rw [if_neg e]
    by_cases z : v ≤ j ∧ j < i
    · rw [if_pos z, if_pos (by omega)]
    · rw [if_neg z, if_neg (by omega)]
theorem ib_low : ∀ v, v < 8 → ∀ j, j < 32 → bt (ib_1 v - 1) j = decide (j < v) := by decide +kernel
theorem ib_shift {x : Int32} {v : Nat} (hv : v < 8) (hx : ∀ j, bt x j = true → j < 8) (u : Nat) :
    bt ((x &&& (ib_1 v - 1)) ||| ((x >>> ((1 : Int32) &&& 31)) &&& ((ib_1 v - 1) ^^^ (-1)))) u = bt x (cg_sk v u) := by
  have hf : ∀ j, 8 ≤ j → bt x j = false := fun j hj => cg_bF (fun z => by have := hx j z; omega)
  have e1 : ((1 : Int32) &&& 31) = (nI 1 &&& 31) := rfl
  rcases Nat.lt_or_ge u 32 with h | h
  · rw [b_or, b_and, b_and, ib_low v hv u h, ib_not _ h, ib_low v hv u h, e1, b_sshr 1 (by omega) x h]
    unfold cg_sk
    by_cases z : u < v
    · rw [if_pos z, decide_eq_true z]; simp
    · rw [if_neg z, decide_eq_false z]
      by_cases q : 1 + u < 32
      · rw [if_pos q, Nat.add_comm 1 u]; simp
      · rw [if_neg q, hf 31 (by omega), hf (u + 1) (by omega)]; simp
  · rw [b_big h, b_big]
    unfold cg_sk
    split <;> omega
section
variable {f_vertexCount f_root f_usedNodes f_newWeight f_wholeChildren f_emptyChildren f_partChildren f_orderLength f_witnessKept : Int32} {a_kind a_parent a_leaves a_children a_weight a_order a_value a_witnessCells a_row : Nat → Int32}
variable {n : Nat} {E E' : Nat → Nat → Bool}
theorem xw_removeVertex {post : Int32 → SX → Prop} {v : Nat} (T : cg_T n f_root f_usedNodes a_kind a_parent a_leaves a_children E) (n8 : n ≤ 8) (hn : f_vertexCount = nI n) (hv : v < n)
    (eE : ∀ u w, u < n - 1 → w < n - 1 → E' u w = E (cg_sk v u) (cg_sk v w))
    (h : ∀ root used kind parent leaves children, cg_T (n - 1) root used kind parent leaves children E' → post (nI (n - 1)) (nI (n - 1), root, used, f_newWeight, f_wholeChildren, f_emptyChildren, f_partChildren, f_orderLength, 0, kind, parent, leaves, children, cg_cut a_weight v (n - 1), a_order, a_value, a_witnessCells, a_row)) :
    wpX_removeVertex post (f_vertexCount, f_root, f_usedNodes, f_newWeight, f_wholeChildren, f_emptyChildren, f_partChildren, f_orderLength, f_witnessKept, a_kind, a_parent, a_leaves, a_children, a_weight, a_order, a_value, a_witnessCells, a_row) (nI v) := by
  rcases T with ⟨n0, _⟩ | ⟨_, _, r, hr, B, A, hC⟩
  · omega
  subst hn
  unfold wpX_removeVertex
  dsimp only
  refine br_f (ib_neg (by omega)) (br_t (nI_lt hv (by omega)) ?_)
  refine xw_lowestNode B hC hr (A := ib_1 v) (fun w hw => by rw [(tw_b1 (by omega) w).mp hw]; simp [hv]) ?_
  intro l hl hs hno
  have lv : bt (a_leaves l) v = true := hs v ((tw_b1 (by omega) v).mpr rfl)
  have k0 : a_kind l = 0 := by
    refine Classical.byContradiction fun z => ?_
    obtain ⟨_, cov, _⟩ := tw_inn B hl z
    obtain ⟨c, uc, pc, lc⟩ := cov v lv
    exact hno c uc pc (fun w hw => by rw [(tw_b1 (by omega) w).mp hw]; exact lc)
  refine xw_takeLeaf (V' := fun u => decide (u < n) && !decide (u = v)) B A hC hr hl k0 lv (fun u => by simp) ?_
  intro root used kind parent leaves children T
  dsimp only
  refine nm_e ⟨21, ?_⟩
  -- the weights
  have wloop : ∀ (leaves' : Nat → Int32), cg_T (n - 1) root used kind parent leaves' children E' →
      wX_removeVertex_91 post (nI (n - 1)) root used f_newWeight f_wholeChildren f_emptyChildren f_partChildren f_orderLength f_witnessKept (n + 1) (nI v) kind parent leaves' children a_weight a_order a_value a_witnessCells a_row := by
    intro leaves' T'
    suffices loop : ∀ d i, i + d = n - 1 → v ≤ i → ∀ f, d < f → wX_removeVertex_91 post (nI (n - 1)) root used f_newWeight f_wholeChildren f_emptyChildren f_partChildren f_orderLength f_witnessKept f (nI i) kind parent leaves' children (cg_cut a_weight v i) a_order a_value a_witnessCells a_row by
      have := loop (n - 1 - v) v (by omega) (Nat.le_refl v) (n + 1) (by omega)
      rw [cg_cut_0] at this
      exact this
    intro d
    induction d with
    | zero =>
      intro i hi hvi f hf
      obtain ⟨m, rfl⟩ : ∃ m, f = m + 1 := ⟨f - 1, by omega⟩
      have : i = n - 1 := by omega
      subst this
      exact br_t (nI_le (Nat.le_refl _) (by omega)) (h root used kind parent leaves' children T')
    | succ d ih =>
      intro i hi hvi f hf
      obtain ⟨m, rfl⟩ : ∃ m, f = m + 1 := ⟨f - 1, by omega⟩
      refine br_f (nI_ge (by omega) (by omega)) ?_
      rw [nI_1 i, ib_cl (show i < 256 by omega), ib_cl (show i + 1 < 256 by omega), cg_cut_s a_weight hvi]
      exact ⟨ib_in (show i + 1 < 8 by omega) (by omega), ib_in (show i < 8 by omega) (by omega), nm_e (nm_e (ih (i + 1) (by omega) (by omega) m (by omega)))⟩
  suffices loop : ∀ d j, j + d = 20 → ∀ a : Nat → Int32, (∀ x, a x = if x < j then ((leaves x &&& (ib_1 v - 1)) ||| ((leaves x >>> ((1 : Int32) &&& 31)) &&& ((ib_1 v - 1) ^^^ (-1)))) else leaves x) → ∀ f, d < f →
      wX_removeVertex_36 post (nI v) (ib_1 v - 1) (nI n) root used f_newWeight f_wholeChildren f_emptyChildren f_partChildren f_orderLength f_witnessKept f (nI j) kind parent a children a_weight a_order a_value a_witnessCells a_row from
    loop 20 0 rfl leaves (fun x => by rw [if_neg (Nat.not_lt_zero x)]) 21 (by omega)
  intro d
  induction d with
  | zero =>
    intro j hj a ha f hf
    obtain ⟨m, rfl⟩ : ∃ m, f = m + 1 := ⟨f - 1, by omega⟩
    have : j = 20 := by omega
    subst this
    refine br_t (by decide) (nm_r (e' := nI (n - 1)) (pk_sub (a := n) (b := 1) (by omega)) ⟨n + 1, wloop a ?_⟩)
    rcases T with ⟨hV, hr', hU⟩ | ⟨⟨w, hw⟩, r', hr', B', A', hC'⟩
    · have : n - 1 = 0 := by
        refine Classical.byContradiction fun z => ?_
        have h0 := hV (if v = 0 then 1 else 0)
        by_cases v0 : v = 0
        · rw [if_pos v0] at h0; simp at h0; omega
        · rw [if_neg v0] at h0; simp at h0; omega
      exact Or.inl ⟨this, hr', hU⟩
    · have hw' : w < n ∧ w ≠ v := by simpa using hw
      refine Or.inr ⟨by omega, by omega, r', hr', ?_, A', hC'⟩
      refine tw_rename B' (cg_sk v) ?_ (cg_sk_inj v) ?_ ?_ ?_ (fun u w hu hw => eE u w (of_decide_eq_true hu) (of_decide_eq_true hw))
      · intro u hu
        have := of_decide_eq_true hu
        omega
      · intro w hw
        have hw' : w < n ∧ w ≠ v := by simpa using hw
        exact cg_sk_sur hw'.2
      · intro u
        have h1 := cg_sk_lt (u := u) hv
        have h2 := cg_sk_ne v u
        simp [h1, h2]
      · intro y hy u
        show bt (a y) u = true ↔ _
        rw [ha y, if_pos (tw_lt B' hy), ib_shift (by omega) (fun j hj => tw_L8 B' hy hj)]
  | succ d ih =>
    intro j hj a ha f hf
    obtain ⟨m, rfl⟩ : ∃ m, f = m + 1 := ⟨f - 1, by omega⟩
    refine br_f (ib_20 (by omega)) ⟨ib_in (show j < 20 by omega) (by omega), nm_e ⟨ib_in (show j < 20 by omega) (by omega), nm_e (nm_r (nI_1 j) (ih (j + 1) (by omega) _ ?_ m (by omega)))⟩⟩
    intro x
    rw [ib_cl (show j < 256 by omega)]
    by_cases e : x = j
    · subst e
      rw [pk_us, if_pos (by omega), ha x, if_neg (by omega)]
    · rw [pk_un e, ha x]
      by_cases z : x < j
      · rw [if_pos z, if_pos (by omega)]
      · rw [if_neg z, if_neg (by omega)]
end
end
section
/-! ===== the relation ===== -/
def cg_E (row : Nat → Int32) : Nat → Nat → Bool := fun u v => bt (row u) v
def cg_G (n : Nat) (row : Nat → Int32) : Prop :=
  (∀ u v, u < 8 → bt (row u) v = true → u < n ∧ v < n) ∧ (∀ u v, u < n → v < n → bt (row u) v = bt (row v) u) ∧ (∀ u, u < n → bt (row u) u = false)
def cg_R (n : Nat) (vc root used nw wk : Int32) (kind parent leaves children weight cells : Nat → Int32) (fresh yn hw : Int32) (row weight' wit : Nat → Int32) : Prop :=
  n ≤ 8 ∧ vc = nI n ∧ yn = nI n ∧ weight' = weight ∧ (∀ j, ∃ w, w ≤ 100 ∧ weight j = nI w) ∧ (nw = fresh ∧ ∃ w, w ≤ 100 ∧ fresh = nI w) ∧
  cg_G n row ∧ cg_T n root used kind parent leaves children (cg_E row) ∧ (wk = hw ∧ (hw = 0 ∨ (hw = 1 ∧ ∀ k, k < 4 → cells k = wit k)))
/-- the relation at the head of a turn -/
def i_Rel (_ : Nat) (u : SX) (v : SY) : Prop :=
  match u, v with
  | (vc, root, used, nw, _, _, _, _, wk, kind, parent, leaves, children, weight, _, _, cells, _), (fresh, yn, hw, row, weight', wit, _, _, _, _) => ∃ n, cg_R n vc root used nw wk kind parent leaves children weight cells fresh yn hw row weight' wit
theorem i_up {k : Nat} {u : SX} {v : SY} (h : i_Rel k u v) : i_Rel (k + 3) u v := h
theorem i_init {w : Int32} (hw : ∃ k, k ≤ 100 ∧ w = nI k) : i_Rel 1 (0, (-1), 0, w, 0, 0, 0, 0, 0, (fun _ => 0), (fun _ => 0), (fun _ => 0), (fun _ => 0), (fun _ => 0), (fun _ => 0), (fun _ => 0), (fun _ => 0), (fun _ => 0)) (w, 0, 0, (fun _ => 0), (fun _ => 0), (fun _ => 0), (fun _ => 0), (fun _ => 0), (fun _ => 0), (fun _ => 0)) := by
  refine ⟨0, by omega, rfl, rfl, rfl, fun j => ⟨0, by omega, rfl⟩, ⟨rfl, hw⟩, ⟨?_, ?_, ?_⟩, Or.inl ⟨rfl, rfl, fun x => b_0 x⟩, rfl, Or.inl rfl⟩
  · intro u v _ h; exact (tw_b0 v h).elim
  · intro u v hu; omega
  · intro u hu; omega
theorem i_vc0 (k0 : Int32) : wpX_init (fun u => wpY_init (fun v => i_Rel 1 u v) k0) k0 := by
  by_cases h0 : 0 ≤ k0
  · refine br_t h0 ?_
    by_cases h1 : k0 ≤ 100
    · refine br_t h1 (br_t h0 (br_t h1 (i_init ?_)))
      obtain ⟨j, hj, e⟩ := nI_of2 (x := k0) (M := 100) (n := 100) (by decide) (Int32.not_lt.mpr h0) h1
      exact ⟨j, hj, e⟩
    · exact br_f h1 (br_t h0 (br_f h1 (i_init ⟨100, by omega, rfl⟩)))
  · exact br_f h0 (br_f h0 (i_init ⟨0, by omega, rfl⟩))
theorem i_vc_size {k : Nat} {u : SX} {v : SY} (I : i_Rel k u v) (hk : k + 3 ≤ 1537) : wpX_size (fun r => wpY_size (fun r' => r' = r ∧ i_Rel (k + 3) u v) v) u := by
  obtain ⟨vc, root, used, nw, x1, x2, x3, x4, wk, kind, parent, leaves, children, weight, x5, x6, cells, x7⟩ := u
  obtain ⟨fresh, yn, hw, row, weight', wit, y1, y2, y3, y4⟩ := v
  obtain ⟨n, n8, e1, e2, rest⟩ := I
  exact ⟨e2.trans e1.symm, n, n8, e1, e2, rest⟩
theorem i_vc_witness {k : Nat} {u : SX} {v : SY} (I : i_Rel k u v) (hk : k + 3 ≤ 1537) (v1 : Int32) : wpX_witness (fun r => wpY_witness (fun r' => r' = r ∧ i_Rel (k + 3) u v) v v1) u v1 := by
  obtain ⟨vc, root, used, nw, x1, x2, x3, x4, wk, kind, parent, leaves, children, weight, x5, x6, cells, x7⟩ := u
  obtain ⟨fresh, yn, hw, row, weight', wit, y1, y2, y3, y4⟩ := v
  have J := I
  obtain ⟨n, _, _, _, _, _, _, _, _, rfl, hc⟩ := J
  unfold wpX_witness wpY_witness
  dsimp only
  rcases hc with z | ⟨z, hc⟩
  · exact br_t z (br_t z ⟨rfl, I⟩)
  · have z0 : ¬ wk = 0 := by rw [z]; decide
    refine br_f z0 ?_
    by_cases h0 : v1 < 0
    · exact br_t h0 (br_f z0 (br_t h0 ⟨rfl, I⟩))
    · refine br_f h0 ?_
      by_cases h3 : v1 ≤ 3
      · obtain ⟨j, hj, rfl⟩ := nI_of2 (x := v1) (M := 3) (n := 3) (by decide) h0 h3
        have ij : vp_in (nI j) 4 := ib_in (show j < 4 by omega) (by omega)
        refine br_t h3 ⟨ij, br_f z0 (br_f h0 (br_t h3 ⟨ij, ?_, I⟩))⟩
        rw [ib_cl (show j < 256 by omega)]
        exact (hc j (by omega)).symm
      · exact br_f h3 (br_f z0 (br_f h0 (br_f h3 ⟨rfl, I⟩)))
theorem i_vc_setWeight {k : Nat} {u : SX} {v : SY} (I : i_Rel k u v) (hk : k + 3 ≤ 1537) (v1 : Int32) (v2 : Int32) : wpX_setWeight (fun r u' => wpY_setWeight (fun r' v' => r' = r ∧ i_Rel (k + 3) u' v') v v1 v2) u v1 v2 := by
  obtain ⟨vc, root, used, nw, x1, x2, x3, x4, wk, kind, parent, leaves, children, weight, x5, x6, cells, x7⟩ := u
  obtain ⟨fresh, yn, hw, row, weight', wit, y1, y2, y3, y4⟩ := v
  have J := I
  obtain ⟨n, n8, rfl, rfl, rfl, hwt, rest⟩ := J
  unfold wpX_setWeight wpY_setWeight wpY_isVertex
  dsimp only
  have z0 : ¬ (1 : Int32) = 0 := by decide
  by_cases h0 : v1 < 0
  · exact br_t h0 (br_t h0 (br_t rfl ⟨rfl, I⟩))
  · refine br_f h0 ?_
    by_cases hn : v1 < nI n
    · have hn' : ¬ nI n ≤ v1 := Int32.not_le.mpr hn
      refine br_t hn ?_
      by_cases g0 : v2 < 0
      · exact br_t g0 (br_f h0 (br_f hn' (br_f z0 (br_t g0 ⟨rfl, I⟩))))
      · refine br_f g0 ?_
        by_cases g1 : v2 ≤ 100
        · obtain ⟨j, hj, rfl⟩ := nI_of h0
          have jn := (nI_ltI hj (by omega)).mp hn
          have ij : vp_in (nI j) 8 := ib_in (show j < 8 by omega) (by omega)
          refine br_t g1 ⟨ij, nm_e (br_f h0 (br_f hn' (br_f z0 (br_f g0 (br_t g1 ⟨ij, nm_e ⟨rfl, n, n8, rfl, rfl, rfl, ?_, rest⟩⟩)))))⟩
          intro i
          rw [ib_cl (show j < 256 by omega)]
          by_cases e : i = j
          · subst e
            rw [pk_us]
            obtain ⟨w, hw, ew⟩ := nI_of2 (x := v2) (M := 100) (n := 100) (by decide) g0 g1
            exact ⟨w, hw, ew⟩
          · rw [pk_un e]; exact hwt i
        · exact br_f g1 (br_f h0 (br_f hn' (br_f z0 (br_f g0 (br_f g1 ⟨rfl, I⟩)))))
    · have hn' : nI n ≤ v1 := Int32.not_lt.mp hn
      exact br_f hn (br_f h0 (br_t hn' (br_t rfl ⟨rfl, I⟩)))
end
section
/-! ===== Y: small methods ===== -/
/-- a Bool as the int that Java answers -/
def cg_b (x : Bool) : Int32 := if x = true then 1 else 0
theorem cg_b_n (x : Bool) : narrow .boolean (.int (cg_b x)) = .int (cg_b x) := by cases x <;> rfl
theorem cg_b_0 {x : Bool} : cg_b x = 0 ↔ x = false := by cases x <;> decide
theorem cg_b_t {x : Bool} (h : x = true) : ¬ cg_b x = 0 := by rw [h]; decide
/-- the ints that are no set -/
def cg_bad (n : Nat) (x : Int32) : Prop := x < 0 ∨ (¬ x < 0 ∧ ib_1 n ≤ x)
theorem cg_isSet {n : Nat} (n8 : n ≤ 8) (x : Int32) : cg_bad n x ∨ ∃ p, p < 2 ^ n ∧ x = nI p := by
  by_cases h0 : x < 0
  · exact Or.inl (Or.inl h0)
  · by_cases h1 : ib_1 n ≤ x
    · exact Or.inl (Or.inr ⟨h0, h1⟩)
    · obtain ⟨j, hj, rfl⟩ := nI_of h0
      refine Or.inr ⟨j, ?_, rfl⟩
      rw [ib_set n8] at h1
      have hp : 2 ^ n ≤ 2 ^ 8 := Nat.pow_le_pow_right (by decide) n8
      rw [nI_leI (by omega) hj] at h1
      omega
theorem cg_p256 {n p : Nat} (n8 : n ≤ 8) (hp : p < 2 ^ n) : p < 256 := by
  have h : 2 ^ n ≤ 2 ^ 8 := Nat.pow_le_pow_right (by decide) n8
  omega
theorem cg_pbit {n p : Nat} (hp : p < 2 ^ n) {j : Nat} (h : p.testBit j = true) : j < n := by
  refine Nat.lt_of_not_le fun z => ?_
  rw [Nat.testBit_lt_two_pow (Nat.lt_of_lt_of_le hp (Nat.pow_le_pow_right (by decide) z))] at h
  exact absurd h (by decide)
/-- a proposition as a Bool -/
noncomputable def cg_D (p : Prop) : Bool := @decide p (Classical.propDecidable p)
theorem cg_D_iff {p : Prop} : cg_D p = true ↔ p := @decide_eq_true_iff p (Classical.propDecidable p)
theorem cg_D_f {p : Prop} : cg_D p = false ↔ ¬ p := @decide_eq_false_iff_not p (Classical.propDecidable p)
/-- p's bits lie in A -/
noncomputable def cg_in (p : Nat) (A : Nat → Bool) : Bool := cg_D (∀ i, i < 8 → p.testBit i = true → A i = true)
/-- any two of p's vertices are linked as w says -/
noncomputable def cg_uni (E : Nat → Nat → Bool) (w : Bool) (p : Nat) : Bool := cg_D (∀ u, u < 8 → ∀ v, v < 8 → u ≠ v → p.testBit u = true → p.testBit v = true → E u v = w)
theorem cg_in_iff {p : Nat} {A : Nat → Bool} : cg_in p A = true ↔ ∀ i, i < 8 → p.testBit i = true → A i = true := cg_D_iff
theorem cg_uni_iff {E : Nat → Nat → Bool} {w : Bool} {p : Nat} : cg_uni E w p = true ↔ ∀ u, u < 8 → ∀ v, v < 8 → u ≠ v → p.testBit u = true → p.testBit v = true → E u v = w := cg_D_iff
section
variable {f_vertexCount f_root f_usedNodes f_newWeight f_wholeChildren f_emptyChildren f_partChildren f_orderLength f_witnessKept : Int32} {a_kind a_parent a_leaves a_children a_weight a_order a_value a_witnessCells a_row : Nat → Int32}
theorem xw_isSet0 {post : Int32 → Prop} {n : Nat} {x : Int32} (hn : f_vertexCount = nI n) (hx : cg_bad n x) (h : post 0) : wpX_isSet post (f_vertexCount, f_root, f_usedNodes, f_newWeight, f_wholeChildren, f_emptyChildren, f_partChildren, f_orderLength, f_witnessKept, a_kind, a_parent, a_leaves, a_children, a_weight, a_order, a_value, a_witnessCells, a_row) x := by
  subst hn
  rcases hx with z | ⟨z, q⟩
  · exact br_t z h
  · exact br_f z (br_t q h)
theorem xw_isSet1 {post : Int32 → Prop} {n p : Nat} (n8 : n ≤ 8) (hn : f_vertexCount = nI n) (hp : p < 2 ^ n) (h : post 1) : wpX_isSet post (f_vertexCount, f_root, f_usedNodes, f_newWeight, f_wholeChildren, f_emptyChildren, f_partChildren, f_orderLength, f_witnessKept, a_kind, a_parent, a_leaves, a_children, a_weight, a_order, a_value, a_witnessCells, a_row) (nI p) := by
  subst hn
  have := cg_p256 n8 hp
  refine br_f (ib_neg (by omega)) (br_f ?_ h)
  show ¬ ib_1 n ≤ nI p
  rw [ib_set n8]
  exact nI_ge hp (by have h : 2 ^ n ≤ 2 ^ 8 := Nat.pow_le_pow_right (by decide) n8
                     omega)
end
section
variable {f_fresh f_n f_hasWitness : Int32} {a_row a_weight a_witness a_label a_order a_module a_least : Nat → Int32}
theorem yw_isSet0 {post : Int32 → Prop} {n : Nat} {x : Int32} (hn : f_n = nI n) (hx : cg_bad n x) (h : post 0) : wpY_isSet post (f_fresh, f_n, f_hasWitness, a_row, a_weight, a_witness, a_label, a_order, a_module, a_least) x := by
  subst hn
  rcases hx with z | ⟨z, q⟩
  · exact br_t z h
  · exact br_f z (br_t q h)
theorem yw_isSet1 {post : Int32 → Prop} {n p : Nat} (n8 : n ≤ 8) (hn : f_n = nI n) (hp : p < 2 ^ n) (h : post 1) : wpY_isSet post (f_fresh, f_n, f_hasWitness, a_row, a_weight, a_witness, a_label, a_order, a_module, a_least) (nI p) := by
  subst hn
  have := cg_p256 n8 hp
  refine br_f (ib_neg (by omega)) (br_f ?_ h)
  show ¬ ib_1 n ≤ nI p
  rw [ib_set n8]
  exact nI_ge hp (by have h : 2 ^ n ≤ 2 ^ 8 := Nat.pow_le_pow_right (by decide) n8
                     omega)
theorem yw_has {post : Int32 → Prop} {s : Int32} {v : Nat} (hv : v < 32) (h : post (cg_b (bt s v))) : wpY_has post (f_fresh, f_n, f_hasWitness, a_row, a_weight, a_witness, a_label, a_order, a_module, a_least) s (nI v) := by
  unfold wpY_has
  dsimp only
  by_cases z : bt s v = true
  · rw [z] at h
    exact br_t ((ib_bit1 s hv).mpr z) h
  · rw [cg_bF z] at h
    exact br_f (fun q => z ((ib_bit1 s hv).mp q)) h
theorem yw_linked {post : Int32 → Prop} {u v : Nat} (hu : u < 8) (hv : v < 32) (h : post (cg_b (bt (a_row u) v))) : wpY_linked post (f_fresh, f_n, f_hasWitness, a_row, a_weight, a_witness, a_label, a_order, a_module, a_least) (nI u) (nI v) := by
  unfold wpY_linked
  dsimp only
  rw [ib_cl (show u < 256 by omega)]
  exact ⟨ib_in hu (by omega), yw_has hv ⟨cg_b_n _, h⟩⟩
theorem yw_within {post : Int32 → Prop} {p : Nat} {S : Int32} (hp : p < 256) (h : post (cg_b (cg_in p (bt S)))) : wpY_within post (f_fresh, f_n, f_hasWitness, a_row, a_weight, a_witness, a_label, a_order, a_module, a_least) (nI p) S := by
  unfold wpY_within
  dsimp only
  have key : (nI p &&& (S ^^^ (-1))) = 0 ↔ cg_in p (bt S) = true := by
    rw [ib_sub, cg_in_iff]
    constructor
    · intro z i _ hi
      exact z i (by rw [ib_nI' (by omega)]; exact hi)
    · intro z i hi
      rw [ib_nI' (by omega)] at hi
      exact z i (cg_pbit (n := 8) hp hi) hi
  by_cases z : cg_in p (bt S) = true
  · rw [z] at h
    exact br_t (key.mpr z) h
  · rw [cg_bF z] at h
    exact br_f (fun q => z (key.mp q)) h
theorem yw_isVertex0 {post : Int32 → Prop} {x : Int32} (hx : x < 0 ∨ (¬ x < 0 ∧ f_n ≤ x)) (h : post 0) : wpY_isVertex post (f_fresh, f_n, f_hasWitness, a_row, a_weight, a_witness, a_label, a_order, a_module, a_least) x := by
  rcases hx with z | ⟨z, q⟩
  · exact br_t z h
  · exact br_f z (br_t q h)
theorem yw_isVertex1 {post : Int32 → Prop} {n u : Nat} (n8 : n ≤ 8) (hn : f_n = nI n) (hu : u < n) (h : post 1) : wpY_isVertex post (f_fresh, f_n, f_hasWitness, a_row, a_weight, a_witness, a_label, a_order, a_module, a_least) (nI u) := by
  subst hn
  exact br_f (ib_neg (by omega)) (br_f (nI_ge hu (by omega)) h)
theorem yw_sizeOf {post : Int32 → Prop} {s : Int32} (h : post (nI (cg_cnt (bt s) 8))) : wpY_sizeOf post (f_fresh, f_n, f_hasWitness, a_row, a_weight, a_witness, a_label, a_order, a_module, a_least) s := by
  suffices loop : ∀ d j, j + d = 8 → ∀ f, d < f → wY_sizeOf_4 post s f_fresh f_n f_hasWitness a_row a_weight a_witness a_label a_order a_module a_least f (nI (cg_cnt (bt s) j)) (nI j) from ⟨9, loop 8 0 rfl 9 (by omega)⟩
  intro d
  induction d with
  | zero =>
    intro j hj f hf
    obtain ⟨m, rfl⟩ : ∃ m, f = m + 1 := ⟨f - 1, by omega⟩
    have : j = 8 := by omega
    subst this
    exact br_t (by decide) h
  | succ d ih =>
    intro j hj f hf
    obtain ⟨m, rfl⟩ : ∃ m, f = m + 1 := ⟨f - 1, by omega⟩
    refine br_f (ib_8 (by omega)) (yw_has (by omega) ?_)
    have key := ih (j + 1) (by omega) m (by omega)
    have e : cg_cnt (bt s) (j + 1) = cg_cnt (bt s) j + (if bt s j = true then 1 else 0) := rfl
    rw [e] at key
    by_cases z : bt s j = true
    · rw [if_pos z] at key
      exact br_f (cg_b_t z) (nm_r (nI_1 _) (nm_r (nI_1 _) key))
    · rw [if_neg z] at key
      exact br_t (cg_b_0.mpr (cg_bF z)) (nm_r (nI_1 _) key)
/-- uniform, of a part of the vertices -/
theorem yw_uniform {post : Int32 → Prop} {n p : Nat} {w : Bool} (n8 : n ≤ 8) (hn : f_n = nI n) (hp : p < 2 ^ n) (h : post (cg_b (cg_uni (cg_E a_row) w p && decide (p ≠ 0)))) : wpY_uniform post (f_fresh, f_n, f_hasWitness, a_row, a_weight, a_witness, a_label, a_order, a_module, a_least) (nI p) (cg_b w) := by
  subst hn
  have p256 := cg_p256 n8 hp
  have bp : ∀ j, bt (nI p) j = p.testBit j := fun j => ib_nI' (by omega) j
  -- the inner loop: all pairs (u, v), v from j on
  have inner : ∀ (u : Nat) (J : Int32 → Prop), u < n → ((∀ v, v < n → u ≠ v → p.testBit u = true → p.testBit v = true → cg_E a_row u v = w) → J (nI (u + 1))) → ((∃ v, v < n ∧ u ≠ v ∧ p.testBit u = true ∧ p.testBit v = true ∧ cg_E a_row u v ≠ w) → post 0) →
      ∀ d j, j + d = n → (∀ v, v < j → u ≠ v → p.testBit u = true → p.testBit v = true → cg_E a_row u v = w) → ∀ f, d < f → wY_uniform_13 post J (nI p) (cg_b w) (nI u) f_fresh (nI n) f_hasWitness a_row a_weight a_witness a_label a_order a_module a_least f (nI j) := by
    intro u J hu hJ h0 d
    induction d with
    | zero =>
      intro j hj hg f hf
      obtain ⟨m, rfl⟩ : ∃ m, f = m + 1 := ⟨f - 1, by omega⟩
      have : j = n := by omega
      subst this
      exact br_t (nI_le (Nat.le_refl _) (by omega)) (nm_r (nI_1 u) (hJ hg))
    | succ d ih =>
      intro j hj hg f hf
      obtain ⟨m, rfl⟩ : ∃ m, f = m + 1 := ⟨f - 1, by omega⟩
      have ext : (u ≠ j → p.testBit u = true → p.testBit j = true → cg_E a_row u j = w) → ∀ v, v < j + 1 → u ≠ v → p.testBit u = true → p.testBit v = true → cg_E a_row u v = w := by
        intro z v hv
        by_cases e : v = j
        · subst e; exact z
        · exact hg v (by omega)
      refine br_f (nI_ge (by omega) (by omega)) ?_
      by_cases e : u = j
      · exact br_t (by rw [e]) (nm_r (nI_1 j) (ih (j + 1) (by omega) (ext (fun z => (z e).elim)) m (by omega)))
      · refine br_f (fun z => e ((nI_eq (by omega) (by omega)).mp z)) (yw_has (by omega) ?_)
        rw [bp]
        by_cases bu : p.testBit u = true
        · refine br_f (cg_b_t bu) (yw_has (by omega) ?_)
          rw [bp]
          by_cases bj : p.testBit j = true
          · refine br_f (cg_b_t bj) (yw_linked (by omega) (by omega) ?_)
            by_cases ee : bt (a_row u) j = w
            · rw [ee]
              exact br_t rfl (nm_r (nI_1 j) (ih (j + 1) (by omega) (ext (fun _ _ _ => ee)) m (by omega)))
            · refine br_f ?_ (h0 ⟨j, by omega, e, bu, bj, ee⟩)
              intro z
              apply ee
              revert z
              cases bt (a_row u) j <;> cases w <;> decide
          · exact br_t (cg_b_0.mpr (cg_bF bj)) (nm_r (nI_1 j) (ih (j + 1) (by omega) (ext (fun _ _ z => (bj z).elim)) m (by omega)))
        · exact br_t (cg_b_0.mpr (cg_bF bu)) (nm_r (nI_1 j) (ih (j + 1) (by omega) (ext (fun _ z _ => (bu z).elim)) m (by omega)))
  suffices loop : ∀ d i, i + d = n → (∀ u, u < i → ∀ v, v < n → u ≠ v → p.testBit u = true → p.testBit v = true → cg_E a_row u v = w) → ∀ f, d < f → wY_uniform_2 post (nI p) (cg_b w) f_fresh (nI n) f_hasWitness a_row a_weight a_witness a_label a_order a_module a_least f (nI i) from
    ⟨n + 1, loop n 0 (by omega) (fun u hu => (Nat.not_lt_zero u hu).elim) (n + 1) (by omega)⟩
  intro d
  induction d with
  | zero =>
    intro i hi hg f hf
    obtain ⟨m, rfl⟩ : ∃ m, f = m + 1 := ⟨f - 1, by omega⟩
    have : i = n := by omega
    subst this
    refine br_t (nI_le (Nat.le_refl _) (by omega)) ?_
    have hu : cg_uni (cg_E a_row) w p = true := cg_uni_iff.mpr (fun u _ v _ e bu bv => hg u (cg_pbit hp bu) v (cg_pbit hp bv) e bu bv)
    rw [hu, Bool.true_and] at h
    by_cases p0 : p = 0
    · subst p0
      exact br_t rfl h
    · rw [decide_eq_true p0] at h
      exact br_f (nI_ne0 (by omega) (by omega)) h
  | succ d ih =>
    intro i hi hg f hf
    obtain ⟨m, rfl⟩ : ∃ m, f = m + 1 := ⟨f - 1, by omega⟩
    refine br_f (nI_ge (by omega) (by omega)) ⟨n + 1, inner i _ (by omega) ?_ ?_ n 0 (by omega) (fun v hv => (Nat.not_lt_zero v hv).elim) (n + 1) (by omega)⟩
    · intro z
      refine ih (i + 1) (by omega) ?_ m (by omega)
      intro u hu
      by_cases e : u = i
      · subst e; exact z
      · exact hg u (by omega)
    · rintro ⟨v, hv, e, bu, bv, ne⟩
      have hf : cg_uni (cg_E a_row) w p = false := cg_bF (fun z => ne (cg_uni_iff.mp z i (by omega) v (by omega) e bu bv))
      rw [hf] at h
      exact h
end
end
section
/-! ===== adjacent, distance ===== -/
theorem cg_vx (n : Nat) (n8 : n ≤ 8) (x : Int32) : x < 0 ∨ (¬ x < 0 ∧ nI n ≤ x) ∨ ∃ u, u < n ∧ x = nI u := by
  rcases pk_ix x (n := n) (by omega) with z | z | z
  · exact Or.inl z
  · by_cases q : x < 0
    · exact Or.inl q
    · exact Or.inr (Or.inl ⟨q, z⟩)
  · exact Or.inr (Or.inr z)
theorem i_vc_adjacent {k : Nat} {u : SX} {v : SY} (I : i_Rel k u v) (hk : k + 3 ≤ 1537) (v1 : Int32) (v2 : Int32) : wpX_adjacent (fun r => wpY_adjacent (fun r' => r' = r ∧ i_Rel (k + 3) u v) v v1 v2) u v1 v2 := by
  obtain ⟨vc, root, used, nw, x1, x2, x3, x4, wk, kind, parent, leaves, children, weight, x5, x6, cells, x7⟩ := u
  obtain ⟨fresh, yn, hw, row, weight', wit, y1, y2, y3, y4⟩ := v
  have J := I
  obtain ⟨n, n8, rfl, rfl, _, _, _, G, T, _⟩ := J
  have z0 : ¬ (1 : Int32) = 0 := by decide
  rcases cg_vx n n8 v1 with a | ⟨a, b⟩ | ⟨p, hp, rfl⟩
  · refine br_t a ?_
    unfold wpY_adjacent
    exact yw_isVertex0 (Or.inl a) (br_t rfl ⟨rfl, I⟩)
  · refine br_f a (br_t b ?_)
    unfold wpY_adjacent
    exact yw_isVertex0 (Or.inr ⟨a, b⟩) (br_t rfl ⟨rfl, I⟩)
  · have a1 : ¬ nI p < 0 := ib_neg (by omega)
    have a2 : ¬ nI n ≤ nI p := nI_ge hp (by omega)
    rcases cg_vx n n8 v2 with a | ⟨a, b⟩ | ⟨q, hq, rfl⟩
    · refine br_f a1 (br_f a2 (br_t a ?_))
      unfold wpY_adjacent
      exact yw_isVertex1 n8 rfl hp (br_f z0 (yw_isVertex0 (Or.inl a) (br_t rfl ⟨rfl, I⟩)))
    · refine br_f a1 (br_f a2 (br_f a (br_t b ?_)))
      unfold wpY_adjacent
      exact yw_isVertex1 n8 rfl hp (br_f z0 (yw_isVertex0 (Or.inr ⟨a, b⟩) (br_t rfl ⟨rfl, I⟩)))
    · refine xw_adjacent T n8 rfl hp hq G.2.2 ?_
      unfold wpY_adjacent
      refine yw_isVertex1 n8 rfl hp (br_f z0 (yw_isVertex1 n8 rfl hq (br_f z0 (yw_linked (by omega) (by omega) ?_))))
      by_cases e : cg_E row p q = true
      · rw [if_pos e]
        exact br_f (cg_b_t e) ⟨rfl, I⟩
      · rw [if_neg e]
        exact br_t (cg_b_0.mpr (cg_bF e)) ⟨rfl, I⟩
section
variable {f_fresh f_n f_hasWitness : Int32} {a_row a_weight a_witness a_label a_order a_module a_least : Nat → Int32}
theorem yw_distance_52 {post : Int32 → Prop} {J : Int32 → Int32 → Prop} {n s : Nat} {x2 R : Int32} (n8 : n ≤ 8) (hn : f_n = nI n)
    (hJ : ∀ m, (∀ j, bt m j = true ↔ bt R j = true ∨ ∃ w, w < n ∧ bt R w = true ∧ bt (a_row w) j = true) → J m (nI (s + 1))) :
    ∀ d i, i + d = n → ∀ m, (∀ j, bt m j = true ↔ bt R j = true ∨ ∃ w, w < i ∧ bt R w = true ∧ bt (a_row w) j = true) → ∀ f, d < f → wY_distance_52 post J x2 R (nI s) f_fresh f_n f_hasWitness a_row a_weight a_witness a_label a_order a_module a_least f m (nI i) := by
  subst hn
  intro d
  induction d with
  | zero =>
    intro i hi m hm f hf
    obtain ⟨f, rfl⟩ : ∃ m, f = m + 1 := ⟨f - 1, by omega⟩
    have : i = n := by omega
    subst this
    exact br_t (nI_le (Nat.le_refl _) (by omega)) (nm_r (nI_1 s) (hJ m hm))
  | succ d ih =>
    intro i hi m hm f hf
    obtain ⟨f, rfl⟩ : ∃ m, f = m + 1 := ⟨f - 1, by omega⟩
    refine br_f (nI_ge (by omega) (by omega)) (yw_has (by omega) ?_)
    by_cases bi : bt R i = true
    · refine br_f (cg_b_t bi) ⟨ib_in (show i < 8 by omega) (by omega), nm_e (nm_r (nI_1 i) (ih (i + 1) (by omega) _ ?_ f (by omega)))⟩
      intro j
      rw [ib_cl (show i < 256 by omega), tw_bor, hm]
      constructor
      · rintro ((z | ⟨w, a, b, c⟩) | z)
        · exact Or.inl z
        · exact Or.inr ⟨w, by omega, b, c⟩
        · exact Or.inr ⟨i, by omega, bi, z⟩
      · rintro (z | ⟨w, a, b, c⟩)
        · exact Or.inl (Or.inl z)
        · by_cases e : w = i
          · subst e; exact Or.inr c
          · exact Or.inl (Or.inr ⟨w, by omega, b, c⟩)
    · refine br_t (cg_b_0.mpr (cg_bF bi)) (nm_r (nI_1 i) (ih (i + 1) (by omega) m ?_ f (by omega)))
      intro j
      rw [hm]
      constructor
      · rintro (z | ⟨w, a, b, c⟩)
        · exact Or.inl z
        · exact Or.inr ⟨w, by omega, b, c⟩
      · rintro (z | ⟨w, a, b, c⟩)
        · exact Or.inl z
        · have : w ≠ i := fun e => bi (by rw [← e]; exact b)
          exact Or.inr ⟨w, by omega, b, c⟩
/-- found at step s -/
theorem yw_dist_hit {post : Int32 → Prop} {n s v : Nat} {R : Int32} (n8 : n ≤ 8) (hn : f_n = nI n) (hs : s < n) (hv : v < n) (hR : bt R v = true) (h : post (nI s)) (f : Nat) : wY_distance_25 post (nI v) f_fresh f_n f_hasWitness a_row a_weight a_witness a_label a_order a_module a_least (f + 1) R (nI s) := by
  subst hn
  exact br_f (nI_ge hs (by omega)) (yw_has (by omega) (br_f (cg_b_t hR) h))
/-- not found at step s -/
theorem yw_dist_miss {post : Int32 → Prop} {n s v f : Nat} {R : Int32} (n8 : n ≤ 8) (hn : f_n = nI n) (hs : s < n) (hv : v < n) (hR : bt R v = false)
    (h : ∀ m, (∀ j, bt m j = true ↔ bt R j = true ∨ ∃ w, w < n ∧ bt R w = true ∧ bt (a_row w) j = true) → wY_distance_25 post (nI v) f_fresh f_n f_hasWitness a_row a_weight a_witness a_label a_order a_module a_least f m (nI (s + 1))) : wY_distance_25 post (nI v) f_fresh f_n f_hasWitness a_row a_weight a_witness a_label a_order a_module a_least (f + 1) R (nI s) := by
  have hn' := hn
  subst hn
  refine br_f (nI_ge hs (by omega)) (yw_has (by omega) (br_t (cg_b_0.mpr hR) ⟨n + 1, ?_⟩))
  exact yw_distance_52 n8 rfl h n 0 (by omega) R (fun j => ⟨Or.inl, fun z => z.elim id (fun ⟨w, z, _⟩ => (Nat.not_lt_zero w z).elim)⟩) (n + 1) (by omega)
/-- never found: a set closed under links holds all that is reached -/
theorem yw_dist_apart {post : Int32 → Prop} {n v : Nat} (n8 : n ≤ 8) (hn : f_n = nI n) (hv : v < n) (h : post (-4)) (A : Nat → Prop) (hA : ¬ A v) (cl : ∀ w j, w < n → A w → bt (a_row w) j = true → A j) :
    ∀ d s, s + d = n → ∀ R, (∀ j, bt R j = true → A j) → wY_distance_25 post (nI v) f_fresh f_n f_hasWitness a_row a_weight a_witness a_label a_order a_module a_least (d + 1) R (nI s) := by
  intro d
  induction d with
  | zero =>
    intro s hs R hR
    subst hn
    have : s = n := by omega
    subst this
    exact br_t (nI_le (Nat.le_refl _) (by omega)) h
  | succ d ih =>
    intro s hs R hR
    refine yw_dist_miss n8 hn (by omega) hv (cg_bF (fun z => hA (hR v z))) (fun m hm => ih (s + 1) (by omega) m ?_)
    intro j hj
    rcases (hm j).mp hj with z | ⟨w, a, b, c⟩
    · exact hR j z
    · exact cl w j a (hR w b) c
end
theorem i_vc_distance {k : Nat} {u : SX} {v : SY} (I : i_Rel k u v) (hk : k + 3 ≤ 1537) (v1 : Int32) (v2 : Int32) : wpX_distance (fun r => wpY_distance (fun r' => r' = r ∧ i_Rel (k + 3) u v) v v1 v2) u v1 v2 := by
  obtain ⟨vc, root, used, nw, x1, x2, x3, x4, wk, kind, parent, leaves, children, weight, x5, x6, cells, x7⟩ := u
  obtain ⟨fresh, yn, hw, row, weight', wit, y1, y2, y3, y4⟩ := v
  have J := I
  obtain ⟨n, n8, rfl, rfl, _, _, _, G, T, _⟩ := J
  have z0 : ¬ (1 : Int32) = 0 := by decide
  rcases cg_vx n n8 v1 with a | ⟨a, b⟩ | ⟨p, hp, rfl⟩
  · refine br_t a ?_
    unfold wpY_distance
    exact yw_isVertex0 (Or.inl a) (br_t rfl ⟨rfl, I⟩)
  · refine br_f a (br_t b ?_)
    unfold wpY_distance
    exact yw_isVertex0 (Or.inr ⟨a, b⟩) (br_t rfl ⟨rfl, I⟩)
  · have a1 : ¬ nI p < 0 := ib_neg (by omega)
    have a2 : ¬ nI n ≤ nI p := nI_ge hp (by omega)
    rcases cg_vx n n8 v2 with a | ⟨a, b⟩ | ⟨q, hq, rfl⟩
    · refine br_f a1 (br_f a2 (br_t a ?_))
      unfold wpY_distance
      exact yw_isVertex1 n8 rfl hp (br_f z0 (yw_isVertex0 (Or.inl a) (br_t rfl ⟨rfl, I⟩)))
    · refine br_f a1 (br_f a2 (br_f a (br_f (Int32.not_lt.mpr b) ?_)))
      unfold wpY_distance
      exact yw_isVertex1 n8 rfl hp (br_f z0 (yw_isVertex0 (Or.inr ⟨a, b⟩) (br_t rfl ⟨rfl, I⟩)))
    · refine br_f a1 (br_f a2 (br_f (ib_neg (by omega)) (br_t (nI_lt hq (by omega)) ?_)))
      have wy : ∀ post : Int32 → Prop, (∃ f, wY_distance_25 post (nI q) fresh (nI n) hw row weight' wit y1 y2 y3 y4 f (ib_1 p) (nI 0)) → wpY_distance post (fresh, nI n, hw, row, weight', wit, y1, y2, y3, y4) (nI p) (nI q) := by
        intro post hpost
        unfold wpY_distance
        exact yw_isVertex1 n8 rfl hp (br_f z0 (yw_isVertex1 n8 rfl hq (br_f z0 (nm_e hpost))))
      have bp : ∀ j, bt (ib_1 p) j = true ↔ j = p := fun j => tw_b1 (by omega) j
      by_cases e : p = q
      · subst e
        exact br_t rfl (wy _ ⟨1, yw_dist_hit n8 rfl (by omega) hq ((bp p).mpr rfl) ⟨rfl, I⟩ 0⟩)
      · refine br_f (fun z => e ((nI_eq (by omega) (by omega)).mp z)) (xw_meet T n8 hp hq e ?_)
        intro m r hm hr B A k12 hE lu lv hno
        have lm := tw_lt B hm
        rw [ib_cl (show m < 256 by omega)]
        refine ⟨ib_in lm (by omega), ?_⟩
        have miss0 : bt (ib_1 p) q = false := cg_bF (fun z => e ((bp q).mp z).symm)
        by_cases k2 : kind m = 2
        · rw [decide_eq_true k2] at hE
          refine br_t k2 (wy _ ⟨2, yw_dist_miss n8 rfl (by omega) hq miss0 (fun M hM => ?_)⟩)
          exact yw_dist_hit n8 rfl (by omega) hq ((hM q).mpr (Or.inr ⟨p, hp, (bp p).mpr rfl, hE⟩)) ⟨rfl, I⟩ 0
        · rw [decide_eq_false k2] at hE
          have k1 : kind m = 1 := k12.elim id (fun z => (k2 z).elim)
          refine br_f k2 ⟨ib_in lm (by omega), ?_⟩
          by_cases mr : m = r
          · have pm : parent m = -1 := by rw [mr]; exact tw_rP B
            rw [pm]
            obtain ⟨_, cov, _⟩ := tw_inn B hm (by rw [k1]; decide)
            obtain ⟨c, uc, pc, lc⟩ := cov p lu
            refine br_t (by decide) (wy _ ⟨n + 1, yw_dist_apart n8 rfl hq ⟨rfl, I⟩ (fun j => bt (leaves c) j = true) (fun z => hno c uc pc ⟨lc, z⟩) ?_ n 0 (by omega) (ib_1 p) (fun j hj => by rw [(bp j).mp hj]; exact lc)⟩)
            intro w j hw' hwc hj
            have jn := (G.1 w j (by omega) hj).2
            have lj : bt (leaves m) j = true := by rw [mr]; exact tw_rL B (by simp [jn])
            obtain ⟨d, ud, pd, ld⟩ := cov j lj
            by_cases cd : c = d
            · rw [cd]; exact ld
            · have := tw_adj B uc ud cd hm pc pd hwc ld
              rw [k1] at this
              have h2 : cg_E row w j = true := hj
              rw [h2] at this
              exact absurd this (by decide)
          · obtain ⟨g, hg, pg⟩ := tw_par B hm mr
            rw [pg]
            obtain ⟨d, dm, ud, pd⟩ := tw_oth B hg hm pg
            obtain ⟨w, hw'⟩ := tw_ne B ud
            have wn : w < n := of_decide_eq_true (tw_LV B ud hw')
            have kg : kind g = 2 := by
              rcases (tw_in B hg hm pg).1 with z | z
              · exact (A m g hm hg pg (k1.trans z.symm)).elim
              · exact z
            have e1 : cg_E row p w = true := by rw [tw_adj B hm ud (Ne.symm dm) hg pg pd lu hw', kg]; decide
            have e2 : cg_E row w q = true := by rw [tw_adj B ud hm dm hg pd pg hw' lv, kg]; decide
            have wp : w ≠ p := fun z => by rw [z] at e1; rw [show cg_E row p p = false from G.2.2 p hp] at e1; exact absurd e1 (by decide)
            have wq : w ≠ q := fun z => by rw [z] at e2; rw [show cg_E row q q = false from G.2.2 q hq] at e2; exact absurd e2 (by decide)
            refine br_f (ib_neg (by have := tw_lt B hg; omega)) (wy _ ⟨3, yw_dist_miss n8 rfl (by omega) hq miss0 (fun M hM => ?_)⟩)
            have n3 : 2 < n := by omega
            refine yw_dist_miss n8 rfl (by omega) hq (cg_bF (fun z => ?_)) (fun M' hM' => ?_)
            · rcases (hM q).mp z with z | ⟨x, _, bx, hx⟩
              · rw [miss0] at z; exact absurd z (by decide)
              · rw [(bp x).mp bx] at hx
                have h2 : cg_E row p q = true := hx
                rw [hE] at h2; exact absurd h2 (by decide)
            · exact yw_dist_hit n8 rfl n3 hq ((hM' q).mpr (Or.inr ⟨w, wn, (hM w).mpr (Or.inr ⟨p, hp, (bp p).mpr rfl, e1⟩), e2⟩)) ⟨rfl, I⟩ 0
end
section
/-! ===== removeVertex ===== -/
theorem ib_without {x : Int32} {v : Nat} (hv : v < 8) (hx : ∀ j, bt x j = true → j < 8) (u : Nat) :
    bt ((x &&& (ib_1 v - 1)) ||| ((x >>> (nI (v + 1) &&& 31)) <<< (nI v &&& 31))) u = bt x (cg_sk v u) := by
  have hf : ∀ j, 8 ≤ j → bt x j = false := fun j hj => cg_bF (fun z => by have := hx j z; omega)
  rcases Nat.lt_or_ge u 32 with h | h
  · rw [b_or, b_and, ib_low v hv u h, b_shl v (by omega) _ h]
    unfold cg_sk
    by_cases z : u < v
    · rw [if_pos z, decide_eq_true z, decide_eq_false (by omega)]; simp
    · rw [if_neg z, decide_eq_false z, decide_eq_true (by omega), b_sshr (v + 1) (by omega) x (by omega)]
      by_cases q : v + 1 + (u - v) < 32
      · rw [if_pos q, show v + 1 + (u - v) = u + 1 by omega]; simp
      · rw [if_neg q, hf 31 (by omega), hf (u + 1) (by omega)]; simp
  · rw [b_big h, b_big]
    unfold cg_sk
    split <;> omega
section
variable {f_fresh f_n f_hasWitness : Int32} {a_row a_weight a_witness a_label a_order a_module a_least : Nat → Int32}
theorem yw_removeVertex {post : Int32 → SY → Prop} {n v : Nat} (n8 : n ≤ 8) (hn : f_n = nI n) (hv : v < n) (h8 : ∀ u, u < n → ∀ j, bt (a_row u) j = true → j < 8)
    (h : ∀ row', (∀ u, u < n - 1 → ∀ w, bt (row' u) w = bt (a_row (cg_sk v u)) (cg_sk v w)) → row' (n - 1) = 0 → (∀ u, n ≤ u → row' u = a_row u) → post (nI (n - 1)) (f_fresh, nI (n - 1), 0, row', cg_cut a_weight v (n - 1), a_witness, a_label, a_order, a_module, a_least)) :
    wpY_removeVertex post (f_fresh, f_n, f_hasWitness, a_row, a_weight, a_witness, a_label, a_order, a_module, a_least) (nI v) := by
  subst hn
  unfold wpY_removeVertex
  dsimp only
  refine br_f (ib_neg (by omega)) (br_t (nI_lt hv (by omega)) ⟨n + 1, ?_⟩)
  -- the second loop
  have loop2 : ∀ d i, i + d = n - 1 → ∀ row', (∀ u, u < i → row' u = ((a_row (cg_sk v u) &&& (ib_1 v - 1)) ||| ((a_row (cg_sk v u) >>> (nI (v + 1) &&& 31)) <<< (nI v &&& 31)))) → (∀ u, i ≤ u → u < n - 1 → row' u = a_row (cg_sk v u)) → row' (n - 1) = 0 → (∀ u, n ≤ u → row' u = a_row u) → ∀ f, d < f →
      wY_removeVertex_82 post (nI v) f_fresh (nI (n - 1)) f_hasWitness f (nI i) row' (cg_cut a_weight v (n - 1)) a_witness a_label a_order a_module a_least := by
    intro d
    induction d with
    | zero =>
      intro i hi row' h1 h2 h3 h4 f hf
      obtain ⟨m, rfl⟩ : ∃ m, f = m + 1 := ⟨f - 1, by omega⟩
      have : i = n - 1 := by omega
      subst this
      refine br_t (nI_le (Nat.le_refl _) (by omega)) (h row' ?_ h3 h4)
      intro u hu w
      rw [h1 u hu]
      exact ib_without (by omega) (h8 _ ((cg_sk_lt hv).mpr hu)) w
    | succ d ih =>
      intro i hi row' h1 h2 h3 h4 f hf
      obtain ⟨m, rfl⟩ : ∃ m, f = m + 1 := ⟨f - 1, by omega⟩
      have ii : vp_in (nI i) 8 := ib_in (show i < 8 by omega) (by omega)
      refine br_f (nI_ge (by omega) (by omega)) ⟨ii, ?_⟩
      unfold wpY_without
      dsimp only
      rw [ib_cl (show i < 256 by omega), nI_1 v, h2 i (Nat.le_refl i) (by omega)]
      refine nm_e ⟨ii, nm_e (nm_r (nI_1 i) (ih (i + 1) (by omega) _ ?_ ?_ ?_ ?_ m (by omega)))⟩
      · intro u hu
        by_cases e : u = i
        · subst e; rw [pk_us]; rfl
        · rw [pk_un e]; exact h1 u (by omega)
      · intro u hu hu'
        rw [pk_un (by omega)]; exact h2 u (by omega) hu'
      · rw [pk_un (by omega)]; exact h3
      · intro u hu
        rw [pk_un (by omega)]; exact h4 u hu
  suffices loop : ∀ d i, i + d = n - 1 → v ≤ i → ∀ f, d < f → wY_removeVertex_16 post (nI v) f_fresh (nI n) f_hasWitness f (nI i) (cg_cut a_row v i) (cg_cut a_weight v i) a_witness a_label a_order a_module a_least by
    have := loop (n - 1 - v) v (by omega) (Nat.le_refl v) (n + 1) (by omega)
    rw [cg_cut_0, cg_cut_0] at this
    exact this
  have hs : nI n - 1 = nI (n - 1) := pk_sub (a := n) (b := 1) (by omega)
  intro d
  induction d with
  | zero =>
    intro i hi hvi f hf
    obtain ⟨m, rfl⟩ : ∃ m, f = m + 1 := ⟨f - 1, by omega⟩
    have : i = n - 1 := by omega
    subst this
    refine br_t (by rw [hs]; exact nI_le (Nat.le_refl _) (by omega)) (nm_r hs ⟨ib_in (show n - 1 < 8 by omega) (by omega), nm_e ⟨n + 1, ?_⟩⟩)
    rw [ib_cl (show n - 1 < 256 by omega)]
    refine loop2 (n - 1) 0 (by omega) _ (fun u hu => (Nat.not_lt_zero u hu).elim) ?_ pk_us ?_ (n + 1) (by omega)
    · intro u _ hu
      rw [pk_un (by omega)]
      unfold cg_cut cg_sk
      by_cases z : u < v
      · rw [if_pos z, if_neg (by omega)]
      · rw [if_neg z, if_pos (by omega)]
    · intro u hu
      rw [pk_un (by omega)]
      unfold cg_cut
      rw [if_neg (by omega)]
  | succ d ih =>
    intro i hi hvi f hf
    obtain ⟨m, rfl⟩ : ∃ m, f = m + 1 := ⟨f - 1, by omega⟩
    refine br_f (by rw [hs]; exact nI_ge (by omega) (by omega)) ?_
    have i1 : vp_in (nI (i + 1)) 8 := ib_in (show i + 1 < 8 by omega) (by omega)
    have i0 : vp_in (nI i) 8 := ib_in (show i < 8 by omega) (by omega)
    rw [nI_1 i, ib_cl (show i < 256 by omega), ib_cl (show i + 1 < 256 by omega), cg_cut_s a_weight hvi, cg_cut_s a_row hvi]
    exact ⟨i1, i0, nm_e ⟨i1, i0, nm_e (nm_e (ih (i + 1) (by omega) (by omega) m (by omega)))⟩⟩
end
theorem i_vc_removeVertex {k : Nat} {u : SX} {v : SY} (I : i_Rel k u v) (hk : k + 3 ≤ 1537) (v1 : Int32) : wpX_removeVertex (fun r u' => wpY_removeVertex (fun r' v' => r' = r ∧ i_Rel (k + 3) u' v') v v1) u v1 := by
  obtain ⟨vc, root, used, nw, x1, x2, x3, x4, wk, kind, parent, leaves, children, weight, x5, x6, cells, x7⟩ := u
  obtain ⟨fresh, yn, hw, row, weight', wit, y1, y2, y3, y4⟩ := v
  have J := I
  obtain ⟨n, n8, rfl, rfl, rfl, hwt, hfr, G, T, hwk⟩ := J
  rcases cg_vx n n8 v1 with a | ⟨a, b⟩ | ⟨p, hp, rfl⟩
  · exact br_t a (br_t a ⟨rfl, I⟩)
  · have b' : ¬ v1 < nI n := Int32.not_lt.mpr b
    exact br_f a (br_f b' (br_f a (br_f b' ⟨rfl, I⟩)))
  · -- the new rows are the same for every state of X: take Y's walk first as one outcome
    have hY : ∃ row', ((∀ u, u < n - 1 → ∀ w, bt (row' u) w = bt (row (cg_sk p u)) (cg_sk p w)) ∧ row' (n - 1) = 0 ∧ (∀ u, n ≤ u → row' u = row u)) ∧ ∀ post : Int32 → SY → Prop, post (nI (n - 1)) (fresh, nI (n - 1), 0, row', cg_cut weight' p (n - 1), wit, y1, y2, y3, y4) → wpY_removeVertex post (fresh, nI n, hw, row, weight', wit, y1, y2, y3, y4) (nI p) := by
      refine ⟨fun u => if u < n - 1 then ((row (cg_sk p u) &&& (ib_1 p - 1)) ||| ((row (cg_sk p u) >>> (nI (p + 1) &&& 31)) <<< (nI p &&& 31))) else if u = n - 1 then 0 else row u, ⟨?_, ?_, ?_⟩, ?_⟩
      · intro u hu w
        show bt (if u < n - 1 then _ else _) w = _
        rw [if_pos hu]
        exact ib_without (by omega) (fun j hj => by have := (G.1 _ j (by have := (cg_sk_lt (u := u) hp).mpr hu; omega) hj).2; omega) w
      · show (if n - 1 < n - 1 then _ else if n - 1 = n - 1 then _ else _) = _
        rw [if_neg (by omega), if_pos rfl]
      · intro u hu
        show (if u < n - 1 then _ else if u = n - 1 then _ else _) = _
        rw [if_neg (by omega), if_neg (by omega)]
      · intro post hpost
        refine yw_removeVertex n8 rfl hp (fun u hu j hj => by have := (G.1 u j (by omega) hj).2; omega) ?_
        intro row' h1 h2 h3
        have e : row' = fun u => if u < n - 1 then ((row (cg_sk p u) &&& (ib_1 p - 1)) ||| ((row (cg_sk p u) >>> (nI (p + 1) &&& 31)) <<< (nI p &&& 31))) else if u = n - 1 then 0 else row u := by
          funext u
          by_cases z : u < n - 1
          · rw [if_pos z]
            apply b_ext
            intro i _
            rw [h1 u z i]
            exact (ib_without (by omega) (fun j hj => by have := (G.1 _ j (by have := (cg_sk_lt (u := u) hp).mpr z; omega) hj).2; omega) i).symm
          · rw [if_neg z]
            by_cases q : u = n - 1
            · rw [if_pos q, q]; exact h2
            · rw [if_neg q]; exact h3 u (by omega)
        rw [e]
        exact hpost
    obtain ⟨row', ⟨r1, r2, r3⟩, hY⟩ := hY
    refine xw_removeVertex (E' := cg_E row') T n8 rfl hp (fun u w hu _ => r1 u hu w) ?_
    intro root' used' kind' parent' leaves' children' T'
    refine hY _ ⟨rfl, n - 1, by omega, rfl, rfl, rfl, ?_, hfr, ⟨?_, ?_, ?_⟩, T', rfl, Or.inl rfl⟩
    · intro j
      unfold cg_cut
      split
      · exact hwt (j + 1)
      · exact hwt j
    · intro u w hu hb
      rcases Nat.lt_or_ge u (n - 1) with z | z
      · rw [r1 u z w] at hb
        have := G.1 _ _ (by have := (cg_sk_lt (u := u) hp).mpr z; omega) hb
        exact ⟨z, (cg_sk_lt hp).mp this.2⟩
      · by_cases q : u = n - 1
        · rw [q, r2] at hb; exact (tw_b0 w hb).elim
        · rw [r3 u (by omega)] at hb
          have := (G.1 u w hu hb).1
          omega
    · intro u w hu hw'
      rw [r1 u hu w, r1 w hw' u]
      exact G.2.1 _ _ ((cg_sk_lt hp).mpr hu) ((cg_sk_lt hp).mpr hw')
    · intro u hu
      rw [r1 u hu u]
      exact G.2.2 _ ((cg_sk_lt hp).mpr hu)
end
section
/-! ===== complement ===== -/
def cg_sm (f : Nat → Nat) : Nat → Nat
  | 0 => 0
  | k + 1 => cg_sm f k + f k
theorem cg_sm_congr {f g : Nat → Nat} : ∀ k, (∀ i, i < k → f i = g i) → cg_sm f k = cg_sm g k
  | 0, _ => rfl
  | k + 1, h => by
    show cg_sm f k + f k = cg_sm g k + g k
    rw [cg_sm_congr k (fun i hi => h i (by omega)), h k (by omega)]
theorem cg_sm_cnt (E : Nat → Nat → Bool) (m : Nat) : ∀ k, cg_sm (fun u => cg_cnt (E u) (m + 1)) k = cg_sm (fun u => cg_cnt (E u) m) k + cg_cnt (fun u => E u m) k
  | 0 => rfl
  | k + 1 => by
    have := cg_sm_cnt E m k
    show cg_sm (fun u => cg_cnt (E u) (m + 1)) k + (cg_cnt (E k) m + (if E k m = true then 1 else 0)) = cg_sm (fun u => cg_cnt (E u) m) k + cg_cnt (E k) m + (cg_cnt (fun u => E u m) k + (if E k m = true then 1 else 0))
    omega
theorem cg_hand (E : Nat → Nat → Bool) : ∀ m, (∀ u v, u < m → v < m → E u v = E v u) → (∀ u, u < m → E u u = false) → cg_sm (fun u => cg_cnt (E u) m) m = 2 * cg_sm (fun u => cg_cnt (E u) u) m
  | 0, _, _ => rfl
  | m + 1, hs, hi => by
    have h1 := cg_hand E m (fun u v hu hv => hs u v (by omega) (by omega)) (fun u hu => hi u (by omega))
    have h2 := cg_sm_cnt E m m
    have h3 : cg_cnt (fun u => E u m) m = cg_cnt (E m) m := cg_cnt_congr m (fun i hi' => hs i m (by omega) (by omega))
    show cg_sm (fun u => cg_cnt (E u) (m + 1)) m + (cg_cnt (E m) m + (if E m m = true then 1 else 0)) = 2 * (cg_sm (fun u => cg_cnt (E u) u) m + cg_cnt (E m) m)
    rw [hi m (by omega), if_neg (by decide)]
    omega
theorem cg_cnt_ext {A : Nat → Bool} {n m : Nat} (h : n ≤ m) (hA : ∀ i, i < m → A i = true → i < n) : cg_cnt A m = cg_cnt A n := by
  obtain ⟨d, rfl⟩ : ∃ d, m = n + d := ⟨m - n, by omega⟩
  rw [cg_cnt_add, cg_cnt_zero d (fun i hi => cg_bF (fun z => by have := hA (n + i) (by omega) z; omega))]
  omega
theorem cg_sm_le {f : Nat → Nat} {c : Nat} : ∀ k, (∀ i, i < k → f i ≤ c) → cg_sm f k ≤ c * k
  | 0, _ => Nat.zero_le _
  | k + 1, h => by
    have h1 := cg_sm_le k (fun i hi => h i (by omega))
    have h2 := h k (by omega)
    show cg_sm f k + f k ≤ c * (k + 1)
    rw [Nat.mul_succ]
    omega
section
variable {f_vertexCount f_root f_usedNodes f_newWeight f_wholeChildren f_emptyChildren f_partChildren f_orderLength f_witnessKept : Int32} {a_kind a_parent a_leaves a_children a_weight a_order a_value a_witnessCells a_row : Nat → Int32}
theorem xw_compl_47 {post : Int32 → SX → Prop} {n : Nat} {E : Nat → Nat → Bool} (T : cg_T n f_root f_usedNodes a_kind a_parent a_leaves a_children E) (n8 : n ≤ 8) (hn : f_vertexCount = nI n) (ir : ∀ u, u < n → E u u = false)
    (h : post (nI (cg_sm (fun u => cg_cnt (E u) u) n)) (f_vertexCount, f_root, f_usedNodes, f_newWeight, f_wholeChildren, f_emptyChildren, f_partChildren, f_orderLength, f_witnessKept, a_kind, a_parent, a_leaves, a_children, a_weight, a_order, a_value, a_witnessCells, a_row)) : wX_complement_47 post f_vertexCount f_root f_usedNodes f_newWeight f_wholeChildren f_emptyChildren f_partChildren f_orderLength f_witnessKept a_kind a_parent a_leaves a_children a_weight a_order a_value a_witnessCells a_row (n + 1) (nI 0) (nI 0) := by
  have inner : ∀ (u e : Nat) (J : Int32 → Int32 → Prop), u < n → J (nI (e + cg_cnt (E u) u)) (nI (u + 1)) → ∀ d j, j + d = u → ∀ f, d < f → wX_complement_57 post J (nI u) f_vertexCount f_root f_usedNodes f_newWeight f_wholeChildren f_emptyChildren f_partChildren f_orderLength f_witnessKept a_kind a_parent a_leaves a_children a_weight a_order a_value a_witnessCells a_row f (nI (e + cg_cnt (E u) j)) (nI j) := by
    intro u e J hu hJ d
    induction d with
    | zero =>
      intro j hj f hf
      obtain ⟨m, rfl⟩ : ∃ m, f = m + 1 := ⟨f - 1, by omega⟩
      have : j = u := by omega
      subst this
      exact br_t (nI_le (Nat.le_refl _) (by omega)) (nm_r (nI_1 j) hJ)
    | succ d ih =>
      intro j hj f hf
      obtain ⟨m, rfl⟩ : ∃ m, f = m + 1 := ⟨f - 1, by omega⟩
      refine br_f (nI_ge (by omega) (by omega)) (xw_adjacent T n8 hn hu (by omega) ir ?_)
      have key := ih (j + 1) (by omega) m (by omega)
      have ec : cg_cnt (E u) (j + 1) = cg_cnt (E u) j + (if E u j = true then 1 else 0) := rfl
      rw [ec] at key
      by_cases z : E u j = true
      · rw [if_pos z] at key
        rw [if_pos z]
        exact br_f (by decide) (nm_r (nI_1 _) (nm_r (nI_1 _) key))
      · rw [if_neg z] at key
        rw [if_neg z]
        exact br_t rfl (nm_r (nI_1 _) key)
  suffices loop : ∀ d i, i + d = n → ∀ f, d < f → wX_complement_47 post f_vertexCount f_root f_usedNodes f_newWeight f_wholeChildren f_emptyChildren f_partChildren f_orderLength f_witnessKept a_kind a_parent a_leaves a_children a_weight a_order a_value a_witnessCells a_row f (nI (cg_sm (fun u => cg_cnt (E u) u) i)) (nI i) from loop n 0 (by omega) (n + 1) (by omega)
  intro d
  induction d with
  | zero =>
    intro i hi f hf
    obtain ⟨m, rfl⟩ : ∃ m, f = m + 1 := ⟨f - 1, by omega⟩
    have : i = n := by omega
    subst this
    exact br_t (by rw [hn]; exact nI_le (Nat.le_refl _) (by omega)) h
  | succ d ih =>
    intro i hi f hf
    obtain ⟨m, rfl⟩ : ∃ m, f = m + 1 := ⟨f - 1, by omega⟩
    refine br_f (by rw [hn]; exact nI_ge (by omega) (by omega)) ⟨i + 1, ?_⟩
    exact inner i (cg_sm (fun u => cg_cnt (E u) u) i) _ (by omega) (ih (i + 1) (by omega) m (by omega)) i 0 (by omega) (i + 1) (by omega)
theorem xw_complement {post : Int32 → SX → Prop} {n : Nat} {E E' : Nat → Nat → Bool} (T : cg_T n f_root f_usedNodes a_kind a_parent a_leaves a_children E) (n8 : n ≤ 8) (hn : f_vertexCount = nI n)
    (eE : ∀ u v, u < n → v < n → u ≠ v → E' u v = !E u v) (ir : ∀ u, u < n → E' u u = false)
    (h : ∀ kind, cg_T n f_root f_usedNodes kind a_parent a_leaves a_children E' → post (nI (cg_sm (fun u => cg_cnt (E' u) u) n)) (f_vertexCount, f_root, f_usedNodes, f_newWeight, f_wholeChildren, f_emptyChildren, f_partChildren, f_orderLength, 0, kind, a_parent, a_leaves, a_children, a_weight, a_order, a_value, a_witnessCells, a_row)) : wpX_complement post (f_vertexCount, f_root, f_usedNodes, f_newWeight, f_wholeChildren, f_emptyChildren, f_partChildren, f_orderLength, f_witnessKept, a_kind, a_parent, a_leaves, a_children, a_weight, a_order, a_value, a_witnessCells, a_row) := by
  unfold wpX_complement
  dsimp only
  refine ⟨21, ?_⟩
  suffices loop : ∀ d j, j + d = 20 → ∀ kd : Nat → Int32, (∀ x, kd x = if x < j then (if a_kind x = 0 then 0 else vp_nar .byte ((3 - a_kind x).toInt8.toInt32)) else a_kind x) → ∀ f, d < f →
      wX_complement_2 post f_vertexCount f_root f_usedNodes f_newWeight f_wholeChildren f_emptyChildren f_partChildren f_orderLength f_witnessKept f (nI j) kd a_parent a_leaves a_children a_weight a_order a_value a_witnessCells a_row from
    loop 20 0 rfl a_kind (fun x => by rw [if_neg (Nat.not_lt_zero x)]) 21 (by omega)
  intro d
  induction d with
  | zero =>
    intro j hj kd hkd f hf
    obtain ⟨m, rfl⟩ : ∃ m, f = m + 1 := ⟨f - 1, by omega⟩
    have : j = 20 := by omega
    subst this
    have T' : cg_T n f_root f_usedNodes kd a_parent a_leaves a_children E' := by
      rcases T with ⟨n0, hr, hU⟩ | ⟨n0, hn8, r, hr, B, A, hC⟩
      · exact Or.inl ⟨n0, hr, hU⟩
      · have k0 : ∀ y, bt f_usedNodes y = true → a_kind y = 0 → kd y = 0 := fun y hy k => by rw [hkd, if_pos (tw_lt B hy), if_pos k]
        have k1 : ∀ y, bt f_usedNodes y = true → a_kind y = 1 → kd y = 2 := fun y hy k => by
          rw [hkd, if_pos (tw_lt B hy), k, if_neg (by decide)]; exact ib_b2'
        have k2 : ∀ y, bt f_usedNodes y = true → a_kind y = 2 → kd y = 1 := fun y hy k => by
          rw [hkd, if_pos (tw_lt B hy), k, if_neg (by decide)]; exact ib_b1'
        refine Or.inr ⟨n0, hn8, r, hr, ?_, ?_, hC⟩
        · exact tw_compl B k0 k1 k2 (fun u v hu hv e => eE u v (of_decide_eq_true hu) (of_decide_eq_true hv) e)
        · intro c x hc hx hp
          have := A c x hc hx hp
          have kx := (tw_in B hx hc hp).1
          have kc : a_kind c = 0 ∨ a_kind c = 1 ∨ a_kind c = 2 := by
            rcases tw_kd B hc with ⟨z, _⟩ | ⟨z, _⟩
            · exact Or.inl z
            · exact Or.inr z
          rcases kx with z | z <;> rcases kc with q | q | q
          · rw [k1 x hx z, k0 c hc q]; decide
          · exact (this (q.trans z.symm)).elim
          · rw [k1 x hx z, k2 c hc q]; decide
          · rw [k2 x hx z, k0 c hc q]; decide
          · rw [k2 x hx z, k1 c hc q]; decide
          · exact (this (q.trans z.symm)).elim
    exact br_t (by decide) ⟨n + 1, xw_compl_47 T' n8 hn ir (h kd T')⟩
  | succ d ih =>
    intro j hj kd hkd f hf
    obtain ⟨m, rfl⟩ : ∃ m, f = m + 1 := ⟨f - 1, by omega⟩
    have ij : vp_in (nI j) 20 := ib_in (show j < 20 by omega) (by omega)
    refine br_f (ib_20 (by omega)) ⟨ij, ?_⟩
    rw [ib_cl (show j < 256 by omega)]
    have ej : kd j = a_kind j := by rw [hkd, if_neg (by omega)]
    rw [ej]
    by_cases k0 : a_kind j = 0
    · refine br_t k0 (nm_r (nI_1 j) (ih (j + 1) (by omega) kd ?_ m (by omega)))
      intro x
      by_cases e : x = j
      · rw [e, ej, if_pos (show j < j + 1 by omega), if_pos k0, k0]
      · rw [hkd]
        by_cases z : x < j
        · rw [if_pos z, if_pos (show x < j + 1 by omega)]
        · rw [if_neg z, if_neg (show ¬ x < j + 1 by omega)]
    · refine br_f k0 ⟨ij, ij, nm_e (nm_r (nI_1 j) (ih (j + 1) (by omega) _ ?_ m (by omega)))⟩
      intro x
      by_cases e : x = j
      · subst e
        rw [pk_us, if_pos (show x < x + 1 by omega), if_neg k0]
      · rw [pk_un e, hkd]
        by_cases z : x < j
        · rw [if_pos z, if_pos (show x < j + 1 by omega)]
        · rw [if_neg z, if_neg (show ¬ x < j + 1 by omega)]
end
section
variable {f_fresh f_n f_hasWitness : Int32} {a_row a_weight a_witness a_label a_order a_module a_least : Nat → Int32}
/-- the complement's rows -/
def cg_crow (n : Nat) (row : Nat → Int32) (i : Nat) : Nat → Int32 := fun u => if u < i then (((ib_1 n - 1) &&& (row u ^^^ (-1))) &&& (ib_1 u ^^^ (-1))) else row u
theorem yw_complement {post : Int32 → SY → Prop} {n : Nat} (n8 : n ≤ 8) (hn : f_n = nI n)
    (h : post (nI (cg_sm (fun u => cg_cnt (bt (cg_crow n a_row n u)) 8) n / 2)) (f_fresh, f_n, 0, cg_crow n a_row n, a_weight, a_witness, a_label, a_order, a_module, a_least)) : wpY_complement post (f_fresh, f_n, f_hasWitness, a_row, a_weight, a_witness, a_label, a_order, a_module, a_least) := by
  subst hn
  unfold wpY_complement
  dsimp only
  refine nm_e ⟨n + 1, ?_⟩
  have c0 : cg_crow n a_row 0 = a_row := by
    funext u
    unfold cg_crow
    rw [if_neg (Nat.not_lt_zero u)]
  suffices loop : ∀ d i, i + d = n → ∀ f, d < f → wY_complement_13 post (ib_1 n - 1) f_fresh (nI n) f_hasWitness f (nI (cg_sm (fun u => cg_cnt (bt (cg_crow n a_row n u)) 8) i)) (nI i) (cg_crow n a_row i) a_weight a_witness a_label a_order a_module a_least by
    have := loop n 0 (by omega) (n + 1) (by omega)
    rw [c0] at this
    exact this
  intro d
  induction d with
  | zero =>
    intro i hi f hf
    obtain ⟨m, rfl⟩ : ∃ m, f = m + 1 := ⟨f - 1, by omega⟩
    have : i = n := by omega
    subst this
    refine br_t (nI_le (Nat.le_refl _) (by omega)) ⟨by decide, ?_⟩
    have hle := cg_sm_le (f := fun u => cg_cnt (bt (cg_crow i a_row i u)) 8) (c := 8) i (fun u _ => cg_cnt_le _ 8)
    have hd := pk_div (a := cg_sm (fun u => cg_cnt (bt (cg_crow i a_row i u)) 8) i) (d := 2) (by omega) (by omega) (by omega)
    have e2 : (2 : Int32) = nI 2 := rfl
    rw [e2, hd]
    exact h
  | succ d ih =>
    intro i hi f hf
    obtain ⟨m, rfl⟩ : ∃ m, f = m + 1 := ⟨f - 1, by omega⟩
    have ii : vp_in (nI i) 8 := ib_in (show i < 8 by omega) (by omega)
    refine br_f (nI_ge (by omega) (by omega)) ⟨ii, ii, ?_⟩
    rw [ib_cl (show i < 256 by omega)]
    have es : upd (cg_crow n a_row i) i (((ib_1 n - 1) &&& (cg_crow n a_row i i ^^^ (-1))) &&& (ib_1 i ^^^ (-1))) = cg_crow n a_row (i + 1) := by
      funext u
      unfold upd cg_crow
      by_cases e : u = i
      · subst e
        rw [if_pos rfl, if_neg (by omega), if_pos (by omega)]
      · rw [if_neg e]
        by_cases z : u < i
        · rw [if_pos z, if_pos (by omega)]
        · rw [if_neg z, if_neg (by omega)]
    refine nm_r es ⟨ii, yw_sizeOf (nm_r (e' := nI (cg_sm (fun u => cg_cnt (bt (cg_crow n a_row n u)) 8) (i + 1))) ?_ (nm_r (nI_1 i) (ih (i + 1) (by omega) m (by omega))))⟩
    rw [nI_add]
    have : cg_crow n a_row (i + 1) i = cg_crow n a_row n i := by
      unfold cg_crow
      rw [if_pos (by omega), if_pos (by omega)]
    rw [this]
    rfl
end
theorem ib_all : ∀ n, n < 9 → ∀ j, j < 32 → bt (ib_1 n - 1) j = decide (j < n) := by decide +kernel
theorem i_vc_complement {k : Nat} {u : SX} {v : SY} (I : i_Rel k u v) (hk : k + 3 ≤ 1537) : wpX_complement (fun r u' => wpY_complement (fun r' v' => r' = r ∧ i_Rel (k + 3) u' v') v) u := by
  obtain ⟨vc, root, used, nw, x1, x2, x3, x4, wk, kind, parent, leaves, children, weight, x5, x6, cells, x7⟩ := u
  obtain ⟨fresh, yn, hw, row, weight', wit, y1, y2, y3, y4⟩ := v
  obtain ⟨n, n8, rfl, rfl, rfl, hwt, hfr, G, T, hwk⟩ := I
  have cb : ∀ u, u < n → ∀ j, bt (cg_crow n row n u) j = (decide (j < n) && !bt (row u) j && !decide (j = u)) := by
    intro u hu j
    unfold cg_crow
    rw [if_pos hu]
    rcases Nat.lt_or_ge j 32 with z | z
    · rw [b_and, b_and, ib_all n (by omega) j z, ib_not _ z, ib_not _ z, ib_one (by omega)]
    · rw [b_big z, decide_eq_false (show ¬ j < n by omega)]; rfl
  have ce : ∀ u v, u < n → v < n → u ≠ v → cg_E (cg_crow n row n) u v = !cg_E row u v := by
    intro u v hu hv e
    show bt (cg_crow n row n u) v = !bt (row u) v
    rw [cb u hu v, decide_eq_true hv, decide_eq_false (fun z => e z.symm)]
    simp
  have ci : ∀ u, u < n → cg_E (cg_crow n row n) u u = false := by
    intro u hu
    show bt (cg_crow n row n u) u = false
    rw [cb u hu u, decide_eq_true (p := u = u) rfl]
    simp
  have cs : ∀ u v, u < n → v < n → cg_E (cg_crow n row n) u v = cg_E (cg_crow n row n) v u := by
    intro u v hu hv
    by_cases e : u = v
    · rw [e]
    · rw [ce u v hu hv e, ce v u hv hu (fun z => e z.symm)]
      show (!bt (row u) v) = !bt (row v) u
      rw [G.2.1 u v hu hv]
  refine xw_complement (E' := cg_E (cg_crow n row n)) T n8 rfl ce ci ?_
  intro kind' T'
  refine yw_complement n8 rfl ⟨?_, n, n8, rfl, rfl, rfl, hwt, hfr, ⟨?_, cs, ci⟩, T', rfl, Or.inl rfl⟩
  · have h1 := cg_hand (cg_E (cg_crow n row n)) n cs ci
    have h2 : cg_sm (fun u => cg_cnt (bt (cg_crow n row n u)) 8) n = cg_sm (fun u => cg_cnt (cg_E (cg_crow n row n) u) n) n := by
      apply cg_sm_congr
      intro u hu
      refine cg_cnt_ext n8 (fun i _ hi => ?_)
      rw [cb u hu i] at hi
      by_cases z : i < n
      · exact z
      · rw [decide_eq_false z] at hi; simp at hi
    rw [h2, h1]
    congr 1
    omega
  · intro u v hu hb
    by_cases z : u < n
    · rw [cb u z v] at hb
      refine ⟨z, ?_⟩
      by_cases q : v < n
      · exact q
      · rw [decide_eq_false q] at hb; simp at hb
    · unfold cg_crow at hb
      rw [if_neg z] at hb
      exact G.1 u v hu hb
end
section
/-! ===== the four-path that is found ===== -/
def cg_w4 (E : Nat → Nat → Bool) (a b c d : Nat) : Prop := a < d ∧ E a b = true ∧ E b c = true ∧ E c d = true ∧ E a c = false ∧ E a d = false ∧ E b d = false
theorem cg_w4_ne {E : Nat → Nat → Bool} (ir : ∀ u, u < 8 → E u u = false) {a b c d : Nat} (ha : a < 8) (hb : b < 8) (hc : c < 8) (h : cg_w4 E a b c d) : a ≠ b ∧ a ≠ c ∧ a ≠ d ∧ b ≠ c ∧ b ≠ d ∧ c ≠ d := by
  obtain ⟨h0, h1, h2, h3, h4, h5, h6⟩ := h
  refine ⟨?_, ?_, ?_, ?_, ?_, ?_⟩ <;> intro e <;> subst e
  · rw [ir a ha] at h1; exact absurd h1 (by decide)
  · rw [h3] at h5; exact absurd h5 (by decide)
  · omega
  · rw [ir b hb] at h2; exact absurd h2 (by decide)
  · rw [h1] at h5; exact absurd h5 (by decide)
  · rw [ir c hc] at h3; exact absurd h3 (by decide)
section
variable {f_fresh f_n f_hasWitness : Int32} {a_row a_weight a_witness a_label a_order a_module a_least : Nat → Int32}
theorem yw_fourPath {post : Int32 → Prop} {a b c d : Nat} (ha : a < 8) (hb : b < 8) (hc : c < 8) (hd : d < 8) (ir : ∀ u, u < 8 → cg_E a_row u u = false) (had : a < d) (h1 : cg_w4 (cg_E a_row) a b c d → post 1) (h0 : ¬ cg_w4 (cg_E a_row) a b c d → post 0) :
    wpY_fourPath post (f_fresh, f_n, f_hasWitness, a_row, a_weight, a_witness, a_label, a_order, a_module, a_least) (nI a) (nI b) (nI c) (nI d) := by
  have eq : ∀ {x y : Nat}, x < 8 → y < 8 → ¬ x = y → ¬ nI x = nI y := fun hx hy e z => e ((nI_eq (by omega) (by omega)).mp z)
  unfold wpY_fourPath
  dsimp only
  have ne := fun h => cg_w4_ne (E := cg_E a_row) ir (a := a) (b := b) (c := c) (d := d) ha hb hc h
  by_cases e1 : a = b
  · exact br_t (by rw [e1]) (h0 (fun z => (ne z).1 e1))
  refine br_f (eq ha hb e1) ?_
  by_cases e2 : a = c
  · exact br_t (by rw [e2]) (h0 (fun z => (ne z).2.1 e2))
  refine br_f (eq ha hc e2) ?_
  by_cases e3 : a = d
  · exact br_t (by rw [e3]) (h0 (fun z => (ne z).2.2.1 e3))
  refine br_f (eq ha hd e3) ?_
  by_cases e4 : b = c
  · exact br_t (by rw [e4]) (h0 (fun z => (ne z).2.2.2.1 e4))
  refine br_f (eq hb hc e4) ?_
  by_cases e5 : b = d
  · exact br_t (by rw [e5]) (h0 (fun z => (ne z).2.2.2.2.1 e5))
  refine br_f (eq hb hd e5) ?_
  by_cases e6 : c = d
  · exact br_t (by rw [e6]) (h0 (fun z => (ne z).2.2.2.2.2 e6))
  refine br_f (eq hc hd e6) (yw_linked ha (by omega) ?_)
  by_cases l1 : cg_E a_row a b = true
  · refine br_f (cg_b_t l1) (yw_linked hb (by omega) ?_)
    by_cases l2 : cg_E a_row b c = true
    · refine br_f (cg_b_t l2) (yw_linked hc (by omega) ?_)
      by_cases l3 : cg_E a_row c d = true
      · refine br_f (cg_b_t l3) (yw_linked ha (by omega) ?_)
        by_cases l4 : cg_E a_row a c = true
        · exact br_f (cg_b_t l4) (h0 (fun z => by rw [z.2.2.2.2.1] at l4; exact absurd l4 (by decide)))
        · refine br_t (cg_b_0.mpr (cg_bF l4)) (yw_linked ha (by omega) ?_)
          by_cases l5 : cg_E a_row a d = true
          · exact br_f (cg_b_t l5) (h0 (fun z => by rw [z.2.2.2.2.2.1] at l5; exact absurd l5 (by decide)))
          · refine br_t (cg_b_0.mpr (cg_bF l5)) (yw_linked hb (by omega) ?_)
            by_cases l6 : cg_E a_row b d = true
            · exact br_f (cg_b_t l6) (h0 (fun z => by rw [z.2.2.2.2.2.2] at l6; exact absurd l6 (by decide)))
            · exact br_t (cg_b_0.mpr (cg_bF l6)) (h1 ⟨had, l1, l2, l3, cg_bF l4, cg_bF l5, cg_bF l6⟩)
      · exact br_t (cg_b_0.mpr (cg_bF l3)) (h0 (fun z => l3 z.2.2.2.1))
    · exact br_t (cg_b_0.mpr (cg_bF l2)) (h0 (fun z => l2 z.2.2.1))
  · exact br_t (cg_b_0.mpr (cg_bF l1)) (h0 (fun z => l1 z.2.1))
/-- the digits of a list number -/
theorem cg_dig {l : Nat} (hl : l < 4096) : nI l >>> ((9 : Int32) &&& 31) = nI (l / 512) ∧ (nI l >>> ((6 : Int32) &&& 31)) &&& 7 = nI (l / 64 % 8) ∧ (nI l >>> ((3 : Int32) &&& 31)) &&& 7 = nI (l / 8 % 8) ∧ nI l &&& 7 = nI (l % 8) := by
  refine ⟨?_, ?_, ?_, ?_⟩
  · exact pk_shrN (by omega) _ 9 (by decide)
  · rw [pk_shrN (by omega) _ 6 (by decide), pk_andN (by omega) 3 (by decide)]
  · rw [pk_shrN (by omega) _ 3 (by decide), pk_andN (by omega) 3 (by decide)]
  · exact pk_andN (by omega) 3 (by decide)
theorem yw_find_step {post : Int32 → SY → Prop} {l f : Nat} (hl : l < 4096) (ir : ∀ u, u < 8 → cg_E a_row u u = false) (hno : ¬ cg_w4 (cg_E a_row) (l / 512) (l / 64 % 8) (l / 8 % 8) (l % 8))
    (h : wY_findFourPath_2 post f_fresh f_n f_hasWitness a_row a_weight a_witness a_label a_order a_module a_least f (nI (l + 1))) : wY_findFourPath_2 post f_fresh f_n f_hasWitness a_row a_weight a_witness a_label a_order a_module a_least (f + 1) (nI l) := by
  obtain ⟨d1, d2, d3, d4⟩ := cg_dig hl
  refine br_f (nI_ge (b := 4096) hl (by decide)) (nm_r d1 (nm_r d2 (nm_r d3 (nm_r d4 ?_))))
  by_cases ad : l / 512 < l % 8
  · exact br_f (nI_ge ad (by omega)) (yw_fourPath (by omega) (by omega) (by omega) (by omega) ir ad (fun z => (hno z).elim) (fun _ => br_t rfl (nm_r (nI_1 l) h)))
  · exact br_t (nI_le (by omega) (by omega)) (nm_r (nI_1 l) h)
theorem yw_find_hit {post : Int32 → SY → Prop} {l f : Nat} (hl : l < 4096) (ir : ∀ u, u < 8 → cg_E a_row u u = false) (hw : cg_w4 (cg_E a_row) (l / 512) (l / 64 % 8) (l / 8 % 8) (l % 8))
    (h : post 1 (f_fresh, f_n, f_hasWitness, a_row, a_weight, upd (upd (upd (upd a_witness 0 (nI (l / 512))) 1 (nI (l / 64 % 8))) 2 (nI (l / 8 % 8))) 3 (nI (l % 8)), a_label, a_order, a_module, a_least)) : wY_findFourPath_2 post f_fresh f_n f_hasWitness a_row a_weight a_witness a_label a_order a_module a_least (f + 1) (nI l) := by
  obtain ⟨d1, d2, d3, d4⟩ := cg_dig hl
  refine br_f (nI_ge (b := 4096) hl (by decide)) (nm_r d1 (nm_r d2 (nm_r d3 (nm_r d4 ?_))))
  exact br_f (nI_ge hw.1 (by omega)) (yw_fourPath (by omega) (by omega) (by omega) (by omega) ir hw.1 (fun _ => br_f (by decide) (nm_e (nm_e (nm_e (nm_e h))))) (fun z => (z hw).elim))
theorem yw_find0 {post : Int32 → SY → Prop} (ir : ∀ u, u < 8 → cg_E a_row u u = false) (hno : ∀ a b c d, a < 8 → b < 8 → c < 8 → d < 8 → ¬ cg_w4 (cg_E a_row) a b c d) (h : post 0 (f_fresh, f_n, f_hasWitness, a_row, a_weight, a_witness, a_label, a_order, a_module, a_least)) : wpY_findFourPath post (f_fresh, f_n, f_hasWitness, a_row, a_weight, a_witness, a_label, a_order, a_module, a_least) := by
  suffices loop : ∀ d l, l + d = 4096 → wY_findFourPath_2 post f_fresh f_n f_hasWitness a_row a_weight a_witness a_label a_order a_module a_least (d + 1) (nI l) from ⟨4097, loop 4096 0 rfl⟩
  intro d
  induction d with
  | zero =>
    intro l hl
    have : l = 4096 := by omega
    subst this
    exact br_t (by decide) h
  | succ d ih =>
    intro l hl
    exact yw_find_step (by omega) ir (hno _ _ _ _ (by omega) (by omega) (by omega) (by omega)) (ih (l + 1) (by omega))
theorem yw_find1 {post : Int32 → SY → Prop} {a b c d : Nat} (ha : a < 8) (hb : b < 8) (hc : c < 8) (hd : d < 8) (ir : ∀ u, u < 8 → cg_E a_row u u = false) (hw : cg_w4 (cg_E a_row) a b c d)
    (hmin : ∀ a' b' c' d', a' < 8 → b' < 8 → c' < 8 → d' < 8 → cg_w4 (cg_E a_row) a' b' c' d' → a * 512 + b * 64 + c * 8 + d ≤ a' * 512 + b' * 64 + c' * 8 + d')
    (h : post 1 (f_fresh, f_n, f_hasWitness, a_row, a_weight, upd (upd (upd (upd a_witness 0 (nI a)) 1 (nI b)) 2 (nI c)) 3 (nI d), a_label, a_order, a_module, a_least)) : wpY_findFourPath post (f_fresh, f_n, f_hasWitness, a_row, a_weight, a_witness, a_label, a_order, a_module, a_least) := by
  obtain ⟨L, hL⟩ : ∃ L, L = a * 512 + b * 64 + c * 8 + d := ⟨_, rfl⟩
  have e1 : L / 512 = a := by omega
  have e2 : L / 64 % 8 = b := by omega
  have e3 : L / 8 % 8 = c := by omega
  have e4 : L % 8 = d := by omega
  suffices loop : ∀ k l, l + k = L → wY_findFourPath_2 post f_fresh f_n f_hasWitness a_row a_weight a_witness a_label a_order a_module a_least (k + 1) (nI l) from ⟨L + 1, loop L 0 (by omega)⟩
  intro k
  induction k with
  | zero =>
    intro l hl
    have : l = L := by omega
    subst this
    refine yw_find_hit (by omega) ir (by rw [e1, e2, e3, e4]; exact hw) ?_
    rw [e1, e2, e3, e4]
    exact h
  | succ k ih =>
    intro l hl
    refine yw_find_step (by omega) ir (fun z => ?_) (ih (l + 1) (by omega))
    have := hmin _ _ _ _ (by omega) (by omega) (by omega) (by omega) z
    omega
end
end
section
section
variable {f_vertexCount f_root f_usedNodes f_newWeight f_wholeChildren f_emptyChildren f_partChildren f_orderLength f_witnessKept : Int32} {a_kind a_parent a_leaves a_children a_weight a_order a_value a_witnessCells a_row : Nat → Int32}
theorem ib_shl_b {x : Int32} {i n : Nat} (hi : i < 32) (hn : n < 32) (j : Nat) : bt (((x >>> (nI i &&& 31)) &&& 1) <<< (nI n &&& 31)) j = true ↔ j = n ∧ bt x i = true := by
  rw [ib_bitv x hi]
  by_cases z : bt x i = true
  · rw [if_pos z]
    show bt (ib_1 n) j = true ↔ _
    rw [tw_b1 hn]
    exact ⟨fun q => ⟨q, z⟩, fun q => q.1⟩
  · rw [if_neg z]
    have e : (0 : Int32) <<< (nI n &&& 31) = 0 := by
      apply b_ext
      intro k hk
      rw [b_shl n hn 0 hk, b_0, b_0]
      simp
    rw [e]
    exact ⟨fun q => (tw_b0 j q).elim, fun q => (z q.2).elim⟩
theorem ib_above : ∀ a, a < 8 → ∀ j, j < 32 → bt ((-2 : Int32) <<< (nI a &&& 31)) j = decide (a < j) := by decide +kernel
variable {n : Nat} {E : Nat → Nat → Bool}
/-- what X sees behind a and b -/
theorem xw_last {a b c : Nat} (ha : a ≤ n) (hb : b ≤ n) (hc : c ≤ n) (n8 : n < 8) (hE : ∀ u, u ≤ n → ∀ v, bt (a_row u) v = E u v) (d : Nat) :
    bt ((a_row c &&& (((a_row b ||| ib_1 b) ||| (a_row a ||| ib_1 a)) ^^^ (-1))) &&& ((-2 : Int32) <<< (nI a &&& 31))) d = true ↔ E c d = true ∧ E b d = false ∧ d ≠ b ∧ E a d = false ∧ a < d := by
  rcases Nat.lt_or_ge d 32 with h | h
  · rw [b_and, b_and, ib_not _ h, b_or, b_or, b_or, ib_one (by omega), ib_one (by omega), ib_above a (by omega) d h, hE c hc, hE b hb, hE a ha]
    cases E c d <;> cases E b d <;> cases E a d <;> simp <;> omega
  · rw [b_big h]
    refine ⟨fun z => absurd z (by decide), fun z => ?_⟩
    rw [← hE c hc, b_big h] at z
    exact absurd z.1 (by decide)
/-- extend, when nothing lies behind a and b -/
theorem xw_extend0 {post : SX → Prop} {a b : Nat} (ha : a ≤ n) (hb : b ≤ n) (n8 : n < 8) (hn : f_vertexCount = nI n) (hE : ∀ u, u ≤ n → ∀ v, bt (a_row u) v = E u v) (eab : E a b = true)
    (hno : ∀ c d, ¬ cg_w4 E a b c d) (h : post (f_vertexCount, f_root, f_usedNodes, f_newWeight, f_wholeChildren, f_emptyChildren, f_partChildren, f_orderLength, f_witnessKept, a_kind, a_parent, a_leaves, a_children, a_weight, a_order, a_value, a_witnessCells, a_row)) : wpX_extend post (f_vertexCount, f_root, f_usedNodes, f_newWeight, f_wholeChildren, f_emptyChildren, f_partChildren, f_orderLength, f_witnessKept, a_kind, a_parent, a_leaves, a_children, a_weight, a_order, a_value, a_witnessCells, a_row) (nI a) (nI b) := by
  subst hn
  unfold wpX_extend
  dsimp only
  rw [ib_cl (show a < 256 by omega)]
  refine ⟨ib_in (show a < 9 by omega) (by omega), nm_e ⟨n + 2, ?_⟩⟩
  suffices loop : ∀ d c, c + d = n + 1 → ∀ f, d < f → wX_extend_20 post (nI a) (nI b) (nI n) (a_row a ||| ib_1 a) (nI n) f_root f_usedNodes f_newWeight f_wholeChildren f_emptyChildren f_partChildren f_orderLength f_witnessKept a_kind a_parent a_leaves a_children a_weight a_order a_value a_witnessCells a_row f (nI c) from loop (n + 1) 0 (by omega) (n + 2) (by omega)
  intro d
  induction d with
  | zero =>
    intro c hc f hf
    obtain ⟨m, rfl⟩ : ∃ m, f = m + 1 := ⟨f - 1, by omega⟩
    exact br_t (nI_lt (by omega) (by omega)) h
  | succ d ih =>
    intro c hc f hf
    obtain ⟨m, rfl⟩ : ∃ m, f = m + 1 := ⟨f - 1, by omega⟩
    have ib : vp_in (nI b) 9 := ib_in (show b < 9 by omega) (by omega)
    have go := ih (c + 1) (by omega) m (by omega)
    refine br_f (nI_nlt (by omega) (by omega)) ⟨ib, ?_⟩
    rw [ib_cl (show b < 256 by omega), ib_cl (show c < 256 by omega)]
    by_cases bc : bt (a_row b) c = true
    · refine br_f (fun z => by rw [(ib_bit _ (by omega)).mp z] at bc; exact absurd bc (by decide)) ?_
      by_cases sc : bt (a_row a ||| ib_1 a) c = true
      · exact br_f (fun z => by rw [(ib_bit _ (by omega)).mp z] at sc; exact absurd sc (by decide)) (nm_r (nI_1 c) go)
      · refine br_t ((ib_bit _ (by omega)).mpr (cg_bF sc)) ⟨ib_in (show c < 9 by omega) (by omega), ib, nm_e (nm_e ?_)⟩
        refine br_t ?_ (nm_r (nI_1 c) go)
        refine ib_zero.mpr fun d => cg_bF fun z => ?_
        obtain ⟨h1, h2, h3, h4, h5⟩ := (xw_last ha hb (by omega) n8 hE d).mp z
        refine hno c d ⟨h5, eab, by rw [← hE b hb]; exact bc, h1, ?_, h4, h2⟩
        rw [← hE a ha]
        exact cg_bF fun q => sc ((tw_bor _ _ _).mpr (Or.inl q))
    · exact br_t ((ib_bit _ (by omega)).mpr (cg_bF bc)) (nm_r (nI_1 c) go)
/-- extend, at the first four-path -/
theorem xw_extend1 {post : SX → Prop} {a b c d : Nat} (ha : a ≤ n) (hb : b ≤ n) (hc : c ≤ n) (hd : d ≤ n) (n8 : n < 8) (hn : f_vertexCount = nI n) (hE : ∀ u, u ≤ n → ∀ v, bt (a_row u) v = E u v) (ir : ∀ u, u < 8 → E u u = false)
    (hw : cg_w4 E a b c d) (hmc : ∀ c' d', c' < c → ¬ cg_w4 E a b c' d') (hmd : ∀ d', d' < d → ¬ cg_w4 E a b c d')
    (h : post (f_vertexCount, f_root, f_usedNodes, f_newWeight, f_wholeChildren, f_emptyChildren, f_partChildren, f_orderLength, 1, a_kind, a_parent, a_leaves, a_children, a_weight, a_order, a_value, upd (upd (upd (upd a_witnessCells 0 (nI a)) 1 (nI b)) 2 (nI c)) 3 (nI d), a_row)) : wpX_extend post (f_vertexCount, f_root, f_usedNodes, f_newWeight, f_wholeChildren, f_emptyChildren, f_partChildren, f_orderLength, f_witnessKept, a_kind, a_parent, a_leaves, a_children, a_weight, a_order, a_value, a_witnessCells, a_row) (nI a) (nI b) := by
  subst hn
  have ne := cg_w4_ne ir (by omega) (by omega) (by omega) hw
  unfold wpX_extend
  dsimp only
  rw [ib_cl (show a < 256 by omega)]
  refine ⟨ib_in (show a < 9 by omega) (by omega), nm_e ⟨n + 2, ?_⟩⟩
  suffices loop : ∀ k i, i + k = c → ∀ f, k < f → wX_extend_20 post (nI a) (nI b) (nI n) (a_row a ||| ib_1 a) (nI n) f_root f_usedNodes f_newWeight f_wholeChildren f_emptyChildren f_partChildren f_orderLength f_witnessKept a_kind a_parent a_leaves a_children a_weight a_order a_value a_witnessCells a_row f (nI i) from loop c 0 (by omega) (n + 2) (by omega)
  have ib : vp_in (nI b) 9 := ib_in (show b < 9 by omega) (by omega)
  intro k
  induction k with
  | zero =>
    intro i hi f hf
    obtain ⟨m, rfl⟩ : ∃ m, f = m + 1 := ⟨f - 1, by omega⟩
    have : i = c := by omega
    subst this
    refine br_f (nI_nlt (by omega) (by omega)) ⟨ib, ?_⟩
    rw [ib_cl (show b < 256 by omega), ib_cl (show i < 256 by omega)]
    have bc : bt (a_row b) i = true := by rw [hE b hb]; exact hw.2.2.1
    have sc : bt (a_row a ||| ib_1 a) i = false := by
      rw [b_or, ib_one (by omega), hE a ha, hw.2.2.2.2.1, decide_eq_false (fun z => ne.2.1 z.symm)]; rfl
    refine br_f (fun z => by rw [(ib_bit _ (by omega)).mp z] at bc; exact absurd bc (by decide)) (br_t ((ib_bit _ (by omega)).mpr sc) ⟨ib_in (show i < 9 by omega) (by omega), ib, nm_e (nm_e ?_)⟩)
    have last := xw_last (a_row := a_row) ha hb hc n8 hE
    have hd1 := (last d).mpr ⟨hw.2.2.2.1, hw.2.2.2.2.2.2, Ne.symm ne.2.2.2.2.1, hw.2.2.2.2.2.1, hw.1⟩
    refine br_f (fun z => ?_) (nm_e (nm_e (nm_e (xw_lowestBit (show d < 31 by omega) hd1 (fun j hj => cg_bF fun z => ?_) (nm_e h)))))
    · exact absurd (hd1.symm.trans (ib_zero.mp z d)) (by decide)
    · obtain ⟨h1, h2, h3, h4, h5⟩ := (last j).mp z
      exact hmd j hj ⟨h5, hw.2.1, hw.2.2.1, h1, hw.2.2.2.2.1, h4, h2⟩
  | succ k ih =>
    intro i hi f hf
    obtain ⟨m, rfl⟩ : ∃ m, f = m + 1 := ⟨f - 1, by omega⟩
    have go := ih (i + 1) (by omega) m (by omega)
    refine br_f (nI_nlt (by omega) (by omega)) ⟨ib, ?_⟩
    rw [ib_cl (show b < 256 by omega), ib_cl (show i < 256 by omega)]
    by_cases bc : bt (a_row b) i = true
    · refine br_f (fun z => by rw [(ib_bit _ (by omega)).mp z] at bc; exact absurd bc (by decide)) ?_
      by_cases sc : bt (a_row a ||| ib_1 a) i = true
      · exact br_f (fun z => by rw [(ib_bit _ (by omega)).mp z] at sc; exact absurd sc (by decide)) (nm_r (nI_1 i) go)
      · refine br_t ((ib_bit _ (by omega)).mpr (cg_bF sc)) ⟨ib_in (show i < 9 by omega) (by omega), ib, nm_e (nm_e ?_)⟩
        refine br_t ?_ (nm_r (nI_1 i) go)
        refine ib_zero.mpr fun d => cg_bF fun z => ?_
        obtain ⟨h1, h2, h3, h4, h5⟩ := (xw_last ha hb (by omega) n8 hE d).mp z
        refine hmc i d (by omega) ⟨h5, hw.2.1, by rw [← hE b hb]; exact bc, h1, ?_, h4, h2⟩
        rw [← hE a ha]
        exact cg_bF fun q => sc ((tw_bor _ _ _).mpr (Or.inl q))
    · exact br_t ((ib_bit _ (by omega)).mpr (cg_bF bc)) (nm_r (nI_1 i) go)
/-- the search, once the rows stand -/
theorem xw_find_83 {post : SX → Prop} {a b c d : Nat} (ha : a ≤ n) (hb : b ≤ n) (hc : c ≤ n) (hd : d ≤ n) (n8 : n < 8) (hn : f_vertexCount = nI n) (hE : ∀ u, u ≤ n → ∀ v, bt (a_row u) v = E u v) (ir : ∀ u, u < 8 → E u u = false)
    (hw : cg_w4 E a b c d) (hmin : ∀ a' b' c' d', a' ≤ n → b' ≤ n → cg_w4 E a' b' c' d' → a * 512 + b * 64 + c * 8 + d ≤ a' * 512 + b' * 64 + c' * 8 + d') (h8 : ∀ u v, u ≤ n → E u v = true → v ≤ n)
    (h : post (f_vertexCount, f_root, f_usedNodes, f_newWeight, f_wholeChildren, f_emptyChildren, f_partChildren, f_orderLength, 1, a_kind, a_parent, a_leaves, a_children, a_weight, a_order, a_value, upd (upd (upd (upd a_witnessCells 0 (nI a)) 1 (nI b)) 2 (nI c)) 3 (nI d), a_row)) :
    wX_findWitness_83 post (nI n) (n + 2) (nI 0) f_vertexCount f_root f_usedNodes f_newWeight f_wholeChildren f_emptyChildren f_partChildren f_orderLength 0 a_kind a_parent a_leaves a_children a_weight a_order a_value a_witnessCells a_row := by
  subst hn
  have w8 : ∀ {a' b' c' d'}, a' ≤ n → cg_w4 E a' b' c' d' → b' ≤ n ∧ c' ≤ n ∧ d' ≤ n := by
    intro a' b' c' d' ha' z
    have h1 := h8 _ _ ha' z.2.1
    have h2 := h8 _ _ h1 z.2.2.1
    exact ⟨h1, h2, h8 _ _ h2 z.2.2.2.1⟩
  have small : ∀ {a' b' c' d'}, a' ≤ n → a' * 64 + b' < a * 64 + b → ¬ cg_w4 E a' b' c' d' := by
    intro a' b' c' d' ha' hlt z
    obtain ⟨h1, h2, h3⟩ := w8 ha' z
    have := hmin _ _ _ _ ha' h1 z
    omega
  have hmc : ∀ c' d', c' < c → ¬ cg_w4 E a b c' d' := by
    intro c' d' hlt z
    obtain ⟨h1, h2, h3⟩ := w8 ha z
    have := hmin _ _ _ _ ha hb z
    omega
  have hmd : ∀ d', d' < d → ¬ cg_w4 E a b c d' := by
    intro d' hlt z
    have := hmin _ _ _ _ ha hb z
    omega
  -- row i: nothing before (a, b)
  have inner0 : ∀ (i : Nat) (J : Int32 → Int32 → Int32 → Int32 → Int32 → Int32 → Int32 → Int32 → Int32 → Int32 → (Nat → Int32) → (Nat → Int32) → (Nat → Int32) → (Nat → Int32) → (Nat → Int32) → (Nat → Int32) → (Nat → Int32) → (Nat → Int32) → (Nat → Int32) → Prop), i < a → J (nI (i + 1)) (nI n) f_root f_usedNodes f_newWeight f_wholeChildren f_emptyChildren f_partChildren f_orderLength 0 a_kind a_parent a_leaves a_children a_weight a_order a_value a_witnessCells a_row → ∀ k j, j + k = n + 1 → ∀ f, k < f → wX_findWitness_98 post J (nI n) (nI i) f (nI j) (nI n) f_root f_usedNodes f_newWeight f_wholeChildren f_emptyChildren f_partChildren f_orderLength 0 a_kind a_parent a_leaves a_children a_weight a_order a_value a_witnessCells a_row := by
    intro i J hi hJ k
    induction k with
    | zero =>
      intro j hj f hf
      obtain ⟨m, rfl⟩ : ∃ m, f = m + 1 := ⟨f - 1, by omega⟩
      exact br_t (nI_lt (by omega) (by omega)) (nm_r (nI_1 i) hJ)
    | succ k ih =>
      intro j hj f hf
      obtain ⟨m, rfl⟩ : ∃ m, f = m + 1 := ⟨f - 1, by omega⟩
      have go := ih (j + 1) (by omega) m (by omega)
      refine br_f (nI_nlt (by omega) (by omega)) (br_t rfl ⟨ib_in (show i < 9 by omega) (by omega), ?_⟩)
      rw [ib_cl (show i < 256 by omega)]
      by_cases e : bt (a_row i) j = true
      · refine br_f (fun z => by rw [(ib_bit _ (by omega)).mp z] at e; exact absurd e (by decide)) (xw_extend0 (E := E) (n := n) (by omega) (by omega) n8 rfl hE (by rw [← hE i (by omega)]; exact e) (fun c' d' => small (by omega) (by omega)) (nm_r (nI_1 j) go))
      · exact br_t ((ib_bit _ (by omega)).mpr (cg_bF e)) (nm_r (nI_1 j) go)
  -- row a
  have inner1 : ∀ (J : Int32 → Int32 → Int32 → Int32 → Int32 → Int32 → Int32 → Int32 → Int32 → Int32 → (Nat → Int32) → (Nat → Int32) → (Nat → Int32) → (Nat → Int32) → (Nat → Int32) → (Nat → Int32) → (Nat → Int32) → (Nat → Int32) → (Nat → Int32) → Prop), J (nI (a + 1)) (nI n) f_root f_usedNodes f_newWeight f_wholeChildren f_emptyChildren f_partChildren f_orderLength 1 a_kind a_parent a_leaves a_children a_weight a_order a_value (upd (upd (upd (upd a_witnessCells 0 (nI a)) 1 (nI b)) 2 (nI c)) 3 (nI d)) a_row → ∀ k j, j + k = b → ∀ f, k + 1 < f → wX_findWitness_98 post J (nI n) (nI a) f (nI j) (nI n) f_root f_usedNodes f_newWeight f_wholeChildren f_emptyChildren f_partChildren f_orderLength 0 a_kind a_parent a_leaves a_children a_weight a_order a_value a_witnessCells a_row := by
    intro J hJ k
    induction k with
    | zero =>
      intro j hj f hf
      obtain ⟨m, rfl⟩ : ∃ m, f = m + 2 := ⟨f - 2, by omega⟩
      have : j = b := by omega
      subst this
      refine br_f (nI_nlt (by omega) (by omega)) (br_t rfl ⟨ib_in (show a < 9 by omega) (by omega), ?_⟩)
      rw [ib_cl (show a < 256 by omega)]
      have e : bt (a_row a) j = true := by rw [hE a ha]; exact hw.2.1
      refine br_f (fun z => by rw [(ib_bit _ (by omega)).mp z] at e; exact absurd e (by decide)) (xw_extend1 (E := E) (n := n) ha hb hc hd n8 rfl hE ir hw hmc hmd (nm_r (nI_1 j) ?_))
      by_cases jn : n < j + 1
      · exact br_t (nI_lt jn (by omega)) (nm_r (nI_1 a) hJ)
      · exact br_f (nI_nlt (by omega) (by omega)) (br_f (by decide) (nm_r (nI_1 a) hJ))
    | succ k ih =>
      intro j hj f hf
      obtain ⟨m, rfl⟩ : ∃ m, f = m + 1 := ⟨f - 1, by omega⟩
      have go := ih (j + 1) (by omega) m (by omega)
      refine br_f (nI_nlt (by omega) (by omega)) (br_t rfl ⟨ib_in (show a < 9 by omega) (by omega), ?_⟩)
      rw [ib_cl (show a < 256 by omega)]
      by_cases e : bt (a_row a) j = true
      · refine br_f (fun z => by rw [(ib_bit _ (by omega)).mp z] at e; exact absurd e (by decide)) (xw_extend0 (E := E) (n := n) ha (by omega) n8 rfl hE (by rw [← hE a ha]; exact e) (fun c' d' => small ha (by omega)) (nm_r (nI_1 j) go))
      · exact br_t ((ib_bit _ (by omega)).mpr (cg_bF e)) (nm_r (nI_1 j) go)
  suffices loop : ∀ k i, i + k = a → ∀ f, k + 1 < f → wX_findWitness_83 post (nI n) f (nI i) (nI n) f_root f_usedNodes f_newWeight f_wholeChildren f_emptyChildren f_partChildren f_orderLength 0 a_kind a_parent a_leaves a_children a_weight a_order a_value a_witnessCells a_row from loop a 0 (by omega) (n + 2) (by omega)
  intro k
  induction k with
  | zero =>
    intro i hi f hf
    obtain ⟨m, rfl⟩ : ∃ m, f = m + 2 := ⟨f - 2, by omega⟩
    have : i = a := by omega
    subst this
    refine br_f (nI_nlt (by omega) (by omega)) (br_t rfl ⟨b + 2, inner1 _ ?_ b 0 (by omega) (b + 2) (by omega)⟩)
    by_cases jn : n < i + 1
    · exact br_t (nI_lt jn (by omega)) h
    · exact br_f (nI_nlt (by omega) (by omega)) (br_f (by decide) h)
  | succ k ih =>
    intro i hi f hf
    obtain ⟨m, rfl⟩ : ∃ m, f = m + 1 := ⟨f - 1, by omega⟩
    exact br_f (nI_nlt (by omega) (by omega)) (br_t rfl ⟨n + 2, inner0 i _ (by omega) (ih (i + 1) (by omega) m (by omega)) (n + 1) 0 (by omega) (n + 2) (by omega)⟩)
end
end
section
section
variable {f_vertexCount f_root f_usedNodes f_newWeight f_wholeChildren f_emptyChildren f_partChildren f_orderLength f_witnessKept : Int32} {a_kind a_parent a_leaves a_children a_weight a_order a_value a_witnessCells a_row : Nat → Int32}
variable {n : Nat} {E E' : Nat → Nat → Bool}
theorem xw_findWitness {post : SX → Prop} {N : Int32} {a b c d : Nat} (T : cg_T n f_root f_usedNodes a_kind a_parent a_leaves a_children E) (n8 : n < 8) (hn : f_vertexCount = nI n) (ir0 : ∀ u, u < n → E u u = false)
    (e1 : ∀ u v, u < n → v < n → E' u v = E u v) (e2 : ∀ u, u < n → E' u n = bt N u) (e3 : ∀ u v, u < n → n < v → E' u v = false) (e4 : ∀ v, E' n v = bt N v)
    (ha : a ≤ n) (hb : b ≤ n) (hc : c ≤ n) (hd : d ≤ n) (ir : ∀ u, u < 8 → E' u u = false)
    (hw : cg_w4 E' a b c d) (hmin : ∀ a' b' c' d', a' ≤ n → b' ≤ n → cg_w4 E' a' b' c' d' → a * 512 + b * 64 + c * 8 + d ≤ a' * 512 + b' * 64 + c' * 8 + d') (h8 : ∀ u v, u ≤ n → E' u v = true → v ≤ n)
    (h : ∀ row, post (f_vertexCount, f_root, f_usedNodes, f_newWeight, f_wholeChildren, f_emptyChildren, f_partChildren, f_orderLength, 1, a_kind, a_parent, a_leaves, a_children, a_weight, a_order, a_value, upd (upd (upd (upd a_witnessCells 0 (nI a)) 1 (nI b)) 2 (nI c)) 3 (nI d), row)) :
    wpX_findWitness post (f_vertexCount, f_root, f_usedNodes, f_newWeight, f_wholeChildren, f_emptyChildren, f_partChildren, f_orderLength, f_witnessKept, a_kind, a_parent, a_leaves, a_children, a_weight, a_order, a_value, a_witnessCells, a_row) N := by
  unfold wpX_findWitness
  dsimp only
  rw [hn]
  rw [hn] at h
  refine ⟨n + 1, ?_⟩
  -- one row
  have inner : ∀ (u : Nat) (J : Int32 → (Nat → Int32) → (Nat → Int32) → (Nat → Int32) → (Nat → Int32) → (Nat → Int32) → (Nat → Int32) → (Nat → Int32) → (Nat → Int32) → (Nat → Int32) → Prop) (row0 : Nat → Int32), u < n →
      (∀ row, (∀ w, w ≠ u → row w = row0 w) → (∀ v, bt (row u) v = E' u v) → J (nI (u + 1)) a_kind a_parent a_leaves a_children a_weight a_order a_value a_witnessCells row) →
      ∀ k j, j + k = n → ∀ row, (∀ w, w ≠ u → row w = row0 w) → (∀ v, bt (row u) v = true ↔ (v = n ∧ bt N u = true) ∨ (v < j ∧ E u v = true)) → ∀ f, k < f →
      wX_findWitness_28 post J N (nI n) (nI u) (nI n) f_root f_usedNodes f_newWeight f_wholeChildren f_emptyChildren f_partChildren f_orderLength f_witnessKept f (nI j) a_kind a_parent a_leaves a_children a_weight a_order a_value a_witnessCells row := by
    intro u J row0 hu hJ k
    induction k with
    | zero =>
      intro j hj row h1 h2 f hf
      obtain ⟨m, rfl⟩ : ∃ m, f = m + 1 := ⟨f - 1, by omega⟩
      have : j = n := by omega
      subst this
      refine br_t (nI_le (Nat.le_refl _) (by omega)) (nm_r (nI_1 u) (hJ row h1 (fun v => ?_)))
      rcases Nat.lt_trichotomy v j with z | z | z
      · rw [e1 u v hu z]
        cases q : E u v
        · refine cg_bF fun t => ?_
          rcases (h2 v).mp t with ⟨t, _⟩ | ⟨_, t⟩
          · omega
          · rw [q] at t; exact absurd t (by decide)
        · exact (h2 v).mpr (Or.inr ⟨z, q⟩)
      · subst z
        rw [e2 u hu]
        cases q : bt N u
        · refine cg_bF fun t => ?_
          rcases (h2 v).mp t with ⟨_, t⟩ | ⟨t, _⟩
          · rw [q] at t; exact absurd t (by decide)
          · omega
        · exact (h2 v).mpr (Or.inl ⟨rfl, q⟩)
      · rw [e3 u v hu z]
        refine cg_bF fun t => ?_
        rcases (h2 v).mp t with ⟨t, _⟩ | ⟨t, _⟩ <;> omega
    | succ k ih =>
      intro j hj row h1 h2 f hf
      obtain ⟨m, rfl⟩ : ∃ m, f = m + 1 := ⟨f - 1, by omega⟩
      refine br_f (nI_ge (by omega) (by omega)) (xw_adjacent T (by omega) rfl hu (by omega) ir0 ?_)
      by_cases q : E u j = true
      · rw [if_pos q]
        have iu : vp_in (nI u) 9 := ib_in (show u < 9 by omega) (by omega)
        refine br_f (by decide) ⟨iu, iu, nm_e (nm_r (nI_1 j) (ih (j + 1) (by omega) _ ?_ ?_ m (by omega)))⟩
        · intro w hw'
          rw [ib_cl (show u < 256 by omega), pk_un hw']
          exact h1 w hw'
        · intro v
          rw [ib_cl (show u < 256 by omega), pk_us]
          show bt (row u ||| ib_1 j) v = true ↔ _
          rw [tw_or1 _ (by omega), h2]
          constructor
          · rintro ((t | ⟨t1, t2⟩) | t)
            · exact Or.inl t
            · exact Or.inr ⟨by omega, t2⟩
            · subst t; exact Or.inr ⟨by omega, q⟩
          · rintro (t | ⟨t1, t2⟩)
            · exact Or.inl (Or.inl t)
            · by_cases t : v = j
              · exact Or.inr t
              · exact Or.inl (Or.inr ⟨by omega, t2⟩)
      · rw [if_neg q]
        refine br_t rfl (nm_r (nI_1 j) (ih (j + 1) (by omega) row h1 ?_ m (by omega)))
        intro v
        rw [h2]
        constructor
        · rintro (t | ⟨t1, t2⟩)
          · exact Or.inl t
          · exact Or.inr ⟨by omega, t2⟩
        · rintro (t | ⟨t1, t2⟩)
          · exact Or.inl t
          · have : v ≠ j := fun z => q (by rw [← z]; exact t2)
            exact Or.inr ⟨by omega, t2⟩
  suffices loop : ∀ k u, u + k = n → ∀ row, (∀ w, w < u → ∀ v, bt (row w) v = E' w v) → ∀ f, k < f →
      wX_findWitness_7 post N (nI n) (nI n) f_root f_usedNodes f_newWeight f_wholeChildren f_emptyChildren f_partChildren f_orderLength f_witnessKept f (nI u) a_kind a_parent a_leaves a_children a_weight a_order a_value a_witnessCells row from loop n 0 (by omega) a_row (fun w hw => (Nat.not_lt_zero w hw).elim) (n + 1) (by omega)
  intro k
  induction k with
  | zero =>
    intro u hu row hr f hf
    obtain ⟨m, rfl⟩ : ∃ m, f = m + 1 := ⟨f - 1, by omega⟩
    have : u = n := by omega
    subst this
    refine br_t (nI_le (Nat.le_refl _) (by omega)) ⟨ib_in (show u < 9 by omega) (by omega), nm_e ⟨u + 2, ?_⟩⟩
    rw [ib_cl (show u < 256 by omega)]
    refine xw_find_83 (E := E') (n := u) ha hb hc hd n8 rfl ?_ ir hw hmin h8 (h _)
    intro w hw' v
    by_cases z : w = u
    · subst z
      rw [pk_us, e4]
    · rw [pk_un z]
      exact hr w (by omega) v
  | succ k ih =>
    intro u hu row hr f hf
    obtain ⟨m, rfl⟩ : ∃ m, f = m + 1 := ⟨f - 1, by omega⟩
    refine br_f (nI_ge (by omega) (by omega)) ⟨ib_in (show u < 9 by omega) (by omega), nm_e ⟨n + 1, ?_⟩⟩
    rw [ib_cl (show u < 256 by omega)]
    refine inner u _ row (by omega) ?_ n 0 (by omega) _ (fun w hw' => pk_un hw') ?_ (n + 1) (by omega)
    · intro row' h1 h2
      refine ih (u + 1) (by omega) row' ?_ m (by omega)
      intro w hw' v
      by_cases z : w = u
      · subst z; exact h2 v
      · rw [h1 w z]; exact hr w (by omega) v
    · intro v
      rw [pk_us, ib_shl_b (by omega) (by omega)]
      exact ⟨Or.inl, fun t => t.elim id (fun t => (Nat.not_lt_zero v t.1).elim)⟩
end
section
variable {f_fresh f_n f_hasWitness : Int32} {a_row a_weight a_witness a_label a_order a_module a_least : Nat → Int32}
/-- what Y's addVertex asks of its search -/
def yw_K (post : Int32 → SY → Prop) : Int32 → SY → Prop := fun r_17 u => match u with
      | (f_fresh_18, f_n_19, f_hasWitness_20, a_row_21, a_weight_22, a_witness_23, a_label_24, a_order_25, a_module_26, a_least_27) => (narrow .boolean (.int r_17) = .int r_17 ∧ fits .boolean (.int r_17) = true ∧ (((r_17 = 0 → (vp_in f_n_19 8 ∧ ∀ a_weight_32 : (Nat → Int32), a_weight_32 = upd a_weight_22 f_n_19.toNatClampNeg f_fresh_18 → (∀ f_n_33 : Int32, f_n_33 = f_n_19 + 1 → (post f_n_33 (f_fresh_18, f_n_33, r_17, a_row_21, a_weight_32, a_witness_23, a_label_24, a_order_25, a_module_26, a_least_27))))) ∧ (¬ r_17 = 0 → (vp_in f_n_19 8 ∧ ∀ a_row_35 : (Nat → Int32), a_row_35 = upd a_row_21 f_n_19.toNatClampNeg 0 → (∃ n103 : Nat, wY_addVertex_103 post f_fresh_18 f_n_19 r_17 n103 0 a_row_35 a_weight_22 a_witness_23 a_label_24 a_order_25 a_module_26 a_least_27))))))
/-- the rows with the new vertex, up to vertex i -/
def cg_arow (n : Nat) (N : Int32) (row : Nat → Int32) (i : Nat) : Nat → Int32 := fun u => if u = n then N else if u < i ∧ bt N u = true then row u ||| ib_1 n else row u
/-- Y's addVertex down to the search -/
theorem yw_add {post : Int32 → SY → Prop} {n : Nat} {N : Int32} (n8 : n < 8) (hn : f_n = nI n) (h : wpY_findFourPath (yw_K post) (f_fresh, nI n, f_hasWitness, cg_arow n N a_row n, a_weight, a_witness, a_label, a_order, a_module, a_least)) :
    ∃ f, wY_addVertex_34 post N f_fresh f_n f_hasWitness f (nI 0) (upd a_row n N) a_weight a_witness a_label a_order a_module a_least := by
  subst hn
  have c0 : upd a_row n N = cg_arow n N a_row 0 := by
    funext u
    unfold upd cg_arow
    rw [if_neg (show ¬ (u < 0 ∧ bt N u = true) from fun z => Nat.not_lt_zero u z.1)]
  rw [c0]
  suffices loop : ∀ k i, i + k = n → ∀ f, k < f → wY_addVertex_34 post N f_fresh (nI n) f_hasWitness f (nI i) (cg_arow n N a_row i) a_weight a_witness a_label a_order a_module a_least from ⟨n + 1, loop n 0 (by omega) (n + 1) (by omega)⟩
  intro k
  induction k with
  | zero =>
    intro i hi f hf
    obtain ⟨m, rfl⟩ : ∃ m, f = m + 1 := ⟨f - 1, by omega⟩
    have : i = n := by omega
    subst this
    exact br_t (nI_le (Nat.le_refl _) (by omega)) h
  | succ k ih =>
    intro i hi f hf
    obtain ⟨m, rfl⟩ : ∃ m, f = m + 1 := ⟨f - 1, by omega⟩
    have go := ih (i + 1) (by omega) m (by omega)
    have ii : vp_in (nI i) 8 := ib_in (show i < 8 by omega) (by omega)
    refine br_f (nI_ge (by omega) (by omega)) (yw_has (by omega) ?_)
    by_cases q : bt N i = true
    · refine br_f (cg_b_t q) ⟨ii, ii, nm_r (e' := cg_arow n N a_row (i + 1)) ?_ (nm_r (nI_1 i) go)⟩
      rw [ib_cl (show i < 256 by omega)]
      funext u
      unfold upd cg_arow
      by_cases e : u = i
      · subst e
        rw [if_pos rfl, if_neg (by omega), if_neg (by omega), if_neg (show ¬ u = n by omega), if_pos ⟨by omega, q⟩]
        rfl
      · rw [if_neg e]
        by_cases un : u = n
        · rw [if_pos un, if_pos un]
        · rw [if_neg un, if_neg un]
          by_cases z : u < i ∧ bt N u = true
          · rw [if_pos z, if_pos ⟨by omega, z.2⟩]
          · rw [if_neg z, if_neg (fun t => z ⟨by omega, t.2⟩)]
    · have e : cg_arow n N a_row (i + 1) = cg_arow n N a_row i := by
        funext u
        unfold cg_arow
        by_cases un : u = n
        · rw [if_pos un, if_pos un]
        · rw [if_neg un, if_neg un]
          by_cases z : u < i ∧ bt N u = true
          · rw [if_pos z, if_pos ⟨by omega, z.2⟩]
          · rw [if_neg z, if_neg (fun t => z ⟨?_, t.2⟩)]
            have : u ≠ i := fun s => q (by rw [← s]; exact t.2)
            omega
      rw [e] at go
      exact br_t (cg_b_0.mpr (cg_bF q)) (nm_r (nI_1 i) go)
/-- the rows put back -/
theorem yw_back {post : Int32 → SY → Prop} {n : Nat} {row0 : Nat → Int32} (n8 : n < 8) (hn : f_n = nI n) (h : post (-3) (f_fresh, f_n, f_hasWitness, row0, a_weight, a_witness, a_label, a_order, a_module, a_least)) :
    ∀ k i, i + k = n → (∀ u, u < i → a_row u = row0 u) → (∀ u, i ≤ u → u < n → a_row u &&& (ib_1 n ^^^ (-1)) = row0 u) → (∀ u, n ≤ u → a_row u = row0 u) → ∀ f, k < f → wY_addVertex_103 post f_fresh f_n f_hasWitness f (nI i) a_row a_weight a_witness a_label a_order a_module a_least := by
  subst hn
  intro k
  induction k generalizing a_row with
  | zero =>
    intro i hi h1 h2 h3 f hf
    obtain ⟨m, rfl⟩ : ∃ m, f = m + 1 := ⟨f - 1, by omega⟩
    have : i = n := by omega
    subst this
    have e : a_row = row0 := by
      funext u
      rcases Nat.lt_or_ge u i with z | z
      · exact h1 u z
      · exact h3 u z
    rw [e]
    exact br_t (nI_le (Nat.le_refl _) (by omega)) h
  | succ k ih =>
    intro i hi h1 h2 h3 f hf
    obtain ⟨m, rfl⟩ : ∃ m, f = m + 1 := ⟨f - 1, by omega⟩
    have ii : vp_in (nI i) 8 := ib_in (show i < 8 by omega) (by omega)
    refine br_f (nI_ge (by omega) (by omega)) ⟨ii, ii, nm_e (nm_r (nI_1 i) (ih (i + 1) (by omega) ?_ ?_ ?_ m (by omega)))⟩
    · intro u hu
      rw [ib_cl (show i < 256 by omega)]
      by_cases e : u = i
      · subst e
        rw [pk_us]
        exact h2 u (Nat.le_refl u) (by omega)
      · rw [pk_un e]; exact h1 u (by omega)
    · intro u hu hu'
      rw [ib_cl (show i < 256 by omega), pk_un (by omega)]
      exact h2 u (by omega) hu'
    · intro u hu
      rw [ib_cl (show i < 256 by omega), pk_un (by omega)]
      exact h3 u hu
end
end
section
/-! ===== addVertex ===== -/
theorem cg_least4 {n : Nat} {E : Nat → Nat → Bool} (n8 : n < 8) (sy : ∀ u v, u ≤ n → v ≤ n → E u v = E v u) (up : ∀ u v, u < 8 → E u v = true → u ≤ n ∧ v ≤ n) (h : cg_P4 n E) :
    ∃ a b c d, a ≤ n ∧ b ≤ n ∧ c ≤ n ∧ d ≤ n ∧ cg_w4 E a b c d ∧ ∀ a' b' c' d', a' < 8 → b' < 8 → c' < 8 → d' < 8 → cg_w4 E a' b' c' d' → a * 512 + b * 64 + c * 8 + d ≤ a' * 512 + b' * 64 + c' * 8 + d' := by
  have h1 : ∃ a b c d, a ≤ n ∧ b ≤ n ∧ c ≤ n ∧ d ≤ n ∧ cg_w4 E a b c d := by
    obtain ⟨a, b, c, d, ha, hb, hc, hd, e1, e2, e3, e4, e5, e6⟩ := h
    rcases Nat.lt_trichotomy a d with z | z | z
    · exact ⟨a, b, c, d, ha, hb, hc, hd, z, e1, e2, e3, e4, e5, e6⟩
    · subst z
      rw [sy c a hc ha, e4] at e3
      exact absurd e3 (by decide)
    · refine ⟨d, c, b, a, hd, hc, hb, ha, z, ?_, ?_, ?_, ?_, ?_, ?_⟩
      · rw [sy d c hd hc]; exact e3
      · rw [sy c b hc hb]; exact e2
      · rw [sy b a hb ha]; exact e1
      · rw [sy d b hd hb]; exact e6
      · rw [sy d a hd ha]; exact e5
      · rw [sy c a hc ha]; exact e4
  obtain ⟨a0, b0, c0, d0, ha0, hb0, hc0, hd0, w0⟩ := h1
  obtain ⟨l, ⟨a, b, c, d, ha, hb, hc, hd, w, rfl⟩, hmin⟩ := pk_least (fun l => ∃ a b c d, a < 8 ∧ b < 8 ∧ c < 8 ∧ d < 8 ∧ cg_w4 E a b c d ∧ l = a * 512 + b * 64 + c * 8 + d) ⟨_, a0, b0, c0, d0, by omega, by omega, by omega, by omega, w0, rfl⟩
  have u1 := up a b ha w.2.1
  have u2 := up b c hb w.2.2.1
  have u3 := up c d hc w.2.2.2.1
  refine ⟨a, b, c, d, u1.1, u1.2, u2.2, u3.2, w, ?_⟩
  intro a' b' c' d' ha' hb' hc' hd' w'
  exact Nat.le_of_not_lt fun z => hmin _ z ⟨a', b', c', d', ha', hb', hc', hd', w', rfl⟩
theorem i_vc_addVertex {k : Nat} {u : SX} {v : SY} (I : i_Rel k u v) (hk : k + 3 ≤ 1537) (v1 : Int32) : wpX_addVertex (fun r u' => wpY_addVertex (fun r' v' => r' = r ∧ i_Rel (k + 3) u' v') v v1) u v1 := by
  obtain ⟨vc, root, used, nw, x1, x2, x3, x4, wk, kind, parent, leaves, children, weight, x5, x6, cells, x7⟩ := u
  obtain ⟨fresh, yn, hw, row, weight', wit, y1, y2, y3, y4⟩ := v
  have J := I
  obtain ⟨n, n8, rfl, rfl, rfl, hwt, ⟨rfl, hfr⟩, G, T, hwk⟩ := J
  by_cases n8' : n = 8
  · subst n8'
    exact br_f (by decide) (br_t rfl ⟨rfl, I⟩)
  have n7 : n < 8 := by omega
  have ny : ¬ nI n = 8 := fun z => n8' ((nI_eq (b := 8) (by omega) (by decide)).mp z)
  have z0 : ¬ (1 : Int32) = 0 := by decide
  refine br_t (nI_lt (b := 8) n7 (by decide)) ?_
  rcases cg_isSet n8 v1 with bad | ⟨p, hp, rfl⟩
  · exact xw_isSet0 rfl bad (br_t rfl (br_f ny (yw_isSet0 rfl bad (br_t rfl ⟨rfl, I⟩))))
  refine xw_isSet1 n8 rfl hp (br_f z0 ?_)
  have p256 := cg_p256 n8 hp
  have bN : ∀ j, bt (nI p) j = p.testBit j := fun j => ib_nI' (by omega) j
  have bNn : ∀ j, bt (nI p) j = true → j < n := fun j hj => cg_pbit hp (by rw [← bN]; exact hj)
  obtain ⟨row', hrow'⟩ : ∃ row', row' = cg_arow n (nI p) row n := ⟨_, rfl⟩
  have rn : row' n = nI p := by rw [hrow']; unfold cg_arow; rw [if_pos rfl]
  have ru : ∀ u, u < n → ∀ j, bt (row' u) j = true ↔ bt (row u) j = true ∨ (j = n ∧ bt (nI p) u = true) := by
    intro u hu j
    rw [hrow']
    unfold cg_arow
    rw [if_neg (by omega)]
    by_cases q : bt (nI p) u = true
    · rw [if_pos ⟨hu, q⟩, tw_or1 _ (by omega)]
      exact ⟨fun z => z.imp id (fun z => ⟨z, q⟩), fun z => z.imp id (fun z => z.1)⟩
    · rw [if_neg (fun z => q z.2)]
      exact ⟨Or.inl, fun z => z.elim id (fun z => (q z.2).elim)⟩
  have rb : ∀ u, n < u → row' u = row u := by
    intro u hu
    rw [hrow']
    unfold cg_arow
    rw [if_neg (by omega), if_neg (by omega)]
  have e1 : ∀ u v, u < n → v < n → cg_E row' u v = cg_E row u v := by
    intro u v hu hv
    show bt (row' u) v = bt (row u) v
    cases q : bt (row u) v
    · exact cg_bF fun z => ((ru u hu v).mp z).elim (fun t => by rw [q] at t; exact absurd t (by decide)) (fun t => by omega)
    · exact (ru u hu v).mpr (Or.inl q)
  have e2 : ∀ u, u < n → cg_E row' u n = bt (nI p) u := by
    intro u hu
    show bt (row' u) n = bt (nI p) u
    cases q : bt (nI p) u
    · refine cg_bF fun z => ((ru u hu n).mp z).elim (fun t => ?_) (fun t => by rw [q] at t; exact absurd t.2 (by decide))
      have := (G.1 u n (by omega) t).2
      omega
    · exact (ru u hu n).mpr (Or.inr ⟨rfl, q⟩)
  have e4 : ∀ v, cg_E row' n v = bt (nI p) v := by
    intro v
    show bt (row' n) v = bt (nI p) v
    rw [rn]
  have eS : ∀ u, u < n → cg_E row' n u = cg_E row' u n := fun u hu => by rw [e2 u hu, e4]
  have up : ∀ u v, u < 8 → cg_E row' u v = true → u ≤ n ∧ v ≤ n := by
    intro u v hu he
    rcases Nat.lt_trichotomy u n with z | z | z
    · rcases (ru u z v).mp he with t | t
      · have := G.1 u v hu t; omega
      · omega
    · subst z
      rw [e4] at he
      have := bNn v he
      omega
    · have he' : bt (row' u) v = true := he
      rw [rb u z] at he'
      have := G.1 u v hu he'; omega
  have e3 : ∀ u v, u < n → n < v → cg_E row' u v = false := by
    intro u v hu hv
    exact cg_bF fun z => by have := (up u v (by omega) z).2; omega
  have ir : ∀ u, u < 8 → cg_E row' u u = false := by
    intro u hu
    rcases Nat.lt_trichotomy u n with z | z | z
    · rw [e1 u u z z]; exact G.2.2 u z
    · subst z
      rw [e4]
      exact cg_bF fun t => by have := bNn u t; omega
    · exact cg_bF fun t => by have := (up u u hu t).1; omega
  have sy0 : ∀ u v, u < n → v < n → cg_E row u v = cg_E row v u := fun u v hu hv => G.2.1 u v hu hv
  have sy : ∀ u v, u ≤ n → v ≤ n → cg_E row' u v = cg_E row' v u := by
    intro u v hu hv
    by_cases un : u = n
    · by_cases vn : v = n
      · rw [un, vn]
      · rw [un]; exact eS v (by omega)
    · by_cases vn : v = n
      · rw [vn]; exact (eS u (by omega)).symm
      · rw [e1 u v (by omega) (by omega), e1 v u (by omega) (by omega)]; exact sy0 u v (by omega) (by omega)
  -- Y down to its search
  have hY : ∀ post : Int32 → SY → Prop, wpY_findFourPath (yw_K post) (nw, nI n, hw, row', weight', wit, y1, y2, y3, y4) → wpY_addVertex post (nw, nI n, hw, row, weight', wit, y1, y2, y3, y4) (nI p) := fun post h => by
    refine br_f ny (yw_isSet1 n8 rfl hp (br_f z0 ⟨ib_in n7 (by omega), nm_e ?_⟩))
    rw [ib_cl (show n < 256 by omega)]
    rw [hrow'] at h
    exact yw_add n7 rfl h
  refine xw_insert (E' := cg_E row') T n7 rfl e1 eS sy0 e2 ?_ ?_
  · -- refused
    intro w e pp P4
    obtain ⟨a, b, c, d, ha, hb, hc, hd, w4, hmin⟩ := cg_least4 n7 sy up P4
    refine br_t rfl (xw_findWitness (E := cg_E row) (E' := cg_E row') T n7 rfl G.2.2 e1 e2 e3 e4 ha hb hc hd ir w4 ?_ (fun u v hu he => (up u v (by omega) he).2) ?_)
    · intro a' b' c' d' ha' hb' w'
      have u2 := up b' c' (by omega) w'.2.2.1
      have u3 := up c' d' (by omega) w'.2.2.2.1
      exact hmin a' b' c' d' (by omega) (by omega) (by omega) (by omega) w'
    · intro xrow
      have hcells : ∀ j, j < 4 → upd (upd (upd (upd cells 0 (nI a)) 1 (nI b)) 2 (nI c)) 3 (nI d) j = upd (upd (upd (upd wit 0 (nI a)) 1 (nI b)) 2 (nI c)) 3 (nI d) j := by
        intro j hj
        unfold upd
        have : j = 0 ∨ j = 1 ∨ j = 2 ∨ j = 3 := by omega
        rcases this with z | z | z | z <;> subst z <;> rfl
      refine hY _ (yw_find1 (by omega) (by omega) (by omega) (by omega) ir w4 hmin (And.intro rfl (And.intro rfl (br_f (by decide) ⟨ib_in n7 (by omega), nm_e ⟨n + 1, ?_⟩⟩))))
      rw [ib_cl (show n < 256 by omega)]
      refine yw_back (row0 := row) n7 rfl ⟨rfl, n, n8, rfl, rfl, rfl, hwt, ⟨rfl, hfr⟩, G, T, rfl, Or.inr ⟨rfl, hcells⟩⟩ n 0 (by omega) (fun u hu => (Nat.not_lt_zero u hu).elim) ?_ ?_ (n + 1) (by omega)
      · intro u _ hu
        rw [pk_un (by omega)]
        apply b_ext
        intro j _
        have key : bt (row' u &&& (ib_1 n ^^^ (-1))) j = true ↔ bt (row u) j = true := by
          rw [tw_an1 _ (by omega), ru u hu]
          constructor
          · rintro ⟨t | t, q⟩
            · exact t
            · exact (q t.1).elim
          · intro t
            have := (G.1 u j (by omega) t).2
            exact ⟨Or.inl t, by omega⟩
        cases q : bt (row u) j
        · exact cg_bF fun t => by rw [key.mp t] at q; exact absurd q (by decide)
        · exact key.mpr q
      · intro u hu
        by_cases e : u = n
        · subst e
          rw [pk_us]
          symm
          exact ib_zero.mpr fun j => cg_bF fun t => by have := (G.1 u j (by omega) t).1; omega
        · rw [pk_un e]
          exact rb u (by omega)
  · -- taken
    intro w e pp root' used' kind' parent' leaves' children' T'
    refine br_f z0 ⟨ib_in n7 (by omega), nm_e (nm_r (nI_1 n) ?_)⟩
    rw [ib_cl (show n < 256 by omega)]
    refine hY _ (yw_find0 ir ?_ (And.intro rfl (And.intro rfl (br_t rfl ⟨ib_in n7 (by omega), nm_e (nm_r (nI_1 n) ?_)⟩))))
    · intro a b c d ha hb hc hd w4
      rcases T' with ⟨n0, _⟩ | ⟨_, _, r, _, B, _, _⟩
      · omega
      · have u1 := up a b ha w4.2.1
        have u2 := up c d hc w4.2.2.2.1
        have inR : ∀ x, x ≤ n → (fun x => bt (leaves' x)) r x = true := fun x hx => tw_rL B (by simp; omega)
        exact tw_p4 B w4.2.1 w4.2.2.1 w4.2.2.2.1 w4.2.2.2.2.1 w4.2.2.2.2.2.1 w4.2.2.2.2.2.2 8 r (cg_cnt_le _ 8) (tw_rU B) (inR a u1.1) (inR b u1.2) (inR c u2.1) (inR d u2.2)
    · rw [ib_cl (show n < 256 by omega)]
      refine ⟨rfl, n + 1, by omega, rfl, rfl, rfl, ?_, ⟨rfl, hfr⟩, ⟨?_, ?_, ?_⟩, T', rfl, Or.inl rfl⟩
      · intro j
        by_cases e : j = n
        · subst e
          rw [pk_us]; exact hfr
        · rw [pk_un e]; exact hwt j
      · intro u v hu hb
        have := up u v hu hb
        omega
      · intro u v hu hv
        exact sy u v (by omega) (by omega)
      · intro u hu
        exact ir u (by omega)
end
section
/-! ===== modules ===== -/
/-- S is a module: every vertex outside sees all of it or nothing -/
def cg_mod (V : Nat → Bool) (E : Nat → Nat → Bool) (S : Nat → Bool) : Prop := ∀ v, V v = true → S v = false → (∀ u, S u = true → E v u = false) ∨ (∀ u, S u = true → E v u = true)
section
variable {V U : Nat → Bool} {r : Nat} {K P : Nat → Int32} {L E : Nat → Nat → Bool}
/-- a vertex outside m is parted from m at some node above -/
theorem tw_sep (h : tw_B V U r K P L E) {v : Nat} (hv : V v = true) : ∀ k m, 8 ≤ k + cg_cnt (L m) 8 → U m = true → L m v = false → ∃ y c d, U y = true ∧ U c = true ∧ U d = true ∧ c ≠ d ∧ P c = nI y ∧ P d = nI y ∧ L c v = true ∧ ∀ u, L m u = true → L d u = true := by
  intro k
  induction k with
  | zero =>
    intro m hk hm hl
    have mr : m ≠ r := fun z => by rw [z, tw_rL h hv] at hl; exact absurd hl (by decide)
    obtain ⟨p, hp, pm⟩ := tw_par h hm mr
    have h1 := tw_card h hp hm pm
    have h2 := cg_cnt_le (L p) 8
    omega
  | succ k ih =>
    intro m hk hm hl
    have mr : m ≠ r := fun z => by rw [z, tw_rL h hv] at hl; exact absurd hl (by decide)
    obtain ⟨p, hp, pm⟩ := tw_par h hm mr
    have h1 := tw_card h hp hm pm
    by_cases lp : L p v = true
    · obtain ⟨_, cov, _⟩ := tw_in h hp hm pm
      obtain ⟨c, uc, pc, lc⟩ := cov v lp
      refine ⟨p, c, m, hp, uc, hm, ?_, pc, pm, lc, fun u hu => hu⟩
      intro z
      rw [z, hl] at lc
      exact absurd lc (by decide)
    · obtain ⟨y, c, d, uy, uc, ud, cd, pc, pd, lc, sd⟩ := ih p (by omega) hp (cg_bF lp)
      exact ⟨y, c, d, uy, uc, ud, cd, pc, pd, lc, fun u hu => sd u (tw_sub h hm hp pm hu)⟩
theorem tw_mod1 (h : tw_B V U r K P L E) {m : Nat} (hm : U m = true) {S : Nat → Bool} (hs : ∀ u, S u = true → L m u = true) (hne : ∃ u, S u = true)
    (hc : ∀ c, U c = true → P c = nI m → (∀ u, L c u = true → S u = false) ∨ (∀ u, L c u = true → S u = true)) : cg_mod V E S := by
  intro v hv sv
  by_cases lv : L m v = true
  · rcases tw_kd h hm with ⟨_, _, sg⟩ | ⟨_, cov, _⟩
    · obtain ⟨u, hu⟩ := hne
      have := sg u v (hs u hu) lv
      rw [this, sv] at hu
      exact absurd hu (by decide)
    · obtain ⟨c, uc, pc, lc⟩ := cov v lv
      have key : ∀ u, S u = true → E v u = decide (K m = 2) := by
        intro u hu
        obtain ⟨d, ud, pd, ld⟩ := cov u (hs u hu)
        have cd : c ≠ d := by
          intro z
          subst z
          rcases hc c uc pc with q | q
          · rw [q u ld] at hu; exact absurd hu (by decide)
          · rw [q v lc] at sv; exact absurd sv (by decide)
        exact tw_adj h uc ud cd hm pc pd lc ld
      by_cases k : K m = 2
      · right; intro u hu; rw [key u hu, decide_eq_true k]
      · left; intro u hu; rw [key u hu, decide_eq_false k]
  · obtain ⟨y, c, d, uy, uc, ud, cd, pc, pd, lc, sd⟩ := tw_sep h hv 8 m (by omega) hm (cg_bF lv)
    have key : ∀ u, S u = true → E v u = decide (K y = 2) := fun u hu => tw_adj h uc ud cd uy pc pd lc (sd u (hs u hu))
    by_cases k : K y = 2
    · right; intro u hu; rw [key u hu, decide_eq_true k]
    · left; intro u hu; rw [key u hu, decide_eq_false k]
theorem tw_mod2 (h : tw_B V U r K P L E) (A : tw_A U K P) (sy : ∀ u v, V u = true → V v = true → E u v = E v u) {m : Nat} (hm : U m = true) {S : Nat → Bool} (hs : ∀ u, S u = true → L m u = true)
    (hno : ∀ c, U c = true → P c = nI m → ¬ ∀ u, S u = true → L c u = true) (md : cg_mod V E S) :
    ∀ c, U c = true → P c = nI m → (∀ u, L c u = true → S u = false) ∨ (∀ u, L c u = true → S u = true) := by
  intro c uc pc
  refine Classical.byContradiction fun z => ?_
  have h1 : ∃ a, L c a = true ∧ S a = true := Classical.byContradiction fun q => z (Or.inl fun u hu => cg_bF fun t => q ⟨u, hu, t⟩)
  have h2 : ∃ b, L c b = true ∧ S b = false := Classical.byContradiction fun q => z (Or.inr fun u hu => cg_bT fun t => q ⟨u, hu, t⟩)
  obtain ⟨a, la, sa⟩ := h1
  obtain ⟨b, lb, sb⟩ := h2
  have kc : K c ≠ 0 := by
    intro k0
    have := ((tw_leaf h uc k0 la).2 b).mp lb
    rw [this, sa] at sb
    exact absurd sb (by decide)
  obtain ⟨u, w, lu, lw, su, sw, euw⟩ := tw_cut h uc kc la sa lb sb
  have h3 : ∃ s, S s = true ∧ L c s = false := Classical.byContradiction fun q => hno c uc pc fun t ht => cg_bT fun e => q ⟨t, ht, e⟩
  obtain ⟨s, ss, ls⟩ := h3
  obtain ⟨k12, cov, _⟩ := tw_in h hm uc pc
  obtain ⟨d, ud, pd, ld⟩ := cov s (hs s ss)
  have cd : c ≠ d := by
    intro e
    rw [e, ld] at ls
    exact absurd ls (by decide)
  have e1 : E w s = decide (K m = 2) := tw_adj h uc ud cd hm pc pd lw ld
  have e2 : E w u = decide (K c = 2) := by rw [sy w u (tw_LV h uc lw) (tw_LV h uc lu)]; exact euw
  have ne := A c m uc hm pc
  have kc12 := (tw_inn h uc kc).1
  rcases md w (tw_LV h uc lw) sw with q | q
  · have a1 := q s ss
    have a2 := q u su
    rw [e1] at a1
    rw [e2] at a2
    have b1 : ¬ K m = 2 := of_decide_eq_false a1
    have b2 : ¬ K c = 2 := of_decide_eq_false a2
    rcases k12 with t | t
    · rcases kc12 with t' | t'
      · exact ne (t'.trans t.symm)
      · exact b2 t'
    · exact b1 t
  · have a1 := q s ss
    have a2 := q u su
    rw [e1] at a1
    rw [e2] at a2
    exact ne ((of_decide_eq_true a2).trans (of_decide_eq_true a1).symm)
/-- the lowest node that holds a set -/
theorem tw_low (h : tw_B V U r K P L E) {S : Nat → Bool} : ∀ k x, cg_cnt (L x) 8 ≤ k → U x = true → (∀ u, S u = true → L x u = true) →
    ∃ m, U m = true ∧ (∀ u, S u = true → L m u = true) ∧ ∀ c, U c = true → P c = nI m → ¬ ∀ u, S u = true → L c u = true := by
  intro k
  induction k with
  | zero =>
    intro x hk hx
    obtain ⟨v, hv⟩ := tw_ne h hx
    have := cg_cnt_pos (A := L x) (tw_L8 h hx hv) hv
    omega
  | succ k ih =>
    intro x hk hx hs
    by_cases z : ∃ c, U c = true ∧ P c = nI x ∧ ∀ u, S u = true → L c u = true
    · obtain ⟨c, uc, pc, sc⟩ := z
      have := tw_card h hx uc pc
      exact ih c (by omega) uc sc
    · exact ⟨x, hx, hs, fun c uc pc sc => z ⟨c, uc, pc, sc⟩⟩
/-- a node's leaves: a module that overlaps no module -/
theorem tw_strong1 (h : tw_B V U r K P L E) (A : tw_A U K P) (sy : ∀ u v, V u = true → V v = true → E u v = E v u) {x : Nat} (hx : U x = true) :
    cg_mod V E (L x) ∧ ∀ S : Nat → Bool, (∀ u, S u = true → V u = true) → cg_mod V E S → (∃ u, L x u = true ∧ S u = true) → (∀ u, L x u = true → S u = true) ∨ (∀ u, S u = true → L x u = true) := by
  refine ⟨?_, ?_⟩
  · exact tw_mod1 h hx (fun u hu => hu) (tw_ne h hx) (fun c uc pc => Or.inr fun u hu => tw_sub h uc hx pc hu)
  · intro S hS md ⟨s, ls, ss⟩
    obtain ⟨m, hm, sm, hno⟩ := tw_low h 8 r (cg_cnt_le _ 8) (tw_rU h) (fun u hu => tw_rL h (hS u hu))
    have aon := tw_mod2 h A sy hm sm hno md
    rcases tw_cmp h hx hm ls (sm s ss) with z | ⟨c, uc, pc, sc⟩ | ⟨c, uc, pc, sc⟩
    · subst z; exact Or.inr sm
    · rcases aon c uc pc with q | q
      · rw [q s (sc s ls)] at ss; exact absurd ss (by decide)
      · exact Or.inl fun u hu => q u (sc u hu)
    · exact Or.inr fun u hu => tw_sub h uc hx pc (sc u (sm u hu))
theorem tw_strong2 (h : tw_B V U r K P L E) (A : tw_A U K P) (sy : ∀ u v, V u = true → V v = true → E u v = E v u) {S : Nat → Bool} (hS : ∀ u, S u = true → V u = true) (hne : ∃ u, S u = true) (md : cg_mod V E S)
    (st : ∀ T : Nat → Bool, (∀ u, T u = true → V u = true) → cg_mod V E T → (∃ u, S u = true ∧ T u = true) → (∀ u, S u = true → T u = true) ∨ (∀ u, T u = true → S u = true)) :
    ∃ x, U x = true ∧ ∀ u, L x u = true ↔ S u = true := by
  obtain ⟨m, hm, sm, hno⟩ := tw_low h 8 r (cg_cnt_le _ 8) (tw_rU h) (fun u hu => tw_rL h (hS u hu))
  have aon := tw_mod2 h A sy hm sm hno md
  refine Classical.byContradiction fun z => ?_
  have h1 : ∃ w, L m w = true ∧ S w = false := Classical.byContradiction fun q => z ⟨m, hm, fun u => ⟨fun hu => cg_bT fun t => q ⟨u, hu, t⟩, sm u⟩⟩
  obtain ⟨w, lw, sw⟩ := h1
  obtain ⟨s, ss⟩ := hne
  rcases tw_kd h hm with ⟨_, _, sg⟩ | ⟨_, cov, _⟩
  · have := sg w s lw (sm s ss)
    rw [this, ss] at sw
    exact absurd sw (by decide)
  · obtain ⟨c, uc, pc, lc⟩ := cov w lw
    obtain ⟨d, ud, pd, ld⟩ := cov s (sm s ss)
    have cS : ∀ u, L c u = true → S u = false := by
      rcases aon c uc pc with q | q
      · exact q
      · rw [q w lc] at sw; exact absurd sw (by decide)
    have dS : ∀ u, L d u = true → S u = true := by
      rcases aon d ud pd with q | q
      · rw [q s ld] at ss; exact absurd ss (by decide)
      · exact q
    have h2 : ∃ t, S t = true ∧ L d t = false := Classical.byContradiction fun q => hno d ud pd fun t ht => cg_bT fun e => q ⟨t, ht, e⟩
    obtain ⟨t, st', lt⟩ := h2
    have nlc : ∀ u, S u = true → L c u = false := fun u hu => cg_bF fun q => by rw [cS u q] at hu; exact absurd hu (by decide)
    have hT : cg_mod V E (fun u => (S u && !L d u) || L c u) := by
      refine tw_mod1 h hm ?_ ⟨w, by simp [lc]⟩ ?_
      · intro u hu
        simp only [Bool.or_eq_true, Bool.and_eq_true] at hu
        rcases hu with q | q
        · exact sm u q.1
        · exact tw_sub h uc hm pc q
      · intro g ug pg
        by_cases gc : g = c
        · subst gc
          exact Or.inr fun u hu => by simp [hu]
        · have ngc : ∀ u, L g u = true → L c u = false := fun u hu => cg_bF fun q => gc (tw_dis h ug uc hm pg pc hu q)
          by_cases gd : g = d
          · subst gd
            exact Or.inl fun u hu => by simp [hu, ngc u hu]
          · have ngd : ∀ u, L g u = true → L d u = false := fun u hu => cg_bF fun q => gd (tw_dis h ug ud hm pg pd hu q)
            rcases aon g ug pg with q | q
            · exact Or.inl fun u hu => by simp [q u hu, ngc u hu]
            · exact Or.inr fun u hu => by simp [q u hu, ngd u hu]
    have hTV : ∀ u, (fun u => (S u && !L d u) || L c u) u = true → V u = true := by
      intro u hu
      simp only [Bool.or_eq_true, Bool.and_eq_true] at hu
      rcases hu with q | q
      · exact hS u q.1
      · exact tw_LV h uc q
    rcases st _ hTV hT ⟨t, st', by simp [st', lt]⟩ with q | q
    · have := q s ss
      simp [ld, nlc s ss] at this
    · have := q w (by simp [lc])
      rw [sw] at this
      exact absurd this (by decide)
end
end
section
/-! ===== isModule, and the count of strong modules ===== -/
section
variable {f_vertexCount f_root f_usedNodes f_newWeight f_wholeChildren f_emptyChildren f_partChildren f_orderLength f_witnessKept : Int32} {a_kind a_parent a_leaves a_children a_weight a_order a_value a_witnessCells a_row : Nat → Int32}
theorem xw_isModule {post : Int32 → Prop} {n p : Nat} {E : Nat → Nat → Bool} (T : cg_T n f_root f_usedNodes a_kind a_parent a_leaves a_children E) (n8 : n ≤ 8) (hn : f_vertexCount = nI n) (sy : ∀ u v, u < n → v < n → E u v = E v u)
    (hp : p < 2 ^ n) (p0 : p ≠ 0) (h1 : cg_mod (fun v => decide (v < n)) E p.testBit → post 1) (h0 : ¬ cg_mod (fun v => decide (v < n)) E p.testBit → post 0) : wpX_isModule post (f_vertexCount, f_root, f_usedNodes, f_newWeight, f_wholeChildren, f_emptyChildren, f_partChildren, f_orderLength, f_witnessKept, a_kind, a_parent, a_leaves, a_children, a_weight, a_order, a_value, a_witnessCells, a_row) (nI p) := by
  have p256 := cg_p256 n8 hp
  have bp : ∀ j, bt (nI p) j = p.testBit j := fun j => ib_nI' (by omega) j
  rcases T with ⟨n0, _⟩ | ⟨_, _, r, hr, B, A, hC⟩
  · rw [n0] at hp; simp at hp; exact (p0 hp).elim
  unfold wpX_isModule
  refine xw_isSet1 n8 hn hp (br_f (by decide) (br_f (nI_ne0 (by omega) (by omega)) ?_))
  refine xw_lowestNode B hC hr (fun v hv => by rw [bp] at hv; simp [cg_pbit hp hv]) ?_
  intro m hm hs hno
  have lm := tw_lt B hm
  have hs' : ∀ u, p.testBit u = true → bt (a_leaves m) u = true := fun u hu => hs u (by rw [bp]; exact hu)
  have hno' : ∀ c, bt f_usedNodes c = true → a_parent c = nI m → ¬ ∀ u, p.testBit u = true → bt (a_leaves c) u = true := fun c uc pc z => hno c uc pc (fun u hu => z u (by rw [← bp]; exact hu))
  have hne : ∃ u, p.testBit u = true := Classical.byContradiction fun z => p0 (Nat.eq_of_testBit_eq fun i => by rw [Nat.zero_testBit]; exact cg_bF fun q => z ⟨i, q⟩)
  have seen0 : ∀ {y}, (a_leaves y &&& nI p) = 0 ↔ ∀ u, bt (a_leaves y) u = true → p.testBit u = false := by
    intro y
    rw [ib_zero]
    constructor
    · intro z u hu
      have := z u
      rw [b_and, hu, bp, Bool.true_and] at this
      exact this
    · intro z u
      rw [b_and, bp]
      cases q : bt (a_leaves y) u
      · rfl
      · rw [z u q]; rfl
  have seen1 : ∀ {y}, (a_leaves y &&& nI p) = a_leaves y ↔ ∀ u, bt (a_leaves y) u = true → p.testBit u = true := by
    intro y
    rw [ib_eq]
    constructor
    · intro z u hu
      have := z u
      rw [b_and, hu, bp, Bool.true_and] at this
      exact this
    · intro z u
      rw [b_and, bp]
      cases q : bt (a_leaves y) u
      · rfl
      · rw [z u q]; rfl
  suffices loop : ∀ d j, j + d = 20 → (∀ c, c < j → bt (a_children m) c = true → (∀ u, bt (a_leaves c) u = true → p.testBit u = false) ∨ (∀ u, bt (a_leaves c) u = true → p.testBit u = true)) → ∀ f, d < f → wX_isModule_22 post (nI p) (nI m) f_vertexCount f_root f_usedNodes f_newWeight f_wholeChildren f_emptyChildren f_partChildren f_orderLength f_witnessKept a_kind a_parent a_leaves a_children a_weight a_order a_value a_witnessCells a_row f (nI j) from
    ⟨21, loop 20 0 rfl (fun c hc => (Nat.not_lt_zero c hc).elim) 21 (by omega)⟩
  intro d
  induction d with
  | zero =>
    intro j hj hg f hf
    obtain ⟨f, rfl⟩ : ∃ k, f = k + 1 := ⟨f - 1, by omega⟩
    have : j = 20 := by omega
    subst this
    exact br_t (by decide) (h1 (tw_mod1 B hm hs' hne (fun c uc pc => hg c (tw_lt B uc) ((hC m hm c).mpr ⟨uc, pc⟩))))
  | succ d ih =>
    intro j hj hg f hf
    obtain ⟨f, rfl⟩ : ∃ k, f = k + 1 := ⟨f - 1, by omega⟩
    have ij : vp_in (nI j) 20 := ib_in (show j < 20 by omega) (by omega)
    have ext : (bt (a_children m) j = true → (∀ u, bt (a_leaves j) u = true → p.testBit u = false) ∨ (∀ u, bt (a_leaves j) u = true → p.testBit u = true)) → ∀ c, c < j + 1 → bt (a_children m) c = true → (∀ u, bt (a_leaves c) u = true → p.testBit u = false) ∨ (∀ u, bt (a_leaves c) u = true → p.testBit u = true) := by
      intro z c hc
      by_cases e : c = j
      · subst e; exact z
      · exact hg c (by omega)
    refine br_f (ib_20 (by omega)) ⟨ib_in lm (by omega), ?_⟩
    rw [ib_cl (show m < 256 by omega), ib_cl (show j < 256 by omega)]
    by_cases cj : bt (a_children m) j = true
    · refine br_f (fun z => by rw [(ib_bit _ (by omega)).mp z] at cj; exact absurd cj (by decide)) ⟨ij, nm_e ?_⟩
      by_cases s0 : (a_leaves j &&& nI p) = 0
      · exact br_t s0 (nm_r (nI_1 j) (ih (j + 1) (by omega) (ext fun _ => Or.inl (seen0.mp s0)) f (by omega)))
      · refine br_f s0 ⟨ij, ?_⟩
        by_cases s1 : (a_leaves j &&& nI p) = a_leaves j
        · exact br_t s1 (nm_r (nI_1 j) (ih (j + 1) (by omega) (ext fun _ => Or.inr (seen1.mp s1)) f (by omega)))
        · refine br_f s1 (h0 fun md => ?_)
          obtain ⟨uc, pc⟩ := (hC m hm j).mp cj
          rcases tw_mod2 B A (fun u v hu hv => sy u v (of_decide_eq_true hu) (of_decide_eq_true hv)) hm hs' hno' md j uc pc with q | q
          · exact s0 (seen0.mpr q)
          · exact s1 (seen1.mpr q)
    · exact br_t ((ib_bit _ (by omega)).mpr (cg_bF cj)) (nm_r (nI_1 j) (ih (j + 1) (by omega) (ext fun z => (cj z).elim) f (by omega)))
end
section
variable {f_fresh f_n f_hasWitness : Int32} {a_row a_weight a_witness a_label a_order a_module a_least : Nat → Int32}
theorem yw_isModule {post : Int32 → Prop} {n p : Nat} (n8 : n ≤ 8) (hn : f_n = nI n)
    (hp : p < 2 ^ n) (p0 : p ≠ 0) (h1 : cg_mod (fun v => decide (v < n)) (cg_E a_row) p.testBit → post 1) (h0 : ¬ cg_mod (fun v => decide (v < n)) (cg_E a_row) p.testBit → post 0) : wpY_isModule post (f_fresh, f_n, f_hasWitness, a_row, a_weight, a_witness, a_label, a_order, a_module, a_least) (nI p) := by
  have p256 := cg_p256 n8 hp
  have bp : ∀ j, bt (nI p) j = p.testBit j := fun j => ib_nI' (by omega) j
  subst hn
  unfold wpY_isModule
  refine yw_isSet1 n8 rfl hp (br_f (by decide) (br_f (nI_ne0 (by omega) (by omega)) ?_))
  have seen0 : ∀ {y}, (a_row y &&& nI p) = 0 ↔ ∀ u, p.testBit u = true → cg_E a_row y u = false := by
    intro y
    rw [ib_zero]
    constructor
    · intro z u hu
      have := z u
      rw [b_and, bp, hu, Bool.and_true] at this
      exact this
    · intro z u
      rw [b_and, bp]
      cases q : p.testBit u
      · simp
      · have := z u q
        unfold cg_E at this
        rw [this]; rfl
  have seen1 : ∀ {y}, (a_row y &&& nI p) = nI p ↔ ∀ u, p.testBit u = true → cg_E a_row y u = true := by
    intro y
    rw [ib_eq]
    constructor
    · intro z u hu
      have := z u
      rw [b_and, bp, hu, Bool.and_true] at this
      exact this
    · intro z u
      rw [b_and, bp]
      cases q : p.testBit u
      · simp
      · have := z u q
        unfold cg_E at this
        rw [this]; rfl
  suffices loop : ∀ d i, i + d = n → (∀ v, v < i → p.testBit v = false → (∀ u, p.testBit u = true → cg_E a_row v u = false) ∨ (∀ u, p.testBit u = true → cg_E a_row v u = true)) → ∀ f, d < f → wY_isModule_16 post (nI p) f_fresh (nI n) f_hasWitness a_row a_weight a_witness a_label a_order a_module a_least f (nI i) from
    ⟨n + 1, loop n 0 (by omega) (fun c hc => (Nat.not_lt_zero c hc).elim) (n + 1) (by omega)⟩
  intro d
  induction d with
  | zero =>
    intro i hi hg f hf
    obtain ⟨f, rfl⟩ : ∃ k, f = k + 1 := ⟨f - 1, by omega⟩
    have : i = n := by omega
    subst this
    exact br_t (nI_le (Nat.le_refl _) (by omega)) (h1 fun v hv => hg v (of_decide_eq_true hv))
  | succ d ih =>
    intro i hi hg f hf
    obtain ⟨f, rfl⟩ : ∃ k, f = k + 1 := ⟨f - 1, by omega⟩
    have ext : (p.testBit i = false → (∀ u, p.testBit u = true → cg_E a_row i u = false) ∨ (∀ u, p.testBit u = true → cg_E a_row i u = true)) → ∀ v, v < i + 1 → p.testBit v = false → (∀ u, p.testBit u = true → cg_E a_row v u = false) ∨ (∀ u, p.testBit u = true → cg_E a_row v u = true) := by
      intro z c hc
      by_cases e : c = i
      · subst e; exact z
      · exact hg c (by omega)
    refine br_f (nI_ge (by omega) (by omega)) ⟨ib_in (show i < 8 by omega) (by omega), nm_e (yw_has (by omega) ?_)⟩
    rw [ib_cl (show i < 256 by omega), bp]
    by_cases bi : p.testBit i = true
    · exact br_f (cg_b_t bi) (nm_r (nI_1 i) (ih (i + 1) (by omega) (ext fun z => by rw [bi] at z; exact absurd z (by decide)) f (by omega)))
    · refine br_t (cg_b_0.mpr (cg_bF bi)) ?_
      by_cases s0 : (a_row i &&& nI p) = 0
      · exact br_t s0 (nm_r (nI_1 i) (ih (i + 1) (by omega) (ext fun _ => Or.inl (seen0.mp s0)) f (by omega)))
      · refine br_f s0 ?_
        by_cases s1 : (a_row i &&& nI p) = nI p
        · exact br_t s1 (nm_r (nI_1 i) (ih (i + 1) (by omega) (ext fun _ => Or.inr (seen1.mp s1)) f (by omega)))
        · refine br_f s1 (h0 fun md => ?_)
          rcases md i (by simp; omega) (cg_bF bi) with q | q
          · exact s0 (seen0.mpr q)
          · exact s1 (seen1.mpr q)
end
theorem i_vc_isModule {k : Nat} {u : SX} {v : SY} (I : i_Rel k u v) (hk : k + 3 ≤ 1537) (v1 : Int32) : wpX_isModule (fun r => wpY_isModule (fun r' => r' = r ∧ i_Rel (k + 3) u v) v v1) u v1 := by
  obtain ⟨vc, root, used, nw, x1, x2, x3, x4, wk, kind, parent, leaves, children, weight, x5, x6, cells, x7⟩ := u
  obtain ⟨fresh, yn, hw, row, weight', wit, y1, y2, y3, y4⟩ := v
  have J := I
  obtain ⟨n, n8, rfl, rfl, _, _, _, G, T, _⟩ := J
  have z0 : ¬ (1 : Int32) = 0 := by decide
  rcases cg_isSet n8 v1 with bad | ⟨p, hp, rfl⟩
  · unfold wpX_isModule
    refine xw_isSet0 rfl bad (br_t rfl ?_)
    unfold wpY_isModule
    exact yw_isSet0 rfl bad (br_t rfl ⟨rfl, I⟩)
  · by_cases p0 : p = 0
    · subst p0
      unfold wpX_isModule
      refine xw_isSet1 n8 rfl hp (br_f z0 (br_t rfl ?_))
      unfold wpY_isModule
      exact yw_isSet1 n8 rfl hp (br_f z0 (br_t rfl ⟨rfl, I⟩))
    · exact xw_isModule T n8 rfl (fun u v hu hv => G.2.1 u v hu hv) hp p0 (fun m => yw_isModule n8 rfl hp p0 (fun _ => ⟨rfl, I⟩) (fun z => (z m).elim)) (fun m => yw_isModule n8 rfl hp p0 (fun z => (m z).elim) (fun _ => ⟨rfl, I⟩))
end
section
/-! ===== the count of strong modules ===== -/
/-- a set of vertices below k as a number -/
def cg_msk (S : Nat → Bool) (k : Nat) : Nat := cg_sm (fun i => if S i = true then 2 ^ i else 0) k
theorem cg_msk_spec (S : Nat → Bool) : ∀ k, cg_msk S k < 2 ^ k ∧ ∀ u, (cg_msk S k).testBit u = (decide (u < k) && S u)
  | 0 => ⟨Nat.zero_lt_one, fun u => by show (0 : Nat).testBit u = _; simp⟩
  | k + 1 => by
    obtain ⟨i1, i2⟩ := cg_msk_spec S k
    have hs : cg_msk S (k + 1) = cg_msk S k + (if S k = true then 2 ^ k else 0) := rfl
    rw [hs]
    have hpow : 2 ^ (k + 1) = 2 ^ k + 2 ^ k := by rw [Nat.pow_succ]; omega
    by_cases sk : S k = true
    · rw [if_pos sk]
      refine ⟨by omega, fun u => ?_⟩
      rw [Nat.add_comm]
      rcases Nat.lt_trichotomy u k with z | z | z
      · rw [Nat.testBit_two_pow_add_gt z, i2 u]
        simp [z, show u < k + 1 by omega]
      · subst z
        rw [Nat.testBit_two_pow_add_eq, i2 u]
        simp [sk]
      · rw [Nat.testBit_lt_two_pow (Nat.lt_of_lt_of_le (show 2 ^ k + cg_msk S k < 2 ^ (k + 1) by omega) (Nat.pow_le_pow_right (by decide) z))]
        simp [show ¬ u < k + 1 by omega]
    · rw [if_neg sk]
      refine ⟨by omega, fun u => ?_⟩
      rw [Nat.add_zero, i2 u]
      by_cases e : u = k
      · subst e; simp [cg_bF sk]
      · by_cases z : u < k
        · simp [z, show u < k + 1 by omega]
        · simp [z, show ¬ u < k + 1 by omega]
noncomputable def cg_isM (n : Nat) (E : Nat → Nat → Bool) (p : Nat) : Bool := cg_D (p < 2 ^ n ∧ p ≠ 0 ∧ cg_mod (fun v => decide (v < n)) E p.testBit)
def cg_over (p q : Nat) : Prop := (∃ u, p.testBit u = true ∧ q.testBit u = true) ∧ (¬ ∀ u, p.testBit u = true → q.testBit u = true) ∧ ¬ ∀ u, q.testBit u = true → p.testBit u = true
noncomputable def cg_str (n : Nat) (E : Nat → Nat → Bool) (p : Nat) : Bool := cg_isM n E p && !cg_D (∃ q, 1 ≤ q ∧ q < 256 ∧ cg_isM n E q = true ∧ cg_over p q)
section
variable {f_fresh f_n f_hasWitness : Int32} {a_row a_weight a_witness a_label a_order a_module a_least : Nat → Int32}
theorem yw_isM {post : Int32 → Prop} {n p : Nat} (n8 : n ≤ 8) (hn : f_n = nI n) (hp : p < 256) (h : post (cg_b (cg_isM n (cg_E a_row) p))) : wpY_isModule post (f_fresh, f_n, f_hasWitness, a_row, a_weight, a_witness, a_label, a_order, a_module, a_least) (nI p) := by
  by_cases pn : p < 2 ^ n
  · by_cases p0 : p = 0
    · have : cg_isM n (cg_E a_row) p = false := cg_D_f.mpr (fun z => z.2.1 p0)
      rw [this] at h
      subst p0
      unfold wpY_isModule
      exact yw_isSet1 n8 hn pn (br_f (by decide) (br_t rfl h))
    · refine yw_isModule n8 hn pn p0 (fun m => ?_) (fun m => ?_)
      · rw [show cg_isM n (cg_E a_row) p = true from cg_D_iff.mpr ⟨pn, p0, m⟩] at h
        exact h
      · rw [show cg_isM n (cg_E a_row) p = false from cg_D_f.mpr (fun z => m z.2.2)] at h
        exact h
  · have : cg_isM n (cg_E a_row) p = false := cg_D_f.mpr (fun z => pn z.1)
    rw [this] at h
    unfold wpY_isModule
    refine yw_isSet0 hn (Or.inr ⟨ib_neg (by omega), ?_⟩) (br_t rfl h)
    rw [ib_set n8]
    exact nI_le (by omega) (by omega)
theorem cg_within {p q : Nat} (hp : p < 256) (hq : q < 256) : cg_in p (bt (nI q)) = true ↔ ∀ u, p.testBit u = true → q.testBit u = true := by
  rw [cg_in_iff]
  constructor
  · intro h u hu
    have := h u (cg_pbit (n := 8) hp hu) hu
    rw [ib_nI' (by omega)] at this
    exact this
  · intro h u _ hu
    rw [ib_nI' (by omega)]
    exact h u hu
theorem yw_overlapsOne {post : Int32 → Prop} {p : Nat} (M : Nat → Bool) (hM : ∀ q, q < 256 → a_module q = cg_b (M q)) (hp : p < 256)
    (h : post (cg_b (cg_D (∃ q, 1 ≤ q ∧ q < 256 ∧ M q = true ∧ cg_over p q)))) : wpY_overlapsOne post (f_fresh, f_n, f_hasWitness, a_row, a_weight, a_witness, a_label, a_order, a_module, a_least) (nI p) := by
  suffices loop : ∀ d j, j + d = 256 → 1 ≤ j → (∀ q, 1 ≤ q → q < j → ¬ (M q = true ∧ cg_over p q)) → ∀ f, d < f → wY_overlapsOne_2 post (nI p) f_fresh f_n f_hasWitness a_row a_weight a_witness a_label a_order a_module a_least f (nI j) from
    ⟨256, loop 255 1 rfl (Nat.le_refl 1) (fun q h1 h2 => by omega) 256 (by omega)⟩
  intro d
  induction d with
  | zero =>
    intro j hj hj1 hg f hf
    obtain ⟨m, rfl⟩ : ∃ m, f = m + 1 := ⟨f - 1, by omega⟩
    have : j = 256 := by omega
    subst this
    rw [show cg_D (∃ q, 1 ≤ q ∧ q < 256 ∧ M q = true ∧ cg_over p q) = false from cg_D_f.mpr (fun ⟨q, a, b, c⟩ => hg q a b c)] at h
    exact br_t (by decide) h
  | succ d ih =>
    intro j hj hj1 hg f hf
    obtain ⟨m, rfl⟩ : ∃ m, f = m + 1 := ⟨f - 1, by omega⟩
    have next : ¬ (M j = true ∧ cg_over p j) → wY_overlapsOne_2 post (nI p) f_fresh f_n f_hasWitness a_row a_weight a_witness a_label a_order a_module a_least m (nI (j + 1)) := by
      intro z
      refine ih (j + 1) (by omega) (by omega) (fun q h1 h2 => ?_) m (by omega)
      by_cases e : q = j
      · subst e; exact z
      · exact hg q h1 (by omega)
    refine br_f (nI_ge (b := 256) (by omega) (by decide)) ⟨ib_in (show j < 256 by omega) (by omega), ?_⟩
    rw [ib_cl (show j < 256 by omega), hM j (by omega)]
    by_cases mj : M j = true
    · refine br_f (cg_b_t mj) ?_
      have key : (nI p &&& nI j) = 0 ↔ ¬ ∃ u, p.testBit u = true ∧ j.testBit u = true := by
        rw [ib_zero]
        constructor
        · rintro z ⟨u, a, b⟩
          have := z u
          rw [b_and, ib_nI' (by omega), ib_nI' (by omega), a, b] at this
          exact absurd this (by decide)
        · intro z u
          rw [b_and, ib_nI' (by omega), ib_nI' (by omega)]
          refine cg_bF fun t => z ⟨u, ?_⟩
          simpa using t
      by_cases s0 : (nI p &&& nI j) = 0
      · exact br_t s0 (nm_r (nI_1 j) (next (fun z => key.mp s0 z.2.1)))
      · refine br_f s0 (yw_within (by omega) ?_)
        by_cases w1 : cg_in p (bt (nI j)) = true
        · exact br_f (cg_b_t w1) (nm_r (nI_1 j) (next (fun z => z.2.2.1 ((cg_within (by omega) (by omega)).mp w1))))
        · refine br_t (cg_b_0.mpr (cg_bF w1)) (yw_within (by omega) ?_)
          by_cases w2 : cg_in j (bt (nI p)) = true
          · exact br_f (cg_b_t w2) (nm_r (nI_1 j) (next (fun z => z.2.2.2 ((cg_within (by omega) (by omega)).mp w2))))
          · refine br_t (cg_b_0.mpr (cg_bF w2)) ?_
            have ov : cg_over p j := ⟨Classical.byContradiction fun z => s0 (key.mpr z), fun z => w1 ((cg_within (by omega) (by omega)).mpr z), fun z => w2 ((cg_within (by omega) (by omega)).mpr z)⟩
            rw [show cg_D (∃ q, 1 ≤ q ∧ q < 256 ∧ M q = true ∧ cg_over p q) = true from cg_D_iff.mpr ⟨j, by omega, by omega, mj, ov⟩] at h
            exact h
    · exact br_t (cg_b_0.mpr (cg_bF mj)) (nm_r (nI_1 j) (next (fun z => mj z.1)))
theorem cg_nb (x : Bool) : vp_nar .boolean (cg_b x) = cg_b x := by cases x <;> rfl
theorem yw_strong {post : Int32 → SY → Prop} {n : Nat} (n8 : n ≤ 8) (hn : f_n = nI n) (h : ∀ md, post (nI (cg_cnt (cg_str n (cg_E a_row)) 256)) (f_fresh, f_n, f_hasWitness, a_row, a_weight, a_witness, a_label, a_order, md, a_least)) : wpY_strongModules post (f_fresh, f_n, f_hasWitness, a_row, a_weight, a_witness, a_label, a_order, a_module, a_least) := by
  subst hn
  -- the count
  have cnt : ∀ md : Nat → Int32, (∀ q, q < 256 → md q = cg_b (cg_isM n (cg_E a_row) q)) → wY_strongModules_30 post f_fresh (nI n) f_hasWitness a_row a_weight a_witness a_label a_order md a_least 257 (nI 0) (nI 0) := by
    intro md hmd
    suffices loop : ∀ d j, j + d = 256 → ∀ f, d < f → wY_strongModules_30 post f_fresh (nI n) f_hasWitness a_row a_weight a_witness a_label a_order md a_least f (nI (cg_cnt (cg_str n (cg_E a_row)) j)) (nI j) from loop 256 0 rfl 257 (by omega)
    intro d
    induction d with
    | zero =>
      intro j hj f hf
      obtain ⟨m, rfl⟩ : ∃ m, f = m + 1 := ⟨f - 1, by omega⟩
      have : j = 256 := by omega
      subst this
      exact br_t (by decide) (h md)
    | succ d ih =>
      intro j hj f hf
      obtain ⟨m, rfl⟩ : ∃ m, f = m + 1 := ⟨f - 1, by omega⟩
      have go := ih (j + 1) (by omega) m (by omega)
      have e : cg_cnt (cg_str n (cg_E a_row)) (j + 1) = cg_cnt (cg_str n (cg_E a_row)) j + (if cg_str n (cg_E a_row) j = true then 1 else 0) := rfl
      rw [e] at go
      refine br_f (nI_ge (b := 256) (by omega) (by decide)) ⟨ib_in (show j < 256 by omega) (by omega), ?_⟩
      rw [ib_cl (show j < 256 by omega), hmd j (by omega)]
      by_cases mj : cg_isM n (cg_E a_row) j = true
      · refine br_f (cg_b_t mj) (yw_overlapsOne (cg_isM n (cg_E a_row)) hmd (by omega) ?_)
        by_cases ov : cg_D (∃ q, 1 ≤ q ∧ q < 256 ∧ cg_isM n (cg_E a_row) q = true ∧ cg_over j q) = true
        · rw [if_neg (by unfold cg_str; rw [ov]; simp)] at go
          exact br_f (cg_b_t ov) (nm_r (nI_1 j) go)
        · rw [if_pos (by unfold cg_str; rw [mj, cg_bF ov]; rfl)] at go
          exact br_t (cg_b_0.mpr (cg_bF ov)) (nm_r (nI_1 _) (nm_r (nI_1 j) go))
      · rw [if_neg (by unfold cg_str; rw [cg_bF mj]; simp)] at go
        exact br_t (cg_b_0.mpr (cg_bF mj)) (nm_r (nI_1 j) go)
  suffices loop : ∀ d j, j + d = 256 → ∀ md : Nat → Int32, (∀ q, q < j → md q = cg_b (cg_isM n (cg_E a_row) q)) → ∀ f, d < f → wY_strongModules_2 post f_fresh (nI n) f_hasWitness f (nI j) a_row a_weight a_witness a_label a_order md a_least from
    ⟨257, loop 256 0 rfl a_module (fun q hq => (Nat.not_lt_zero q hq).elim) 257 (by omega)⟩
  intro d
  induction d with
  | zero =>
    intro j hj md hmd f hf
    obtain ⟨m, rfl⟩ : ∃ m, f = m + 1 := ⟨f - 1, by omega⟩
    have : j = 256 := by omega
    subst this
    exact br_t (by decide) ⟨257, cnt md hmd⟩
  | succ d ih =>
    intro j hj md hmd f hf
    obtain ⟨m, rfl⟩ : ∃ m, f = m + 1 := ⟨f - 1, by omega⟩
    refine br_f (nI_ge (b := 256) (by omega) (by decide)) (yw_isM n8 rfl (by omega) ⟨ib_in (show j < 256 by omega) (by omega), nm_e (nm_r (nI_1 j) (ih (j + 1) (by omega) _ ?_ m (by omega)))⟩)
    intro q hq
    rw [ib_cl (show j < 256 by omega), cg_nb]
    by_cases e : q = j
    · subst e; rw [pk_us]
    · rw [pk_un e]; exact hmd q (by omega)
end
/-- a number's bits within eight -/
theorem cg_lt256 {p n : Nat} (h : ∀ j, p.testBit j = true → j < n) : p < 2 ^ n := by
  refine Nat.lt_pow_two_of_testBit p fun i hi => ?_
  exact cg_bF fun z => by have := h i z; omega
theorem cg_strcount {n : Nat} {U : Nat → Bool} {r : Nat} {K P : Nat → Int32} {lv : Nat → Int32} {E : Nat → Nat → Bool} (B : tw_B (fun v => decide (v < n)) U r K P (fun x => bt (lv x)) E) (A : tw_A U K P) (n8 : n ≤ 8) (sy : ∀ u v, u < n → v < n → E u v = E v u) :
    cg_cnt U 20 = cg_cnt (cg_str n E) 256 := by
  have sy' : ∀ u v, (fun v => decide (v < n)) u = true → (fun v => decide (v < n)) v = true → E u v = E v u := fun u v hu hv => sy u v (of_decide_eq_true hu) (of_decide_eq_true hv)
  have tb : ∀ x j, bt (lv x) j = (lv x).toBitVec.toNat.testBit j := fun x j => rfl
  have isMod : ∀ q, cg_isM n E q = true ↔ q < 2 ^ n ∧ q ≠ 0 ∧ cg_mod (fun v => decide (v < n)) E q.testBit := fun q => cg_D_iff
  have hx : ∀ x, U x = true → (lv x).toBitVec.toNat < 2 ^ n ∧ cg_str n E (lv x).toBitVec.toNat = true := by
    intro x ux
    obtain ⟨m1, m2⟩ := tw_strong1 B A sy' ux
    have lt : (lv x).toBitVec.toNat < 2 ^ n := cg_lt256 (fun j hj => of_decide_eq_true (tw_LV B ux (show bt (lv x) j = true from hj)))
    refine ⟨lt, ?_⟩
    have e1 : cg_isM n E (lv x).toBitVec.toNat = true := by
      refine (isMod _).mpr ⟨lt, ?_, m1⟩
      obtain ⟨v, hv⟩ := tw_ne B ux
      intro z
      have hv' : (lv x).toBitVec.toNat.testBit v = true := hv
      rw [z, Nat.zero_testBit] at hv'
      exact absurd hv' (by decide)
    have e2 : cg_D (∃ q, 1 ≤ q ∧ q < 256 ∧ cg_isM n E q = true ∧ cg_over (lv x).toBitVec.toNat q) = false := by
      refine cg_D_f.mpr fun ⟨q, _, _, mq, ov⟩ => ?_
      obtain ⟨q1, q2, q3⟩ := (isMod q).mp mq
      rcases m2 q.testBit (fun u hu => by simp [cg_pbit q1 hu]) q3 ov.1 with t | t
      · exact ov.2.1 t
      · exact ov.2.2 t
    unfold cg_str
    rw [e1, e2]; rfl
  have hp : ∀ p, p < 256 → cg_str n E p = true → ∃ x, U x = true ∧ (lv x).toBitVec.toNat = p := by
    intro p p256 hs
    unfold cg_str at hs
    have h1 : cg_isM n E p = true := by revert hs; cases cg_isM n E p <;> simp
    rw [h1, Bool.true_and] at hs
    have h2 : ¬ ∃ q, 1 ≤ q ∧ q < 256 ∧ cg_isM n E q = true ∧ cg_over p q := cg_D_f.mp (by revert hs; cases cg_D (∃ q, 1 ≤ q ∧ q < 256 ∧ cg_isM n E q = true ∧ cg_over p q) <;> simp)
    obtain ⟨p1, p2, p3⟩ := (isMod p).mp h1
    have hne : ∃ u, p.testBit u = true := Classical.byContradiction fun z => p2 (Nat.eq_of_testBit_eq fun i => by rw [Nat.zero_testBit]; exact cg_bF fun q => z ⟨i, q⟩)
    obtain ⟨x, ux, hx⟩ := tw_strong2 B A sy' (S := p.testBit) (fun u hu => by simp [cg_pbit p1 hu]) hne p3 (by
      intro S hS md ov
      -- S as a number
      obtain ⟨q, hq⟩ : ∃ q : Nat, ∀ u, q.testBit u = true ↔ S u = true := by
        refine ⟨cg_msk S 8, fun u => ?_⟩
        rw [(cg_msk_spec S 8).2 u]
        constructor
        · intro t; simp at t; exact t.2
        · intro t
          have : u < n := of_decide_eq_true (hS u t)
          simp [t]; omega
      refine Classical.byContradiction fun z => h2 ?_
      have q1 : q < 2 ^ n := cg_lt256 (fun j hj => of_decide_eq_true (hS j ((hq j).mp hj)))
      have q256 := cg_p256 n8 q1
      have q0 : q ≠ 0 := by
        obtain ⟨u, _, hu⟩ := ov
        intro t
        have := (hq u).mpr hu
        rw [t, Nat.zero_testBit] at this
        exact absurd this (by decide)
      have eS : q.testBit = S := by
        funext u
        cases t : S u
        · exact cg_bF fun y => by rw [(hq u).mp y] at t; exact absurd t (by decide)
        · exact (hq u).mpr t
      refine ⟨q, by omega, q256, (isMod q).mpr ⟨q1, q0, by rw [eS]; exact md⟩, ?_⟩
      refine ⟨?_, ?_, ?_⟩
      · rw [eS]; exact ov
      · rw [eS]; exact fun t => z (Or.inl t)
      · rw [eS]; exact fun t => z (Or.inr t))
    refine ⟨x, ux, Nat.eq_of_testBit_eq fun i => ?_⟩
    have := hx i
    have e : bt (lv x) i = p.testBit i := by
      cases t : p.testBit i
      · exact cg_bF fun y => by rw [this.mp y] at t; exact absurd t (by decide)
      · exact this.mpr t
    exact e
  apply Nat.le_antisymm
  · refine cg_cnt_inj (fun x => (lv x).toBitVec.toNat) 20 (cg_str n E) (fun x _ ux => ?_) (fun x y _ _ ux uy e => ?_)
    · have := hx x ux
      exact ⟨cg_p256 n8 this.1, this.2⟩
    · refine tw_inj B ux uy (fun v => ?_)
      show bt (lv x) v = true ↔ bt (lv y) v = true
      have e' : (lv x).toBitVec.toNat = (lv y).toBitVec.toNat := e
      rw [tb, tb, e']
  · have hex : ∀ p, ∃ x, p < 256 → cg_str n E p = true → U x = true ∧ (lv x).toBitVec.toNat = p := by
      intro p
      by_cases z : p < 256 ∧ cg_str n E p = true
      · obtain ⟨x, h1, h2⟩ := hp p z.1 z.2
        exact ⟨x, fun _ _ => ⟨h1, h2⟩⟩
      · exact ⟨0, fun a b => (z ⟨a, b⟩).elim⟩
    obtain ⟨g, hg⟩ := Classical.axiomOfChoice hex
    refine cg_cnt_inj g 256 U (fun p h1 h2 => ?_) (fun p q h1 h2 s1 s2 e => ?_)
    · have := hg p h1 h2
      exact ⟨tw_lt B this.1, this.1⟩
    · have a := hg p h1 s1
      have b := hg q h2 s2
      rw [← a.2, ← b.2, e]
theorem cg_T_count {n : Nat} {root used : Int32} {kind parent leaves children : Nat → Int32} {E : Nat → Nat → Bool} (T : cg_T n root used kind parent leaves children E) (n8 : n ≤ 8) (sy : ∀ u v, u < n → v < n → E u v = E v u) :
    cg_cnt (bt used) 20 = cg_cnt (cg_str n E) 256 := by
  rcases T with ⟨n0, _, hU⟩ | ⟨_, _, r, _, B, A, _⟩
  · rw [cg_cnt_zero 20 (fun i _ => hU i)]
    symm
    apply cg_cnt_zero
    intro p _
    unfold cg_str
    have : cg_isM n E p = false := cg_D_f.mpr fun z => by
      have := z.1
      rw [n0] at this
      exact z.2.1 (by simpa using this)
    rw [this]; rfl
  · exact cg_strcount B A n8 sy
section
variable {f_vertexCount f_root f_usedNodes f_newWeight f_wholeChildren f_emptyChildren f_partChildren f_orderLength f_witnessKept : Int32} {a_kind a_parent a_leaves a_children a_weight a_order a_value a_witnessCells a_row : Nat → Int32}
theorem xw_measure0 {post : Int32 → SX → Prop} (h : post (nI (cg_cnt (bt f_usedNodes) 20)) (f_vertexCount, f_root, f_usedNodes, f_newWeight, f_wholeChildren, f_emptyChildren, f_partChildren, f_orderLength, f_witnessKept, a_kind, a_parent, a_leaves, a_children, a_weight, a_order, a_value, a_witnessCells, a_row)) : wX_measure_8 post f_vertexCount f_root f_usedNodes f_newWeight f_wholeChildren f_emptyChildren f_partChildren f_orderLength f_witnessKept a_kind a_parent a_leaves a_children a_weight a_order a_value a_witnessCells a_row 21 (nI 0) (nI 0) := by
  suffices loop : ∀ d j, j + d = 20 → ∀ f, d < f → wX_measure_8 post f_vertexCount f_root f_usedNodes f_newWeight f_wholeChildren f_emptyChildren f_partChildren f_orderLength f_witnessKept a_kind a_parent a_leaves a_children a_weight a_order a_value a_witnessCells a_row f (nI (cg_cnt (bt f_usedNodes) j)) (nI j) from loop 20 0 rfl 21 (by omega)
  intro d
  induction d with
  | zero =>
    intro j hj f hf
    obtain ⟨m, rfl⟩ : ∃ m, f = m + 1 := ⟨f - 1, by omega⟩
    have : j = 20 := by omega
    subst this
    exact br_t (by decide) h
  | succ d ih =>
    intro j hj f hf
    obtain ⟨m, rfl⟩ : ∃ m, f = m + 1 := ⟨f - 1, by omega⟩
    refine br_f (ib_20 (by omega)) (nm_r (e' := nI (cg_cnt (bt f_usedNodes) (j + 1))) ?_ (nm_r (nI_1 j) (ih (j + 1) (by omega) m (by omega))))
    rw [ib_bitv _ (by omega)]
    show _ = nI (cg_cnt (bt f_usedNodes) j + (if bt f_usedNodes j = true then 1 else 0))
    by_cases z : bt f_usedNodes j = true
    · rw [if_pos z, if_pos z, nI_1]
    · rw [if_neg z, if_neg z]
      show _ + nI 0 = _
      rw [nI_add]
end
end
section
/-! ===== X: the nodes listed, the folds over the children ===== -/
/-- o lists used nodes from the root r on; a node's children stand behind it -/
def cg_ord (U : Nat → Bool) (P : Nat → Int32) (r len : Nat) (o : Nat → Nat) : Prop :=
  0 < len ∧ len ≤ 20 ∧ o 0 = r ∧ (∀ i, i < len → U (o i) = true) ∧ ∀ i, i < len → ∀ c, U c = true → P c = nI (o i) → ∃ j, i < j ∧ j < len ∧ o j = c
/-- while row t is listed, up to child cc -/
def cg_ordI (U : Nat → Bool) (P : Nat → Int32) (r t cc len : Nat) (o : Nat → Nat) : Prop :=
  0 < len ∧ len ≤ 20 ∧ o 0 = r ∧ (∀ i, i < len → U (o i) = true) ∧ (∀ i j, i < len → j < len → o i = o j → i = j) ∧
  (∀ i, i < t → ∀ c, U c = true → P c = nI (o i) → ∃ j, i < j ∧ j < len ∧ o j = c) ∧
  (∀ c, c < cc → U c = true → P c = nI (o t) → ∃ j, t < j ∧ j < len ∧ o j = c) ∧
  (∀ j, 0 < j → j < len → (∃ i, i < t ∧ P (o j) = nI (o i)) ∨ (P (o j) = nI (o t) ∧ o j < cc))
theorem cg_ord_add {V U : Nat → Bool} {r : Nat} {K P : Nat → Int32} {L E : Nat → Nat → Bool} (B : tw_B V U r K P L E) {t cc len : Nat} {o : Nat → Nat} (h : cg_ordI U P r t cc len o) (ht : t < len) (uc : U cc = true) (pc : P cc = nI (o t)) :
    len < 20 ∧ cg_ordI U P r t (cc + 1) (len + 1) (fun i => if i = len then cc else o i) := by
  obtain ⟨h0, h1, h2, h3, h4, h5, h6, h7⟩ := h
  have ut := h3 t ht
  have new : ∀ i, i < len → o i ≠ cc := by
    intro i hi e
    by_cases i0 : i = 0
    · rw [i0, h2] at e
      exact tw_pr B ut pc e.symm
    · rcases h7 i (by omega) hi with ⟨k, hk, pk⟩ | ⟨_, q⟩
      · rw [e] at pk
        have := h4 k t (by omega) ht (tw_pu B (h3 k (by omega)) ut pk pc)
        omega
      · omega
  have keep : ∀ i, i < len → (fun i => if i = len then cc else o i) i = o i := fun i hi => by
    show (if i = len then cc else o i) = o i
    rw [if_neg (by omega)]
  have last : (fun i => if i = len then cc else o i) len = cc := by
    show (if len = len then cc else o len) = cc
    rw [if_pos rfl]
  have usd : ∀ i, i < len + 1 → U ((fun i => if i = len then cc else o i) i) = true := by
    intro i hi
    by_cases e : i = len
    · rw [e, last]; exact uc
    · rw [keep i (by omega)]; exact h3 i (by omega)
  have dst : ∀ i j, i < len + 1 → j < len + 1 → (fun i => if i = len then cc else o i) i = (fun i => if i = len then cc else o i) j → i = j := by
    intro i j hi hj e
    by_cases ei : i = len
    · by_cases ej : j = len
      · omega
      · rw [ei, last, keep j (by omega)] at e
        exact (new j (by omega) e.symm).elim
    · by_cases ej : j = len
      · rw [ej, last, keep i (by omega)] at e
        exact (new i (by omega) e).elim
      · rw [keep i (by omega), keep j (by omega)] at e
        exact h4 i j (by omega) (by omega) e
  have cnt := cg_cnt_inj (A := fun _ => true) (b := 20) (fun i => if i = len then cc else o i) (len + 1) (fun _ => true) (fun i hi _ => ⟨tw_lt B (usd i hi), rfl⟩) (fun i j hi hj _ _ => dst i j hi hj)
  rw [cg_cnt_all (len + 1) (fun _ _ => rfl), cg_cnt_all 20 (fun _ _ => rfl)] at cnt
  refine ⟨by omega, by omega, by omega, ?_, usd, dst, ?_, ?_, ?_⟩
  · rw [keep 0 h0]; exact h2
  · intro i hi c hc pc'
    rw [keep i (by omega)] at pc'
    obtain ⟨j, a, b, e⟩ := h5 i hi c hc pc'
    exact ⟨j, a, by omega, by rw [keep j b]; exact e⟩
  · intro c hc uc' pc'
    rw [keep t ht] at pc'
    by_cases e : c = cc
    · exact ⟨len, ht, by omega, by rw [last]; exact e.symm⟩
    · obtain ⟨j, a, b, e⟩ := h6 c (by omega) uc' pc'
      exact ⟨j, a, by omega, by rw [keep j b]; exact e⟩
  · intro j j0 hj
    rw [keep t ht]
    by_cases e : j = len
    · rw [e, last]
      exact Or.inr ⟨pc, by omega⟩
    · rw [keep j (by omega)]
      rcases h7 j j0 (by omega) with ⟨i, hi, q⟩ | ⟨q, q'⟩
      · exact Or.inl ⟨i, hi, by rw [keep i (by omega)]; exact q⟩
      · exact Or.inr ⟨q, by omega⟩
theorem cg_ord_skip {U : Nat → Bool} {r : Nat} {P : Nat → Int32} {t cc len : Nat} {o : Nat → Nat} (h : cg_ordI U P r t cc len o) (hc : ¬ (U cc = true ∧ P cc = nI (o t))) : cg_ordI U P r t (cc + 1) len o := by
  obtain ⟨h0, h1, h2, h3, h4, h5, h6, h7⟩ := h
  refine ⟨h0, h1, h2, h3, h4, h5, ?_, ?_⟩
  · intro c hc' uc pc
    by_cases e : c = cc
    · subst e; exact (hc ⟨uc, pc⟩).elim
    · exact h6 c (by omega) uc pc
  · intro j j0 hj
    rcases h7 j j0 hj with q | ⟨q, q'⟩
    · exact Or.inl q
    · exact Or.inr ⟨q, by omega⟩
theorem cg_ord_next {V U : Nat → Bool} {r : Nat} {K P : Nat → Int32} {L E : Nat → Nat → Bool} (B : tw_B V U r K P L E) {t len : Nat} {o : Nat → Nat} (h : cg_ordI U P r t 20 len o) : cg_ordI U P r (t + 1) 0 len o := by
  obtain ⟨h0, h1, h2, h3, h4, h5, h6, h7⟩ := h
  refine ⟨h0, h1, h2, h3, h4, ?_, fun c hc => (Nat.not_lt_zero c hc).elim, ?_⟩
  · intro i hi c uc pc
    by_cases e : i = t
    · subst e; exact h6 c (tw_lt B uc) uc pc
    · exact h5 i (by omega) c uc pc
  · intro j j0 hj
    rcases h7 j j0 hj with ⟨i, hi, q⟩ | ⟨q, _⟩
    · exact Or.inl ⟨i, by omega, q⟩
    · exact Or.inl ⟨t, by omega, q⟩
section
variable {f_vertexCount f_root f_usedNodes f_newWeight f_wholeChildren f_emptyChildren f_partChildren f_orderLength f_witnessKept : Int32} {a_kind a_parent a_leaves a_children a_weight a_order a_value a_witnessCells a_row : Nat → Int32}
variable {r : Nat} {V : Nat → Bool} {E : Nat → Nat → Bool}
theorem xw_listNodes {post : SX → Prop} (B : tw_B V (bt f_usedNodes) r a_kind a_parent (fun y => bt (a_leaves y)) E) (hC : tw_C (bt f_usedNodes) a_parent (fun y => bt (a_children y))) (hr : f_root = nI r)
    (h : ∀ len o ord, cg_ord (bt f_usedNodes) a_parent r len o → (∀ i, i < len → ord i = nI (o i)) → post (f_vertexCount, f_root, f_usedNodes, f_newWeight, f_wholeChildren, f_emptyChildren, f_partChildren, nI len, f_witnessKept, a_kind, a_parent, a_leaves, a_children, a_weight, ord, a_value, a_witnessCells, a_row)) : wpX_listNodes post (f_vertexCount, f_root, f_usedNodes, f_newWeight, f_wholeChildren, f_emptyChildren, f_partChildren, f_orderLength, f_witnessKept, a_kind, a_parent, a_leaves, a_children, a_weight, a_order, a_value, a_witnessCells, a_row) := by
  have lr := tw_lt B (tw_rU B)
  -- one row
  have inner : ∀ (t : Nat) (J : Int32 → Int32 → (Nat → Int32) → (Nat → Int32) → (Nat → Int32) → (Nat → Int32) → (Nat → Int32) → (Nat → Int32) → (Nat → Int32) → (Nat → Int32) → (Nat → Int32) → Prop) (x : Nat), bt f_usedNodes x = true →
      (∀ len o ord, t < len → o t = x → cg_ordI (bt f_usedNodes) a_parent r t 20 len o → (∀ i, i < len → ord i = nI (o i)) → J (nI (t + 1)) (nI len) a_kind a_parent a_leaves a_children a_weight ord a_value a_witnessCells a_row) →
      ∀ d cc, cc + d = 20 → ∀ len o ord, t < len → o t = x → cg_ordI (bt f_usedNodes) a_parent r t cc len o → (∀ i, i < len → ord i = nI (o i)) → ∀ f, d < f →
      wX_listNodes_40 post J (nI t) (a_children x) f_vertexCount f_root f_usedNodes f_newWeight f_wholeChildren f_emptyChildren f_partChildren f_witnessKept f (nI cc) (nI len) a_kind a_parent a_leaves a_children a_weight ord a_value a_witnessCells a_row := by
    intro t J x hx hJ d
    induction d with
    | zero =>
      intro cc hcc len o ord ht ho hI hord f hf
      obtain ⟨m, rfl⟩ : ∃ m, f = m + 1 := ⟨f - 1, by omega⟩
      have : cc = 20 := by omega
      subst this
      exact br_t (by decide) (nm_r (nI_1 t) (hJ len o ord ht ho hI hord))
    | succ d ih =>
      intro cc hcc len o ord ht ho hI hord f hf
      obtain ⟨m, rfl⟩ : ∃ m, f = m + 1 := ⟨f - 1, by omega⟩
      refine br_f (ib_20 (by omega)) ?_
      by_cases cb : bt (a_children x) cc = true
      · obtain ⟨uc, pc⟩ := (hC x hx cc).mp cb
        obtain ⟨l20, hI'⟩ := cg_ord_add B hI ht uc (by rw [ho]; exact pc)
        refine br_f (fun z => by rw [(ib_bit _ (by omega)).mp z] at cb; exact absurd cb (by decide)) ⟨ib_in l20 (by omega), nm_e (nm_r (nI_1 len) (nm_r (nI_1 cc) (ih (cc + 1) (by omega) (len + 1) _ _ (by omega) ?_ hI' ?_ m (by omega))))⟩
        · show (if t = len then cc else o t) = x
          rw [if_neg (by omega)]; exact ho
        · intro i hi
          rw [ib_cl (show len < 256 by omega), ib_byte (by omega)]
          show upd ord len (nI cc) i = nI (if i = len then cc else o i)
          by_cases e : i = len
          · subst e; rw [pk_us, if_pos rfl]
          · rw [pk_un e, if_neg e]; exact hord i (by omega)
      · refine br_t ((ib_bit _ (by omega)).mpr (cg_bF cb)) (nm_r (nI_1 cc) (ih (cc + 1) (by omega) len o ord ht ho (cg_ord_skip hI ?_) hord m (by omega)))
        rw [ho]
        exact fun z => cb ((hC x hx cc).mpr z)
  suffices loop : ∀ d t, t + d = 20 → ∀ len o ord, t ≤ len → cg_ordI (bt f_usedNodes) a_parent r t 0 len o → (∀ i, i < len → ord i = nI (o i)) → ∀ f, d < f → wX_listNodes_18 post f_vertexCount f_root f_usedNodes f_newWeight f_wholeChildren f_emptyChildren f_partChildren f_witnessKept f (nI t) (nI len) a_kind a_parent a_leaves a_children a_weight ord a_value a_witnessCells a_row by
    unfold wpX_listNodes
    dsimp only
    have e : vp_nar .byte f_root.toInt8.toInt32 = nI r := by rw [hr, ib_byte lr]
    refine nm_e ⟨21, loop 20 0 rfl 1 (fun _ => r) _ (by omega) ?_ ?_ 21 (by omega)⟩
    · refine ⟨by omega, by omega, rfl, fun i _ => tw_rU B, fun i j hi hj _ => by omega, fun i hi => (Nat.not_lt_zero i hi).elim, fun c hc => (Nat.not_lt_zero c hc).elim, fun j h1 h2 => by omega⟩
    · intro i hi
      have : i = 0 := by omega
      subst this
      rw [e, pk_us]
  intro d
  induction d with
  | zero =>
    intro t ht len o ord htl hI hord f hf
    obtain ⟨m, rfl⟩ : ∃ m, f = m + 1 := ⟨f - 1, by omega⟩
    have h1 := hI.2.1
    have : len = t := by omega
    subst this
    refine br_t (nI_le (Nat.le_refl _) (by omega)) (h len o ord ⟨hI.1, h1, hI.2.2.1, hI.2.2.2.1, hI.2.2.2.2.2.1⟩ hord)
  | succ d ih =>
    intro t ht len o ord htl hI hord f hf
    obtain ⟨m, rfl⟩ : ∃ m, f = m + 1 := ⟨f - 1, by omega⟩
    have h1 := hI.2.1
    by_cases e : len = t
    · subst e
      exact br_t (nI_le (Nat.le_refl _) (by omega)) (h len o ord ⟨hI.1, h1, hI.2.2.1, hI.2.2.2.1, hI.2.2.2.2.2.1⟩ hord)
    · have tl : t < len := by omega
      have ut := hI.2.2.2.1 t tl
      have lt := tw_lt B ut
      refine br_f (nI_ge tl (by omega)) ⟨ib_in (show t < 20 by omega) (by omega), ?_⟩
      rw [ib_cl (show t < 256 by omega), hord t tl, ib_cl (show o t < 256 by omega)]
      refine ⟨ib_in lt (by omega), nm_e ⟨21, inner t _ (o t) ut ?_ 20 0 rfl len o ord tl rfl hI hord 21 (by omega)⟩⟩
      intro len' o' ord' tl' _ hI' hord'
      exact ih (t + 1) (by omega) len' o' ord' (by omega) (cg_ord_next B hI') hord' m (by omega)
end
end
section
def cg_fold {α : Type} (f : α → Nat → α) (i : α) (C : Nat → Bool) : Nat → α
  | 0 => i
  | k + 1 => if C k = true then f (cg_fold f i C k) k else cg_fold f i C k
theorem cg_fold_t {α : Type} {f : α → Nat → α} {i : α} {C : Nat → Bool} {k : Nat} (h : C k = true) : cg_fold f i C (k + 1) = f (cg_fold f i C k) k := if_pos h
theorem cg_fold_f {α : Type} {f : α → Nat → α} {i : α} {C : Nat → Bool} {k : Nat} (h : ¬ C k = true) : cg_fold f i C (k + 1) = cg_fold f i C k := if_neg h
theorem cg_fold_inv {α : Type} {f : α → Nat → α} {i : α} {C : Nat → Bool} (Q : α → Prop) (h0 : Q i) (hs : ∀ a k, k < 20 → C k = true → Q a → Q (f a k)) : ∀ k, k ≤ 20 → Q (cg_fold f i C k)
  | 0, _ => h0
  | k + 1, hk => by
    have ih := cg_fold_inv (f := f) (i := i) (C := C) Q h0 hs k (by omega)
    by_cases c : C k = true
    · rw [cg_fold_t c]; exact hs _ k (by omega) c ih
    · rw [cg_fold_f c]; exact ih
def cg_fsum (val : Nat → Nat) : Nat → Nat → Nat := fun a c => a + val c
def cg_fmax (val : Nat → Nat) : Nat → Nat → Nat := fun a c => if val c ≤ a then a else val c
def cg_fmul (val : Nat → Nat) : Nat → Nat → Nat := fun a c => a * (1 + val c)
def cg_fprt (val : Nat → Nat) : Nat → Nat → Nat := fun a c => if val c = 0 then a else if a = 0 then val c else 1
def cg_mx1 (a b : Nat) : Nat := if b ≤ a then (if 1 ≤ a then a else 1) else b
def cg_fpth (val sz : Nat → Nat) : Nat × Nat → Nat → Nat × Nat := fun s c => (cg_mx1 (s.1 - sz c) (val c - s.2), s.2 + sz c)
section
variable {f_vertexCount f_root f_usedNodes f_newWeight f_wholeChildren f_emptyChildren f_partChildren f_orderLength f_witnessKept : Int32} {a_kind a_parent a_leaves a_children a_weight a_order a_value a_witnessCells a_row : Nat → Int32}
variable {x : Nat} {val : Nat → Nat}
theorem xw_sumOf {post : Int32 → Prop} (hx : x < 20) (hv : ∀ c, c < 20 → bt (a_children x) c = true → a_value c = nI (val c)) (h : post (nI (cg_fold (cg_fsum val) 0 (bt (a_children x)) 20))) : wpX_sumOf post (f_vertexCount, f_root, f_usedNodes, f_newWeight, f_wholeChildren, f_emptyChildren, f_partChildren, f_orderLength, f_witnessKept, a_kind, a_parent, a_leaves, a_children, a_weight, a_order, a_value, a_witnessCells, a_row) (nI x) := by
  suffices loop : ∀ d j, j + d = 20 → ∀ f, d < f → wX_sumOf_4 post (nI x) f_vertexCount f_root f_usedNodes f_newWeight f_wholeChildren f_emptyChildren f_partChildren f_orderLength f_witnessKept a_kind a_parent a_leaves a_children a_weight a_order a_value a_witnessCells a_row f (nI (cg_fold (cg_fsum val) 0 (bt (a_children x)) j)) (nI j) from ⟨21, loop 20 0 rfl 21 (by omega)⟩
  intro d
  induction d with
  | zero =>
    intro j hj f hf
    obtain ⟨m, rfl⟩ : ∃ m, f = m + 1 := ⟨f - 1, by omega⟩
    have : j = 20 := by omega
    subst this
    exact br_t (by decide) h
  | succ d ih =>
    intro j hj f hf
    obtain ⟨m, rfl⟩ : ∃ m, f = m + 1 := ⟨f - 1, by omega⟩
    have go := ih (j + 1) (by omega) m (by omega)
    refine br_f (ib_20 (by omega)) ⟨ib_in hx (by omega), ?_⟩
    rw [ib_cl (show x < 256 by omega), ib_cl (show j < 256 by omega)]
    by_cases c : bt (a_children x) j = true
    · rw [cg_fold_t c] at go
      refine br_f (fun z => by rw [(ib_bit _ (by omega)).mp z] at c; exact absurd c (by decide)) ⟨ib_in (show j < 20 by omega) (by omega), nm_r ?_ (nm_r (nI_1 j) go)⟩
      rw [hv j (by omega) c, nI_add]; rfl
    · rw [cg_fold_f c] at go
      exact br_t ((ib_bit _ (by omega)).mpr (cg_bF c)) (nm_r (nI_1 j) go)
theorem xw_productOf {post : Int32 → Prop} (hx : x < 20) (hv : ∀ c, c < 20 → bt (a_children x) c = true → a_value c = nI (val c)) (h : post (nI (cg_fold (cg_fmul val) 1 (bt (a_children x)) 20 - 1))) : wpX_productOf post (f_vertexCount, f_root, f_usedNodes, f_newWeight, f_wholeChildren, f_emptyChildren, f_partChildren, f_orderLength, f_witnessKept, a_kind, a_parent, a_leaves, a_children, a_weight, a_order, a_value, a_witnessCells, a_row) (nI x) := by
  suffices loop : ∀ d j, j + d = 20 → ∀ f, d < f → wX_productOf_4 post (nI x) f_vertexCount f_root f_usedNodes f_newWeight f_wholeChildren f_emptyChildren f_partChildren f_orderLength f_witnessKept a_kind a_parent a_leaves a_children a_weight a_order a_value a_witnessCells a_row f (nI (cg_fold (cg_fmul val) 1 (bt (a_children x)) j)) (nI j) from ⟨21, loop 20 0 rfl 21 (by omega)⟩
  have pos : 1 ≤ cg_fold (cg_fmul val) 1 (bt (a_children x)) 20 := by
    refine cg_fold_inv (fun a => 1 ≤ a) (Nat.le_refl 1) (fun a k _ _ h => ?_) 20 (Nat.le_refl _)
    exact Nat.mul_pos h (by omega)
  intro d
  induction d with
  | zero =>
    intro j hj f hf
    obtain ⟨m, rfl⟩ : ∃ m, f = m + 1 := ⟨f - 1, by omega⟩
    have : j = 20 := by omega
    subst this
    refine br_t (by decide) ?_
    have e : nI (cg_fold (cg_fmul val) 1 (bt (a_children x)) 20) - 1 = nI (cg_fold (cg_fmul val) 1 (bt (a_children x)) 20 - 1) := pk_sub (b := 1) pos
    rw [e]; exact h
  | succ d ih =>
    intro j hj f hf
    obtain ⟨m, rfl⟩ : ∃ m, f = m + 1 := ⟨f - 1, by omega⟩
    have go := ih (j + 1) (by omega) m (by omega)
    refine br_f (ib_20 (by omega)) ⟨ib_in hx (by omega), ?_⟩
    rw [ib_cl (show x < 256 by omega), ib_cl (show j < 256 by omega)]
    by_cases c : bt (a_children x) j = true
    · rw [cg_fold_t c] at go
      refine br_f (fun z => by rw [(ib_bit _ (by omega)).mp z] at c; exact absurd c (by decide)) ⟨ib_in (show j < 20 by omega) (by omega), nm_r ?_ (nm_r (nI_1 j) go)⟩
      rw [hv j (by omega) c]
      show _ * (nI 1 + _) = _
      rw [nI_add, pk_mul]; rfl
    · rw [cg_fold_f c] at go
      exact br_t ((ib_bit _ (by omega)).mpr (cg_bF c)) (nm_r (nI_1 j) go)
theorem xw_greatestOf {post : Int32 → Prop} (hx : x < 20) (hv : ∀ c, c < 20 → bt (a_children x) c = true → a_value c = nI (val c) ∧ val c ≤ 1000) (h : post (nI (cg_fold (cg_fmax val) 0 (bt (a_children x)) 20))) : wpX_greatestOf post (f_vertexCount, f_root, f_usedNodes, f_newWeight, f_wholeChildren, f_emptyChildren, f_partChildren, f_orderLength, f_witnessKept, a_kind, a_parent, a_leaves, a_children, a_weight, a_order, a_value, a_witnessCells, a_row) (nI x) := by
  have bnd : ∀ k, k ≤ 20 → cg_fold (cg_fmax val) 0 (bt (a_children x)) k ≤ 1000 := cg_fold_inv (fun a => a ≤ 1000) (by omega) (fun a k hk c h => by
    unfold cg_fmax; split
    · exact h
    · exact (hv k hk c).2)
  suffices loop : ∀ d j, j + d = 20 → ∀ f, d < f → wX_greatestOf_4 post (nI x) f_vertexCount f_root f_usedNodes f_newWeight f_wholeChildren f_emptyChildren f_partChildren f_orderLength f_witnessKept a_kind a_parent a_leaves a_children a_weight a_order a_value a_witnessCells a_row f (nI (cg_fold (cg_fmax val) 0 (bt (a_children x)) j)) (nI j) from ⟨21, loop 20 0 rfl 21 (by omega)⟩
  intro d
  induction d with
  | zero =>
    intro j hj f hf
    obtain ⟨m, rfl⟩ : ∃ m, f = m + 1 := ⟨f - 1, by omega⟩
    have : j = 20 := by omega
    subst this
    exact br_t (by decide) h
  | succ d ih =>
    intro j hj f hf
    obtain ⟨m, rfl⟩ : ∃ m, f = m + 1 := ⟨f - 1, by omega⟩
    have go := ih (j + 1) (by omega) m (by omega)
    have ij : vp_in (nI j) 20 := ib_in (show j < 20 by omega) (by omega)
    refine br_f (ib_20 (by omega)) ⟨ib_in hx (by omega), ?_⟩
    rw [ib_cl (show x < 256 by omega), ib_cl (show j < 256 by omega)]
    by_cases c : bt (a_children x) j = true
    · rw [cg_fold_t c] at go
      have hb := bnd j (by omega)
      obtain ⟨v1, v2⟩ := hv j (by omega) c
      refine br_f (fun z => by rw [(ib_bit _ (by omega)).mp z] at c; exact absurd c (by decide)) ⟨ij, ?_⟩
      rw [v1]
      unfold cg_fmax at go
      by_cases z : val j ≤ cg_fold (cg_fmax val) 0 (bt (a_children x)) j
      · have go' := go
        rw [if_pos (show val j ≤ cg_fold (fun a c => if val c ≤ a then a else val c) 0 (bt (a_children x)) j from z)] at go'
        exact br_t (nI_le z (by omega)) (nm_r (nI_1 j) go')
      · have go' := go
        rw [if_neg (show ¬ val j ≤ cg_fold (fun a c => if val c ≤ a then a else val c) 0 (bt (a_children x)) j from z)] at go'
        exact br_f (nI_ge (by omega) (by omega)) ⟨ij, nm_e (nm_r (nI_1 j) go')⟩
    · rw [cg_fold_f c] at go
      exact br_t ((ib_bit _ (by omega)).mpr (cg_bF c)) (nm_r (nI_1 j) go)
theorem xw_joinedParts {post : Int32 → Prop} (hx : x < 20) (hv : ∀ c, c < 20 → bt (a_children x) c = true → a_value c = nI (val c) ∧ val c ≤ 1000) (h : post (nI (cg_fold (cg_fprt val) 0 (bt (a_children x)) 20))) : wpX_joinedParts post (f_vertexCount, f_root, f_usedNodes, f_newWeight, f_wholeChildren, f_emptyChildren, f_partChildren, f_orderLength, f_witnessKept, a_kind, a_parent, a_leaves, a_children, a_weight, a_order, a_value, a_witnessCells, a_row) (nI x) := by
  have bnd : ∀ k, k ≤ 20 → cg_fold (cg_fprt val) 0 (bt (a_children x)) k ≤ 1000 := cg_fold_inv (fun a => a ≤ 1000) (by omega) (fun a k hk c h => by
    have := (hv k hk c).2
    unfold cg_fprt; split
    · exact h
    · split <;> omega)
  suffices loop : ∀ d j, j + d = 20 → ∀ f, d < f → wX_joinedParts_4 post (nI x) f_vertexCount f_root f_usedNodes f_newWeight f_wholeChildren f_emptyChildren f_partChildren f_orderLength f_witnessKept a_kind a_parent a_leaves a_children a_weight a_order a_value a_witnessCells a_row f (nI (cg_fold (cg_fprt val) 0 (bt (a_children x)) j)) (nI j) from ⟨21, loop 20 0 rfl 21 (by omega)⟩
  intro d
  induction d with
  | zero =>
    intro j hj f hf
    obtain ⟨m, rfl⟩ : ∃ m, f = m + 1 := ⟨f - 1, by omega⟩
    have : j = 20 := by omega
    subst this
    exact br_t (by decide) h
  | succ d ih =>
    intro j hj f hf
    obtain ⟨m, rfl⟩ : ∃ m, f = m + 1 := ⟨f - 1, by omega⟩
    have go := ih (j + 1) (by omega) m (by omega)
    have ij : vp_in (nI j) 20 := ib_in (show j < 20 by omega) (by omega)
    refine br_f (ib_20 (by omega)) ⟨ib_in hx (by omega), ?_⟩
    rw [ib_cl (show x < 256 by omega), ib_cl (show j < 256 by omega)]
    by_cases c : bt (a_children x) j = true
    · rw [cg_fold_t c] at go
      have hb := bnd j (by omega)
      obtain ⟨v1, v2⟩ := hv j (by omega) c
      refine br_f (fun z => by rw [(ib_bit _ (by omega)).mp z] at c; exact absurd c (by decide)) ⟨ij, ?_⟩
      rw [v1]
      generalize hA : cg_fold (cg_fprt val) 0 (bt (a_children x)) j = a at go hb
      unfold cg_fprt at go
      by_cases z : val j = 0
      · rw [if_pos z] at go
        rw [z]
        exact br_t rfl (nm_r (nI_1 j) go)
      · rw [if_neg z] at go
        refine br_f (nI_ne0 (by omega) (by omega)) ?_
        by_cases q : a = 0
        · rw [if_pos q] at go
          rw [q]
          exact br_t rfl ⟨ij, nm_e (nm_r (nI_1 j) go)⟩
        · rw [if_neg q] at go
          exact br_f (nI_ne0 (by omega) (by omega)) (nm_r (nI_1 j) go)
    · rw [cg_fold_f c] at go
      exact br_t ((ib_bit _ (by omega)).mpr (cg_bF c)) (nm_r (nI_1 j) go)
theorem xw_bitsIn {post : Int32 → Prop} {s : Int32} (h : post (nI (cg_cnt (bt s) 8))) : wpX_bitsIn post (f_vertexCount, f_root, f_usedNodes, f_newWeight, f_wholeChildren, f_emptyChildren, f_partChildren, f_orderLength, f_witnessKept, a_kind, a_parent, a_leaves, a_children, a_weight, a_order, a_value, a_witnessCells, a_row) s := by
  suffices loop : ∀ d j, j + d = 8 → ∀ f, d < f → wX_bitsIn_4 post s f_vertexCount f_root f_usedNodes f_newWeight f_wholeChildren f_emptyChildren f_partChildren f_orderLength f_witnessKept a_kind a_parent a_leaves a_children a_weight a_order a_value a_witnessCells a_row f (nI (cg_cnt (bt s) j)) (nI j) from ⟨9, loop 8 0 rfl 9 (by omega)⟩
  intro d
  induction d with
  | zero =>
    intro j hj f hf
    obtain ⟨m, rfl⟩ : ∃ m, f = m + 1 := ⟨f - 1, by omega⟩
    have : j = 8 := by omega
    subst this
    exact br_t (by decide) h
  | succ d ih =>
    intro j hj f hf
    obtain ⟨m, rfl⟩ : ∃ m, f = m + 1 := ⟨f - 1, by omega⟩
    refine br_f (ib_8 (by omega)) (nm_r (e' := nI (cg_cnt (bt s) (j + 1))) ?_ (nm_r (nI_1 j) (ih (j + 1) (by omega) m (by omega))))
    rw [ib_bitv _ (by omega)]
    show _ = nI (cg_cnt (bt s) j + (if bt s j = true then 1 else 0))
    by_cases z : bt s j = true
    · rw [if_pos z, if_pos z, nI_1]
    · rw [if_neg z, if_neg z]
      show _ + nI 0 = _
      rw [nI_add]
theorem xw_joinedPaths {post : Int32 → Prop} (hx : x < 20) (hv : ∀ c, c < 20 → bt (a_children x) c = true → a_value c = nI (val c) ∧ val c ≤ 1000) (h : post (nI (cg_fold (cg_fpth val (fun c => cg_cnt (bt (a_leaves c)) 8)) (0, 0) (bt (a_children x)) 20).1)) : wpX_joinedPaths post (f_vertexCount, f_root, f_usedNodes, f_newWeight, f_wholeChildren, f_emptyChildren, f_partChildren, f_orderLength, f_witnessKept, a_kind, a_parent, a_leaves, a_children, a_weight, a_order, a_value, a_witnessCells, a_row) (nI x) := by
  obtain ⟨sz, hsz⟩ : ∃ sz : Nat → Nat, sz = fun c => cg_cnt (bt (a_leaves c)) 8 := ⟨_, rfl⟩
  rw [← hsz] at h
  have sz8 : ∀ c, sz c ≤ 8 := fun c => by rw [hsz]; exact cg_cnt_le _ 8
  have esz : ∀ c, cg_cnt (bt (a_leaves c)) 8 = sz c := fun c => by rw [hsz]
  have bnd : ∀ k, k ≤ 20 → (cg_fold (cg_fpth val sz) (0, 0) (bt (a_children x)) k).1 ≤ 1000 := cg_fold_inv (fun a : Nat × Nat => a.1 ≤ 1000) (by show 0 ≤ 1000; omega) (fun (a : Nat × Nat) k hk c h => by
    have := (hv k hk c).2
    have h' : a.1 ≤ 1000 := h
    show cg_mx1 (a.1 - sz k) (val k - a.2) ≤ 1000
    unfold cg_mx1
    split
    · split <;> omega
    · omega)
  have bnd2 : ∀ k, k ≤ 20 → (cg_fold (cg_fpth val sz) (0, 0) (bt (a_children x)) k).2 ≤ 8 * k := by
    intro k
    induction k with
    | zero => intro _; exact Nat.le_refl 0
    | succ k ih =>
      intro hk
      have := ih (by omega)
      by_cases c : bt (a_children x) k = true
      · rw [cg_fold_t c]
        have h8 := sz8 k
        show (cg_fold (cg_fpth val sz) (0, 0) (bt (a_children x)) k).2 + sz k ≤ 8 * (k + 1)
        omega
      · rw [cg_fold_f c]; omega
  suffices loop : ∀ d j, j + d = 20 → ∀ f, d < f → wX_joinedPaths_7 post (nI x) f_vertexCount f_root f_usedNodes f_newWeight f_wholeChildren f_emptyChildren f_partChildren f_orderLength f_witnessKept a_kind a_parent a_leaves a_children a_weight a_order a_value a_witnessCells a_row f (nI (cg_fold (cg_fpth val sz) (0, 0) (bt (a_children x)) j).1) (nI (cg_fold (cg_fpth val sz) (0, 0) (bt (a_children x)) j).2) (nI j) from ⟨21, loop 20 0 rfl 21 (by omega)⟩
  intro d
  induction d with
  | zero =>
    intro j hj f hf
    obtain ⟨m, rfl⟩ : ∃ m, f = m + 1 := ⟨f - 1, by omega⟩
    have : j = 20 := by omega
    subst this
    exact br_t (by decide) h
  | succ d ih =>
    intro j hj f hf
    obtain ⟨m, rfl⟩ : ∃ m, f = m + 1 := ⟨f - 1, by omega⟩
    have go := ih (j + 1) (by omega) m (by omega)
    have ij : vp_in (nI j) 20 := ib_in (show j < 20 by omega) (by omega)
    refine br_f (ib_20 (by omega)) ⟨ib_in hx (by omega), ?_⟩
    rw [ib_cl (show x < 256 by omega), ib_cl (show j < 256 by omega)]
    by_cases c : bt (a_children x) j = true
    · rw [cg_fold_t c] at go
      have hb := bnd j (by omega)
      have hb2 := bnd2 j (by omega)
      obtain ⟨v1, v2⟩ := hv j (by omega) c
      have h8 := sz8 j
      refine br_f (fun z => by rw [(ib_bit _ (by omega)).mp z] at c; exact absurd c (by decide)) ⟨ij, xw_bitsIn (nm_e ⟨ij, nm_e ?_⟩)⟩
      rw [v1, esz]
      generalize (cg_fold (cg_fpth val sz) (0, 0) (bt (a_children x)) j) = s at go hb hb2
      obtain ⟨a, b⟩ := s
      have go : wX_joinedPaths_7 post (nI x) f_vertexCount f_root f_usedNodes f_newWeight f_wholeChildren f_emptyChildren f_partChildren f_orderLength f_witnessKept a_kind a_parent a_leaves a_children a_weight a_order a_value a_witnessCells a_row m (nI (cg_mx1 (a - sz j) (val j - b))) (nI (b + sz j)) (nI (j + 1)) := go
      have hb : a ≤ 1000 := hb
      have hb2 : b ≤ 8 * j := hb2
      show (nI a - nI (sz j) ≤ nI (val j) - nI b → _) ∧ _
      have t1 := pk_sub_toInt (a := a) (b := sz j) (by omega) (by omega)
      have t2 := pk_sub_toInt (a := val j) (b := b) (by omega) (by omega)
      have o1 : (1 : Int32).toInt = 1 := by decide
      have fin : ∀ z0 : Int32, ((1 : Int32) ≤ z0 → z0 = nI (cg_mx1 (a - sz j) (val j - b))) → (¬ (1 : Int32) ≤ z0 → 1 = cg_mx1 (a - sz j) (val j - b)) → wX_joinedPaths_75 post (wX_joinedPaths_7 post (nI x) f_vertexCount f_root f_usedNodes f_newWeight f_wholeChildren f_emptyChildren f_partChildren f_orderLength f_witnessKept a_kind a_parent a_leaves a_children a_weight a_order a_value a_witnessCells a_row m) (nI x) (nI b) (nI j) (nI (sz j)) z0 f_vertexCount f_root f_usedNodes f_newWeight f_wholeChildren f_emptyChildren f_partChildren f_orderLength f_witnessKept a_kind a_parent a_leaves a_children a_weight a_order a_value a_witnessCells a_row := by
        intro z0 p1 p2
        unfold wX_joinedPaths_75
        by_cases z : (1 : Int32) ≤ z0
        · refine br_t z (nm_r (nI_add b (sz j)) (nm_r (nI_1 j) ?_))
          rw [p1 z]; exact go
        · refine br_f z (nm_r (nI_add b (sz j)) (nm_r (nI_1 j) ?_))
          rw [← p2 z] at go; exact go
      by_cases q : nI a - nI (sz j) ≤ nI (val j) - nI b
      · refine br_t q (fin _ (fun z => ?_) (fun z => ?_))
        · rw [Int32.le_iff_toInt_le, t1, t2] at q
          rw [Int32.le_iff_toInt_le, t2, o1] at z
          rw [pk_sub (by omega)]
          congr 1
          unfold cg_mx1
          split
          · split <;> omega
          · rfl
        · rw [Int32.le_iff_toInt_le, t1, t2] at q
          rw [Int32.le_iff_toInt_le, t2, o1] at z
          unfold cg_mx1
          split
          · split <;> omega
          · omega
      · refine br_f q (fin _ (fun z => ?_) (fun z => ?_))
        · rw [Int32.le_iff_toInt_le, t1, t2] at q
          rw [Int32.le_iff_toInt_le, t1, o1] at z
          rw [pk_sub (by omega)]
          congr 1
          unfold cg_mx1
          split
          · split <;> omega
          · omega
        · rw [Int32.le_iff_toInt_le, t1, t2] at q
          rw [Int32.le_iff_toInt_le, t1, o1] at z
          unfold cg_mx1
          split
          · split <;> omega
          · omega
    · rw [cg_fold_f c] at go
      exact br_t ((ib_bit _ (by omega)).mpr (cg_bF c)) (nm_r (nI_1 j) go)
end
end
section
section
variable {f_vertexCount f_root f_usedNodes f_newWeight f_wholeChildren f_emptyChildren f_partChildren f_orderLength f_witnessKept : Int32} {a_kind a_parent a_leaves a_children a_weight a_order a_value a_witnessCells a_row : Nat → Int32}
variable {V : Nat → Bool} {r : Nat} {E : Nat → Nat → Bool}
/-- the answer of inner, by the kind asked and the node's own -/
def cg_inn (w : Nat) (jn : Bool) (val sz : Nat → Nat) (C : Nat → Bool) : Nat :=
  if w = 5 then (if jn = true then (cg_fold (cg_fpth val sz) (0, 0) C 20).1 else cg_fold (cg_fsum val) 0 C 20)
  else if w = 6 then (if jn = true then cg_fold (cg_fprt val) 0 C 20 else cg_fold (cg_fsum val) 0 C 20)
  else if w = 1 then (if jn = true then cg_fold (cg_fmul val) 1 C 20 - 1 else cg_fold (cg_fsum val) 0 C 20)
  else if w = 2 then (if jn = true then cg_fold (cg_fsum val) 0 C 20 else cg_fold (cg_fmul val) 1 C 20 - 1)
  else if w = 3 then (if jn = true then cg_fold (cg_fmax val) 0 C 20 else cg_fold (cg_fsum val) 0 C 20)
  else (if jn = true then cg_fold (cg_fsum val) 0 C 20 else cg_fold (cg_fmax val) 0 C 20)
theorem xw_inner_15 {post : Int32 → Prop} {x w : Nat} {jn : Bool} {val : Nat → Nat} (hx : x < 20) (hw : w < 7) (hv : ∀ c, c < 20 → bt (a_children x) c = true → a_value c = nI (val c) ∧ val c ≤ 1000)
    (h : post (nI (cg_inn w jn val (fun c => cg_cnt (bt (a_leaves c)) 8) (bt (a_children x))))) : wX_inner_15 post (nI x) (nI w) (cg_b jn) f_vertexCount f_root f_usedNodes f_newWeight f_wholeChildren f_emptyChildren f_partChildren f_orderLength f_witnessKept a_kind a_parent a_leaves a_children a_weight a_order a_value a_witnessCells a_row := by
  have hv1 : ∀ c, c < 20 → bt (a_children x) c = true → a_value c = nI (val c) := fun c a b => (hv c a b).1
  have eq : ∀ {a b : Nat}, a < 7 → b < 7 → ¬ a = b → ¬ nI a = nI b := fun ha hb e z => e ((nI_eq (by omega) (by omega)).mp z)
  unfold wX_inner_15
  unfold cg_inn at h
  by_cases w5 : w = 5
  · rw [if_pos w5] at h
    refine br_t (by rw [w5]; rfl) ?_
    cases jn
    · exact br_t rfl (xw_sumOf hx hv1 h)
    · exact br_f (by decide) (xw_joinedPaths hx hv h)
  rw [if_neg w5] at h
  refine br_f (eq hw (by decide) w5) ?_
  by_cases w6 : w = 6
  · rw [if_pos w6] at h
    refine br_t (by rw [w6]; rfl) ?_
    cases jn
    · exact br_t rfl (xw_sumOf hx hv1 h)
    · exact br_f (by decide) (xw_joinedParts hx hv h)
  rw [if_neg w6] at h
  refine br_f (eq hw (by decide) w6) ?_
  by_cases w1 : w = 1
  · rw [if_pos w1] at h
    refine br_t (by rw [w1]; rfl) ?_
    cases jn
    · exact br_t rfl (xw_sumOf hx hv1 h)
    · exact br_f (by decide) (xw_productOf hx hv1 h)
  rw [if_neg w1] at h
  refine br_f (eq hw (by decide) w1) ?_
  by_cases w2 : w = 2
  · rw [if_pos w2] at h
    refine br_t (by rw [w2]; rfl) ?_
    cases jn
    · exact br_t rfl (xw_productOf hx hv1 h)
    · exact br_f (by decide) (xw_sumOf hx hv1 h)
  rw [if_neg w2] at h
  refine br_f (eq hw (by decide) w2) ?_
  by_cases w3 : w = 3
  · rw [if_pos w3] at h
    refine br_t (by rw [w3]; rfl) ?_
    cases jn
    · exact br_t rfl (xw_sumOf hx hv1 h)
    · exact br_f (by decide) (xw_greatestOf hx hv h)
  rw [if_neg w3] at h
  refine br_f (eq hw (by decide) w3) ?_
  cases jn
  · exact br_t rfl (xw_greatestOf hx hv h)
  · exact br_f (by decide) (xw_sumOf hx hv1 h)
theorem xw_inner {post : Int32 → Prop} {x w : Nat} {val : Nat → Nat} (hx : x < 20) (hw : w < 7) (hv : ∀ c, c < 20 → bt (a_children x) c = true → a_value c = nI (val c) ∧ val c ≤ 1000)
    (h : post (nI (cg_inn w (decide (a_kind x = 2)) val (fun c => cg_cnt (bt (a_leaves c)) 8) (bt (a_children x))))) : wpX_inner post (f_vertexCount, f_root, f_usedNodes, f_newWeight, f_wholeChildren, f_emptyChildren, f_partChildren, f_orderLength, f_witnessKept, a_kind, a_parent, a_leaves, a_children, a_weight, a_order, a_value, a_witnessCells, a_row) (nI x) (nI w) := by
  unfold wpX_inner
  dsimp only
  rw [ib_cl (show x < 256 by omega)]
  refine ⟨ib_in hx (by omega), ?_⟩
  by_cases k : a_kind x = 2
  · rw [decide_eq_true k] at h
    exact br_t k (xw_inner_15 (jn := true) hx hw hv h)
  · rw [decide_eq_false k] at h
    exact br_f k (xw_inner_15 (jn := false) hx hw hv h)
/-- evaluate, given the right value of every used node -/
theorem xw_evaluate {post : Int32 → SX → Prop} {w : Nat} {S : Int32} {val : Nat → Nat} (hw : w < 7) (B : tw_B V (bt f_usedNodes) r a_kind a_parent (fun y => bt (a_leaves y)) E) (hC : tw_C (bt f_usedNodes) a_parent (fun y => bt (a_children y))) (hr : f_root = nI r)
    (hb : ∀ x, bt f_usedNodes x = true → val x ≤ 1000)
    (l0 : ∀ x, bt f_usedNodes x = true → a_kind x = 0 → (∀ v, bt (a_leaves x) v = true → bt S v = false) → val x = 0)
    (l1 : ∀ x v, bt f_usedNodes x = true → a_kind x = 0 → bt (a_leaves x) v = true → bt S v = true → w ≠ 3 → val x = 1)
    (l3 : ∀ x v, bt f_usedNodes x = true → a_kind x = 0 → bt (a_leaves x) v = true → bt S v = true → w = 3 → a_weight v = nI (val x))
    (hi : ∀ x, bt f_usedNodes x = true → a_kind x ≠ 0 → val x = cg_inn w (decide (a_kind x = 2)) val (fun c => cg_cnt (bt (a_leaves c)) 8) (bt (a_children x)))
    (h : ∀ len ord value, post (nI (val r)) (f_vertexCount, f_root, f_usedNodes, f_newWeight, f_wholeChildren, f_emptyChildren, f_partChildren, len, f_witnessKept, a_kind, a_parent, a_leaves, a_children, a_weight, ord, value, a_witnessCells, a_row)) : wpX_evaluate post (f_vertexCount, f_root, f_usedNodes, f_newWeight, f_wholeChildren, f_emptyChildren, f_partChildren, f_orderLength, f_witnessKept, a_kind, a_parent, a_leaves, a_children, a_weight, a_order, a_value, a_witnessCells, a_row) S (nI w) := by
  have ur := tw_rU B
  have lr := tw_lt B ur
  unfold wpX_evaluate
  dsimp only
  refine br_t (by rw [hr]; exact nI_pos' (by omega)) (xw_listNodes B hC hr ?_)
  intro len o ord ho hord
  obtain ⟨o1, o2, o3, o4, o5⟩ := ho
  dsimp only
  have es : nI len - 1 = nI (len - 1) := pk_sub (a := len) (b := 1) (by omega)
  refine nm_r es ⟨len + 1, ?_⟩
  suffices loop : ∀ k, k ≤ len → ∀ (value : Nat → Int32) (x3 : Int32), (x3 = if k = 0 then -1 else nI (k - 1)) → (∀ i, k ≤ i → i < len → value (o i) = nI (val (o i))) → ∀ f, k < f → wX_evaluate_20 post S (nI w) f_vertexCount f_root f_usedNodes f_newWeight f_wholeChildren f_emptyChildren f_partChildren (nI len) f_witnessKept f x3 a_kind a_parent a_leaves a_children a_weight ord value a_witnessCells a_row from
    loop len (Nat.le_refl len) a_value (nI (len - 1)) (by rw [if_neg (by omega)]) (fun i h1 h2 => by omega) (len + 1) (by omega)
  intro k
  induction k with
  | zero =>
    intro _ value x3 ex hval f hf
    obtain ⟨m, rfl⟩ : ∃ m, f = m + 1 := ⟨f - 1, by omega⟩
    rw [if_pos rfl] at ex
    rw [ex]
    refine br_t (by decide) ⟨by rw [hr]; exact ib_in lr (by omega), ?_⟩
    have e : value f_root.toNatClampNeg = nI (val r) := by
      rw [hr, ib_cl (show r < 256 by omega)]
      have := hval 0 (by omega) o1
      rw [o3] at this
      exact this
    rw [e]
    exact h (nI len) ord value
  | succ k ih =>
    intro hk value x3 ex hval f hf
    obtain ⟨m, rfl⟩ : ∃ m, f = m + 1 := ⟨f - 1, by omega⟩
    rw [if_neg (by omega), Nat.add_sub_cancel] at ex
    rw [ex]
    obtain ⟨x, hx⟩ : ∃ x, x = o k := ⟨_, rfl⟩
    have ux := o4 k (by omega)
    rw [← hx] at ux
    have lx := tw_lt B ux
    have ix : vp_in (nI x) 20 := ib_in lx (by omega)
    have em : nI k + (-1) = if k = 0 then -1 else nI (k - 1) := by
      by_cases k0 : k = 0
      · rw [if_pos k0, k0]; rfl
      · rw [if_neg k0]; exact sb_m1 (by omega)
    -- after the write
    have next : wX_evaluate_20 post S (nI w) f_vertexCount f_root f_usedNodes f_newWeight f_wholeChildren f_emptyChildren f_partChildren (nI len) f_witnessKept m (nI k + (-1)) a_kind a_parent a_leaves a_children a_weight ord (upd value x (nI (val x))) a_witnessCells a_row := by
      refine ih (by omega) _ _ em ?_ m (by omega)
      intro i h1 h2
      by_cases e : o i = x
      · rw [e, pk_us]
      · rw [pk_un e]
        refine hval i ?_ h2
        have : i ≠ k := fun z => e (by rw [z]; exact hx.symm)
        omega
    refine br_f (ib_neg (by omega)) ⟨ib_in (show k < 20 by omega) (by omega), nm_e ?_⟩
    rw [ib_cl (show k < 256 by omega), hord k (by omega), ← hx, ib_cl (show x < 256 by omega)]
    refine ⟨ix, ?_⟩
    by_cases kx : a_kind x = 0
    · refine br_t kx ⟨ix, ?_⟩
      obtain ⟨v, hv⟩ := tw_ne B ux
      have sg := (tw_leaf B ux kx hv).2
      have v8 := tw_L8 B ux hv
      by_cases s0 : (a_leaves x &&& S) = 0
      · have nS : bt S v = false := by
          have := ib_zero.mp s0 v
          rw [b_and, show bt (a_leaves x) v = true from hv, Bool.true_and] at this
          exact this
        have := l0 x ux kx (fun u hu => by rw [(sg u).mp hu]; exact nS)
        rw [this] at next
        exact br_t s0 ⟨ix, nm_e (nm_e next)⟩
      · have inS : bt S v = true := by
          refine cg_bT fun z => s0 (ib_zero.mpr fun j => ?_)
          rw [b_and]
          cases q : bt (a_leaves x) j
          · rfl
          · rw [(sg j).mp q, z]; rfl
        refine br_f s0 ?_
        by_cases w3 : w = 3
        · have ew := l3 x v ux kx hv inS w3
          refine br_t (by rw [w3]; rfl) ⟨ix, xw_lowestBit (show v < 31 by omega) hv (fun j hj => cg_bF fun z => ?_) ⟨ib_in v8 (by omega), ix, ?_⟩⟩
          · have := (sg j).mp z
            omega
          · rw [ib_cl (show v < 256 by omega), ew]
            exact nm_e (nm_e next)
        · have := l1 x v ux kx hv inS w3
          rw [this] at next
          exact br_f (fun z => w3 ((nI_eq (b := 3) (by omega) (by decide)).mp z)) ⟨ix, nm_e (nm_e next)⟩
    · refine br_f kx (xw_inner (val := val) lx hw ?_ ?_)
      · intro c c20 hc
        obtain ⟨uc, pc⟩ := (hC x ux c).mp hc
        refine ⟨?_, hb c uc⟩
        obtain ⟨j, j1, j2, j3⟩ := o5 k (by omega) c uc (by rw [← hx]; exact pc)
        rw [← j3]
        exact hval j (by omega) j2
      · rw [← hi x ux kx]
        exact ⟨ix, nm_e (nm_e next)⟩
end
end
section
/-! ===== what the folds compute ===== -/
def cg_pre (C : Nat → Bool) (L : Nat → Nat → Bool) : Nat → Nat → Bool
  | 0, _ => false
  | k + 1, v => cg_pre C L k v || (C k && L k v)
theorem cg_pre_iff {C : Nat → Bool} {L : Nat → Nat → Bool} : ∀ k v, cg_pre C L k v = true ↔ ∃ c, c < k ∧ C c = true ∧ L c v = true
  | 0, v => ⟨fun z => absurd z (by show ¬ false = true; decide), fun ⟨c, h, _⟩ => (Nat.not_lt_zero c h).elim⟩
  | k + 1, v => by
    show (cg_pre C L k v || (C k && L k v)) = true ↔ _
    rw [Bool.or_eq_true, Bool.and_eq_true, cg_pre_iff k v]
    constructor
    · rintro (⟨c, a, b⟩ | z)
      · exact ⟨c, by omega, b⟩
      · exact ⟨k, by omega, z⟩
    · rintro ⟨c, a, b⟩
      by_cases e : c = k
      · subst e; exact Or.inr b
      · exact Or.inl ⟨c, by omega, b⟩
section
variable {V U : Nat → Bool} {r : Nat} {K P : Nat → Int32} {L E C : Nat → Nat → Bool}
theorem cg_foldG {α : Type} (B : tw_B V U r K P L E) (hC : tw_C U P C) {x : Nat} (hx : U x = true) (kx : K x ≠ 0) (S : Nat → Bool) (F : (Nat → Bool) → α) (f : α → Nat → α) (i : α) (F0 : F (fun _ => false) = i)
    (Fs : ∀ k A, U k = true → (∀ v, A v = true → v < 8) → (∀ u v, A u = true → (S v && L k v) = true → u ≠ v ∧ E u v = decide (K x = 2) ∧ E v u = decide (K x = 2)) → F (fun v => A v || (S v && L k v)) = f (F A) k) :
    cg_fold f i (C x) 20 = F (fun v => S v && L x v) := by
  have key : ∀ k, k ≤ 20 → cg_fold f i (C x) k = F (fun v => S v && cg_pre (C x) L k v) := by
    intro k
    induction k with
    | zero =>
      intro _
      show i = _
      rw [← F0]
      congr 1
      funext v
      show false = (S v && false)
      simp
    | succ k ih =>
      intro hk
      by_cases c : C x k = true
      · rw [cg_fold_t c, ih (by omega)]
        obtain ⟨uk, pk⟩ := (hC x hx k).mp c
        rw [← Fs k (fun v => S v && cg_pre (C x) L k v) uk]
        · congr 1
          funext v
          show ((S v && cg_pre (C x) L k v) || (S v && L k v)) = (S v && (cg_pre (C x) L k v || (C x k && L k v)))
          rw [c]
          cases S v <;> cases cg_pre (C x) L k v <;> cases L k v <;> rfl
        · intro v hv
          simp only [Bool.and_eq_true] at hv
          obtain ⟨d, _, cd, ld⟩ := (cg_pre_iff k v).mp hv.2
          exact tw_L8 B ((hC x hx d).mp cd).1 ld
        · intro u v hu hv
          simp only [Bool.and_eq_true] at hu hv
          obtain ⟨d, dk, cd, ld⟩ := (cg_pre_iff k u).mp hu.2
          obtain ⟨ud, pd⟩ := (hC x hx d).mp cd
          have ne : d ≠ k := by omega
          refine ⟨?_, tw_adj B ud uk ne hx pd pk ld hv.2, tw_adj B uk ud (Ne.symm ne) hx pk pd hv.2 ld⟩
          intro e
          subst e
          exact ne (tw_dis B ud uk hx pd pk ld hv.2)
      · rw [cg_fold_f c, ih (by omega)]
        congr 1
        funext v
        show (S v && cg_pre (C x) L k v) = (S v && (cg_pre (C x) L k v || (C x k && L k v)))
        rw [cg_bF c]
        simp
  rw [key 20 (Nat.le_refl 20)]
  congr 1
  funext v
  have : cg_pre (C x) L 20 v = L x v := by
    cases q : L x v
    · refine cg_bF fun z => ?_
      obtain ⟨c, _, cc, lc⟩ := (cg_pre_iff 20 v).mp z
      obtain ⟨uc, pc⟩ := (hC x hx c).mp cc
      rw [tw_sub B uc hx pc lc] at q
      exact absurd q (by decide)
    · obtain ⟨_, cov, _⟩ := tw_inn B hx kx
      obtain ⟨c, uc, pc, lc⟩ := cov v q
      exact (cg_pre_iff 20 v).mpr ⟨c, tw_lt B uc, (hC x hx c).mpr ⟨uc, pc⟩, lc⟩
  show (S v && cg_pre (C x) L 20 v) = _
  rw [this]
end
/-! ===== the uniform sets of A: how many, how heavy ===== -/
/-- the members of p in A -/
def cg_cap (p : Nat) (A : Nat → Bool) : Nat := cg_msk (fun i => p.testBit i && A i) 8
theorem cg_cap_tb (p : Nat) (A : Nat → Bool) (i : Nat) : (cg_cap p A).testBit i = (decide (i < 8) && (p.testBit i && A i)) := (cg_msk_spec _ 8).2 i
theorem cg_cap_lt (p : Nat) (A : Nat → Bool) : cg_cap p A < 256 := (cg_msk_spec _ 8).1
theorem cg_cap_iff {p : Nat} {A : Nat → Bool} {i : Nat} : (cg_cap p A).testBit i = true ↔ i < 8 ∧ p.testBit i = true ∧ A i = true := by
  rw [cg_cap_tb]; simp
noncomputable def cg_Q (E : Nat → Nat → Bool) (w : Bool) (A : Nat → Bool) (p : Nat) : Bool := cg_in p A && cg_uni E w p
theorem cg_Q_iff {E : Nat → Nat → Bool} {w : Bool} {A : Nat → Bool} {p : Nat} : cg_Q E w A p = true ↔ (∀ i, i < 8 → p.testBit i = true → A i = true) ∧ ∀ u, u < 8 → ∀ v, v < 8 → u ≠ v → p.testBit u = true → p.testBit v = true → E u v = w := by
  unfold cg_Q
  rw [Bool.and_eq_true, cg_in_iff, cg_uni_iff]
theorem cg_Q_0 (E : Nat → Nat → Bool) (w : Bool) (A : Nat → Bool) : cg_Q E w A 0 = true := cg_Q_iff.mpr ⟨fun i _ h => by rw [Nat.zero_testBit] at h; exact absurd h (by decide), fun u _ v _ _ h => by rw [Nat.zero_testBit] at h; exact absurd h (by decide)⟩
noncomputable def cg_N (E : Nat → Nat → Bool) (w : Bool) (A : Nat → Bool) : Nat := cg_cnt (cg_Q E w A) 256
theorem cg_p8 {p i : Nat} (hp : p < 256) (h : p.testBit i = true) : i < 8 := cg_pbit (n := 8) hp h
theorem cg_p0 {p : Nat} (h : ∀ i, p.testBit i = false) : p = 0 := Nat.eq_of_testBit_eq fun i => by rw [Nat.zero_testBit]; exact h i
/-- A and B are linked, throughout, as b says -/
def cg_sep (E : Nat → Nat → Bool) (b : Bool) (A B : Nat → Bool) : Prop := ∀ u v, A u = true → B v = true → u ≠ v ∧ E u v = b ∧ E v u = b
section
variable {E : Nat → Nat → Bool} {w : Bool} {A B : Nat → Bool}
theorem cg_N_pos : 1 ≤ cg_N E w A := cg_cnt_pos (j := 0) (by decide) (cg_Q_0 E w A)
theorem cg_N_0 : cg_N E w (fun _ => false) = 1 := by
  unfold cg_N
  rw [← cg_cnt_one 256 0 (by decide)]
  apply cg_cnt_congr
  intro p hp
  cases q : cg_Q E w (fun _ => false) p
  · symm
    refine decide_eq_false fun z => ?_
    rw [z, cg_Q_0] at q
    exact absurd q (by decide)
  · symm
    refine decide_eq_true (cg_p0 fun i => cg_bF fun z => ?_)
    exact absurd ((cg_Q_iff.mp q).1 i (cg_p8 hp z) z) (by decide)
theorem cg_Q_cap {p : Nat} (h : cg_Q E w (fun v => A v || B v) p = true) : cg_Q E w A (cg_cap p A) = true ∧ cg_Q E w B (cg_cap p B) = true := by
  obtain ⟨h1, h2⟩ := cg_Q_iff.mp h
  refine ⟨cg_Q_iff.mpr ⟨fun i _ hi => (cg_cap_iff.mp hi).2.2, fun u hu v hv e a b => h2 u hu v hv e (cg_cap_iff.mp a).2.1 (cg_cap_iff.mp b).2.1⟩, cg_Q_iff.mpr ⟨fun i _ hi => (cg_cap_iff.mp hi).2.2, fun u hu v hv e a b => h2 u hu v hv e (cg_cap_iff.mp a).2.1 (cg_cap_iff.mp b).2.1⟩⟩
theorem cg_Q_or {p q : Nat} (hs : cg_sep E w A B) (hp : cg_Q E w A p = true) (hq : cg_Q E w B q = true) : cg_Q E w (fun v => A v || B v) (p ||| q) = true := by
  obtain ⟨p1, p2⟩ := cg_Q_iff.mp hp
  obtain ⟨q1, q2⟩ := cg_Q_iff.mp hq
  refine cg_Q_iff.mpr ⟨?_, ?_⟩
  · intro i hi h
    rw [Nat.testBit_or, Bool.or_eq_true] at h
    show (A i || B i) = true
    rcases h with z | z
    · rw [p1 i hi z]; rfl
    · rw [q1 i hi z]; simp
  · intro u hu v hv e a b
    rw [Nat.testBit_or, Bool.or_eq_true] at a b
    rcases a with a | a <;> rcases b with b | b
    · exact p2 u hu v hv e a b
    · exact (hs u v (p1 u hu a) (q1 v hv b)).2.1
    · exact (hs v u (p1 v hv b) (q1 u hu a)).2.2
    · exact q2 u hu v hv e a b
theorem cg_or_256 {p q : Nat} (hp : p < 256) (hq : q < 256) : p ||| q < 256 := Nat.or_lt_two_pow (n := 8) hp hq
theorem cg_cnt_prod (P Q : Nat → Bool) {b : Nat} (hb : 0 < b) : ∀ a, cg_cnt (fun z => P (z / b) && Q (z % b)) (a * b) = cg_cnt P a * cg_cnt Q b
  | 0 => by rw [Nat.zero_mul]; show 0 = 0 * _; rw [Nat.zero_mul]
  | a + 1 => by
    have ih := cg_cnt_prod P Q hb a
    rw [Nat.succ_mul, cg_cnt_add, ih]
    have e : cg_cnt (fun i => P ((a * b + i) / b) && Q ((a * b + i) % b)) b = cg_cnt (fun i => P a && Q i) b := by
      apply cg_cnt_congr
      intro i hi
      have e1 : (a * b + i) / b = a := by
        rw [Nat.add_comm, Nat.add_mul_div_right _ _ hb, Nat.div_eq_of_lt hi]; omega
      have e2 : (a * b + i) % b = i := by
        rw [Nat.add_comm, Nat.add_mul_mod_self_right, Nat.mod_eq_of_lt hi]
      rw [e1, e2]
    have e' : cg_cnt P (a + 1) = cg_cnt P a + (if P a = true then 1 else 0) := rfl
    rw [e, e', Nat.add_mul]
    congr 1
    by_cases z : P a = true
    · rw [if_pos z, Nat.one_mul]
      exact cg_cnt_congr b (fun i _ => by rw [z]; rfl)
    · rw [if_neg z, Nat.zero_mul]
      exact cg_cnt_zero b (fun i _ => by rw [cg_bF z]; rfl)
theorem cg_N_mul (hs : cg_sep E w A B) : cg_N E w (fun v => A v || B v) = cg_N E w A * cg_N E w B := by
  unfold cg_N
  rw [← cg_cnt_prod (cg_Q E w A) (cg_Q E w B) (b := 256) (by decide) 256]
  have dis : ∀ i, A i = true → B i = true → False := fun i a b => (hs i i a b).1 rfl
  apply Nat.le_antisymm
  · refine cg_cnt_inj (fun p => cg_cap p A * 256 + cg_cap p B) 256 _ (fun p hp hq => ?_) (fun p q hp hq h1 h2 e => ?_)
    · have a1 := cg_cap_lt p A
      have a2 := cg_cap_lt p B
      obtain ⟨b1, b2⟩ := cg_Q_cap hq
      have d1 : (cg_cap p A * 256 + cg_cap p B) / 256 = cg_cap p A := by omega
      have d2 : (cg_cap p A * 256 + cg_cap p B) % 256 = cg_cap p B := by omega
      refine ⟨?_, ?_⟩
      · show cg_cap p A * 256 + cg_cap p B < 256 * 256
        omega
      · show (cg_Q E w A ((cg_cap p A * 256 + cg_cap p B) / 256) && cg_Q E w B ((cg_cap p A * 256 + cg_cap p B) % 256)) = true
        rw [d1, d2, b1, b2]; rfl
    · have e' : cg_cap p A * 256 + cg_cap p B = cg_cap q A * 256 + cg_cap q B := e
      have a1 := cg_cap_lt p A
      have a2 := cg_cap_lt p B
      have a3 := cg_cap_lt q A
      have a4 := cg_cap_lt q B
      have c1 : cg_cap p A = cg_cap q A := by omega
      have c2 : cg_cap p B = cg_cap q B := by omega
      have half : ∀ p q, p < 256 → cg_Q E w (fun v => A v || B v) p = true → cg_cap p A = cg_cap q A → cg_cap p B = cg_cap q B → ∀ i, p.testBit i = true → q.testBit i = true := by
        intro p q hp h1 c1 c2 i hi
        have i8 := cg_p8 hp hi
        have := (cg_Q_iff.mp h1).1 i i8 hi
        have this : (A i || B i) = true := this
        rw [Bool.or_eq_true] at this
        rcases this with z | z
        · have h3 : (cg_cap p A).testBit i = true := cg_cap_iff.mpr ⟨i8, hi, z⟩
          rw [c1] at h3
          exact (cg_cap_iff.mp h3).2.1
        · have h3 : (cg_cap p B).testBit i = true := cg_cap_iff.mpr ⟨i8, hi, z⟩
          rw [c2] at h3
          exact (cg_cap_iff.mp h3).2.1
      refine Nat.eq_of_testBit_eq fun i => ?_
      cases z : q.testBit i
      · exact cg_bF fun y => by rw [half p q hp h1 c1 c2 i y] at z; exact absurd z (by decide)
      · exact half q p hq h2 c1.symm c2.symm i z
  · refine cg_cnt_inj (fun z => (z / 256) ||| (z % 256)) (256 * 256) _ (fun z hz hq => ?_) (fun z y hz hy h1 h2 e => ?_)
    · have hq : (cg_Q E w A (z / 256) && cg_Q E w B (z % 256)) = true := hq
      rw [Bool.and_eq_true] at hq
      exact ⟨cg_or_256 (by omega) (by omega), cg_Q_or hs hq.1 hq.2⟩
    · have h1 : (cg_Q E w A (z / 256) && cg_Q E w B (z % 256)) = true := h1
      have h2 : (cg_Q E w A (y / 256) && cg_Q E w B (y % 256)) = true := h2
      rw [Bool.and_eq_true] at h1 h2
      have e : (z / 256) ||| (z % 256) = (y / 256) ||| (y % 256) := e
      have half : ∀ p q p' q' : Nat, p < 256 → q < 256 → p' < 256 → q' < 256 → cg_Q E w A p = true → cg_Q E w B q = true → cg_Q E w A p' = true → cg_Q E w B q' = true → p ||| q = p' ||| q' → (∀ i, p.testBit i = true → p'.testBit i = true) ∧ (∀ i, q.testBit i = true → q'.testBit i = true) := by
        intro p q p' q' hp hq hp' hq' a1 a2 a3 a4 e
        have m : ∀ i, (p.testBit i || q.testBit i) = (p'.testBit i || q'.testBit i) := fun i => by rw [← Nat.testBit_or, ← Nat.testBit_or, e]
        refine ⟨fun i hi => ?_, fun i hi => ?_⟩
        · have := m i
          rw [hi, Bool.true_or] at this
          have t := this.symm
          rw [Bool.or_eq_true] at t
          rcases t with t | t
          · exact t
          · exact (dis i ((cg_Q_iff.mp a1).1 i (cg_p8 hp hi) hi) ((cg_Q_iff.mp a4).1 i (cg_p8 hp hi) t)).elim
        · have := m i
          rw [hi, Bool.or_true] at this
          have t := this.symm
          rw [Bool.or_eq_true] at t
          rcases t with t | t
          · exact (dis i ((cg_Q_iff.mp a3).1 i (cg_p8 hq hi) t) ((cg_Q_iff.mp a2).1 i (cg_p8 hq hi) hi)).elim
          · exact t
      have f1 := half (z / 256) (z % 256) (y / 256) (y % 256) (by omega) (by omega) (by omega) (by omega) h1.1 h1.2 h2.1 h2.2 e
      have f2 := half (y / 256) (y % 256) (z / 256) (z % 256) (by omega) (by omega) (by omega) (by omega) h2.1 h2.2 h1.1 h1.2 e.symm
      have g1 : z / 256 = y / 256 := Nat.eq_of_testBit_eq fun i => by
        cases t : (y / 256).testBit i
        · exact cg_bF fun s => by rw [f1.1 i s] at t; exact absurd t (by decide)
        · exact f2.1 i t
      have g2 : z % 256 = y % 256 := Nat.eq_of_testBit_eq fun i => by
        cases t : (y % 256).testBit i
        · exact cg_bF fun s => by rw [f1.2 i s] at t; exact absurd t (by decide)
        · exact f2.2 i t
      omega
/-- across A and B nothing is uniform -/
theorem cg_Q_split (hs : cg_sep E (!w) A B) {p : Nat} (hp : p < 256) (h : cg_Q E w (fun v => A v || B v) p = true) : cg_Q E w A p = true ∨ cg_Q E w B p = true := by
  obtain ⟨h1, h2⟩ := cg_Q_iff.mp h
  by_cases z : ∀ i, i < 8 → p.testBit i = true → A i = true
  · exact Or.inl (cg_Q_iff.mpr ⟨z, h2⟩)
  · refine Or.inr (cg_Q_iff.mpr ⟨?_, h2⟩)
    intro i hi bi
    have ai := h1 i hi bi
    have ai : (A i || B i) = true := ai
    rw [Bool.or_eq_true] at ai
    rcases ai with a | b
    · refine (z fun j hj bj => ?_).elim
      have aj : (A j || B j) = true := h1 j hj bj
      rw [Bool.or_eq_true] at aj
      rcases aj with t | t
      · exact t
      · have s := hs i j a t
        have := h2 i hi j hj s.1 bi bj
        rw [s.2.1] at this
        revert this; cases w <;> simp
    · exact b
theorem cg_Q_mono {A' : Nat → Bool} (ha : ∀ i, A i = true → A' i = true) {p : Nat} (h : cg_Q E w A p = true) : cg_Q E w A' p = true := by
  obtain ⟨h1, h2⟩ := cg_Q_iff.mp h
  exact cg_Q_iff.mpr ⟨fun i hi bi => ha i (h1 i hi bi), h2⟩
theorem cg_N_add (hs : cg_sep E (!w) A B) : cg_N E w (fun v => A v || B v) + 1 = cg_N E w A + cg_N E w B := by
  unfold cg_N
  rw [← cg_cnt_ie (A := cg_Q E w A) (B := cg_Q E w B) 256]
  congr 1
  · apply cg_cnt_congr
    intro p hp
    cases z : cg_Q E w (fun v => A v || B v) p
    · symm
      refine cg_bF fun t => ?_
      rw [Bool.or_eq_true] at t
      rcases t with t | t
      · rw [cg_Q_mono (fun i hi => by show (A i || B i) = true; rw [hi]; rfl) t] at z; exact absurd z (by decide)
      · rw [cg_Q_mono (fun i hi => by show (A i || B i) = true; rw [hi]; simp) t] at z; exact absurd z (by decide)
    · symm
      rw [Bool.or_eq_true]
      exact cg_Q_split hs hp z
  · rw [← cg_cnt_one 256 0 (by decide)]
    apply cg_cnt_congr
    intro p hp
    by_cases e : p = 0
    · rw [e, cg_Q_0, cg_Q_0]; rfl
    · rw [decide_eq_false e]
      symm
      refine cg_bF fun t => e (cg_p0 fun i => cg_bF fun bi => ?_)
      rw [Bool.and_eq_true] at t
      have i8 := cg_p8 hp bi
      exact (hs i i ((cg_Q_iff.mp t.1).1 i i8 bi) ((cg_Q_iff.mp t.2).1 i i8 bi)).1 rfl
end
end
section
def cg_mx (f : Nat → Nat) : Nat → Nat
  | 0 => 0
  | k + 1 => if f k ≤ cg_mx f k then cg_mx f k else f k
theorem cg_mx_ge (f : Nat → Nat) : ∀ k j, j < k → f j ≤ cg_mx f k
  | 0, j, h => absurd h (Nat.not_lt_zero j)
  | k + 1, j, h => by
    show f j ≤ if f k ≤ cg_mx f k then cg_mx f k else f k
    by_cases e : j = k
    · subst e; split <;> omega
    · have := cg_mx_ge f k j (by omega)
      split <;> omega
theorem cg_mx_att (f : Nat → Nat) : ∀ k, cg_mx f k = 0 ∨ ∃ j, j < k ∧ cg_mx f k = f j
  | 0 => Or.inl rfl
  | k + 1 => by
    show (if f k ≤ cg_mx f k then cg_mx f k else f k) = 0 ∨ ∃ j, j < k + 1 ∧ (if f k ≤ cg_mx f k then cg_mx f k else f k) = f j
    split
    · rcases cg_mx_att f k with z | ⟨j, hj, e⟩
      · exact Or.inl z
      · exact Or.inr ⟨j, by omega, e⟩
    · exact Or.inr ⟨k, by omega, rfl⟩
def cg_ws (wt : Nat → Nat) (p : Nat) : Nat := cg_sm (fun v => if p.testBit v = true then wt v else 0) 8
theorem cg_cnt_sm (A : Nat → Bool) : ∀ k, cg_cnt A k = cg_sm (fun v => if A v = true then 1 else 0) k
  | 0 => rfl
  | k + 1 => by
    show cg_cnt A k + _ = cg_sm _ k + _
    rw [cg_cnt_sm A k]
theorem cg_sm_add (f g : Nat → Nat) : ∀ k, cg_sm (fun i => f i + g i) k = cg_sm f k + cg_sm g k
  | 0 => rfl
  | k + 1 => by
    have := cg_sm_add f g k
    show cg_sm (fun i => f i + g i) k + (f k + g k) = cg_sm f k + f k + (cg_sm g k + g k)
    omega
theorem cg_sm_zero {f : Nat → Nat} : ∀ k, (∀ i, i < k → f i = 0) → cg_sm f k = 0
  | 0, _ => rfl
  | k + 1, h => by
    show cg_sm f k + f k = 0
    rw [cg_sm_zero k (fun i hi => h i (by omega)), h k (by omega)]
theorem cg_ws_0 (wt : Nat → Nat) : cg_ws wt 0 = 0 := cg_sm_zero 8 (fun i _ => by rw [Nat.zero_testBit, if_neg (by decide)])
theorem cg_ws_le {wt : Nat → Nat} {c : Nat} (h : ∀ v, wt v ≤ c) (p : Nat) : cg_ws wt p ≤ c * 8 := cg_sm_le 8 (fun i _ => by split; exact h i; omega)
theorem cg_ws_or {wt : Nat → Nat} {p q : Nat} (h : ∀ i, p.testBit i = true → q.testBit i = true → False) : cg_ws wt (p ||| q) = cg_ws wt p + cg_ws wt q := by
  unfold cg_ws
  rw [← cg_sm_add]
  apply cg_sm_congr
  intro i _
  rw [Nat.testBit_or]
  cases a : p.testBit i <;> cases b : q.testBit i <;> simp
  exact (h i a b).elim
theorem cg_ws_cap {wt : Nat → Nat} {p : Nat} {A B : Nat → Bool} (hp : ∀ i, i < 8 → p.testBit i = true → (A i || B i) = true) (dis : ∀ i, A i = true → B i = true → False) : cg_ws wt p = cg_ws wt (cg_cap p A) + cg_ws wt (cg_cap p B) := by
  unfold cg_ws
  rw [← cg_sm_add]
  apply cg_sm_congr
  intro i hi
  rw [cg_cap_tb, cg_cap_tb, decide_eq_true hi]
  cases c : p.testBit i
  · simp
  · have := hp i hi c
    cases a : A i <;> cases b : B i <;> simp
    · rw [a, b] at this; exact absurd this (by decide)
    · exact (dis i a b).elim
noncomputable def cg_M (E : Nat → Nat → Bool) (w : Bool) (wt : Nat → Nat) (A : Nat → Bool) : Nat := cg_mx (fun p => if cg_Q E w A p = true then cg_ws wt p else 0) 256
section
variable {E : Nat → Nat → Bool} {w : Bool} {wt : Nat → Nat} {A B : Nat → Bool}
theorem cg_M_ge {p : Nat} (hp : p < 256) (h : cg_Q E w A p = true) : cg_ws wt p ≤ cg_M E w wt A := by
  have := cg_mx_ge (fun p => if cg_Q E w A p = true then cg_ws wt p else 0) 256 p hp
  rw [if_pos h] at this
  exact this
theorem cg_M_att : ∃ p, p < 256 ∧ cg_Q E w A p = true ∧ cg_M E w wt A = cg_ws wt p := by
  rcases cg_mx_att (fun p => if cg_Q E w A p = true then cg_ws wt p else 0) 256 with z | ⟨j, hj, e⟩
  · exact ⟨0, by decide, cg_Q_0 E w A, by rw [cg_ws_0]; exact z⟩
  · by_cases q : cg_Q E w A j = true
    · exact ⟨j, hj, q, e.trans (if_pos q)⟩
    · exact ⟨0, by decide, cg_Q_0 E w A, by rw [cg_ws_0]; exact e.trans (if_neg q)⟩
theorem cg_M_le {c : Nat} (h : ∀ v, wt v ≤ c) : cg_M E w wt A ≤ c * 8 := by
  obtain ⟨p, _, _, e⟩ := cg_M_att (E := E) (w := w) (wt := wt) (A := A)
  rw [e]; exact cg_ws_le h p
theorem cg_M_0 : cg_M E w wt (fun _ => false) = 0 := by
  obtain ⟨p, hp, hq, e⟩ := cg_M_att (E := E) (w := w) (wt := wt) (A := fun _ => false)
  have : p = 0 := cg_p0 fun i => cg_bF fun z => absurd ((cg_Q_iff.mp hq).1 i (cg_p8 hp z) z) (by decide)
  rw [e, this, cg_ws_0]
theorem cg_M_add (hs : cg_sep E w A B) : cg_M E w wt (fun v => A v || B v) = cg_M E w wt A + cg_M E w wt B := by
  have dis : ∀ i, A i = true → B i = true → False := fun i a b => (hs i i a b).1 rfl
  apply Nat.le_antisymm
  · obtain ⟨p, hp, hq, e⟩ := cg_M_att (E := E) (w := w) (wt := wt) (A := fun v => A v || B v)
    obtain ⟨b1, b2⟩ := cg_Q_cap hq
    have g1 := cg_M_ge (wt := wt) (cg_cap_lt p A) b1
    have g2 := cg_M_ge (wt := wt) (cg_cap_lt p B) b2
    have := cg_ws_cap (wt := wt) (cg_Q_iff.mp hq).1 dis
    omega
  · obtain ⟨p, hp, hq, e⟩ := cg_M_att (E := E) (w := w) (wt := wt) (A := A)
    obtain ⟨q, hp', hq', e'⟩ := cg_M_att (E := E) (w := w) (wt := wt) (A := B)
    have g := cg_M_ge (wt := wt) (cg_or_256 hp hp') (cg_Q_or hs hq hq')
    rw [cg_ws_or (fun i a b => dis i ((cg_Q_iff.mp hq).1 i (cg_p8 hp a) a) ((cg_Q_iff.mp hq').1 i (cg_p8 hp' b) b))] at g
    omega
theorem cg_M_max (hs : cg_sep E (!w) A B) : cg_M E w wt (fun v => A v || B v) = if cg_M E w wt B ≤ cg_M E w wt A then cg_M E w wt A else cg_M E w wt B := by
  have up : cg_M E w wt (fun v => A v || B v) ≤ cg_M E w wt A ∨ cg_M E w wt (fun v => A v || B v) ≤ cg_M E w wt B := by
    obtain ⟨p, hp, hq, e⟩ := cg_M_att (E := E) (w := w) (wt := wt) (A := fun v => A v || B v)
    rw [e]
    exact (cg_Q_split hs hp hq).imp (cg_M_ge hp) (cg_M_ge hp)
  have lo1 : cg_M E w wt A ≤ cg_M E w wt (fun v => A v || B v) := by
    obtain ⟨p, hp, hq, e⟩ := cg_M_att (E := E) (w := w) (wt := wt) (A := A)
    rw [e]
    exact cg_M_ge hp (cg_Q_mono (fun i hi => by show (A i || B i) = true; rw [hi]; rfl) hq)
  have lo2 : cg_M E w wt B ≤ cg_M E w wt (fun v => A v || B v) := by
    obtain ⟨p, hp, hq, e⟩ := cg_M_att (E := E) (w := w) (wt := wt) (A := B)
    rw [e]
    exact cg_M_ge hp (cg_Q_mono (fun i hi => by show (A i || B i) = true; rw [hi]; simp) hq)
  split <;> omega
/-- one vertex -/
theorem cg_Q_one {v p : Nat} (v8 : v < 8) (hp : p < 256) (hA : ∀ i, A i = true ↔ i = v) : cg_Q E w A p = true ↔ p = 0 ∨ p = 2 ^ v := by
  rw [cg_Q_iff]
  constructor
  · rintro ⟨h1, _⟩
    have key : ∀ i, p.testBit i = true → i = v := fun i hi => (hA i).mp (h1 i (cg_p8 hp hi) hi)
    by_cases z : p.testBit v = true
    · refine Or.inr (Nat.eq_of_testBit_eq fun i => ?_)
      rw [Nat.testBit_two_pow]
      by_cases e : i = v
      · subst e; rw [z]; simp
      · rw [decide_eq_false (fun q => e q.symm)]
        exact cg_bF fun q => e (key i q)
    · refine Or.inl (cg_p0 fun i => cg_bF fun q => z ?_)
      rw [← key i q]; exact q
  · rintro (e | e)
    · subst e
      exact cg_Q_iff.mp (cg_Q_0 E w A)
    · subst e
      have key : ∀ i, (2 ^ v).testBit i = true → i = v := fun i hi => by rw [Nat.testBit_two_pow] at hi; exact (of_decide_eq_true hi).symm
      refine ⟨fun i _ hi => (hA i).mpr (key i hi), fun a _ b _ ne ha hb => ?_⟩
      exact (ne ((key a ha).trans (key b hb).symm)).elim
theorem cg_pow8 {v : Nat} (v8 : v < 8) : 2 ^ v < 256 := by
  have : 2 ^ v ≤ 2 ^ 7 := Nat.pow_le_pow_right (by decide) (by omega)
  omega
theorem cg_N_one {v : Nat} (v8 : v < 8) (hA : ∀ i, A i = true ↔ i = v) : cg_N E w A = 2 := by
  unfold cg_N
  have p0 : 0 < 2 ^ v := Nat.pow_pos (by decide)
  have e : cg_cnt (cg_Q E w A) 256 = cg_cnt (fun p => decide (p = 0) || decide (p = 2 ^ v)) 256 := by
    apply cg_cnt_congr
    intro p hp
    have := cg_Q_one (E := E) (w := w) v8 hp hA
    cases z : cg_Q E w A p
    · symm
      refine cg_bF fun t => ?_
      have : cg_Q E w A p = true := this.mpr (by simpa using t)
      rw [z] at this; exact absurd this (by decide)
    · have := this.mp z
      rcases this with q | q <;> simp [q]
  rw [e, cg_cnt_or 256 (fun i _ a b => by simp at a b; omega), cg_cnt_one 256 0 (by decide), cg_cnt_one 256 (2 ^ v) (cg_pow8 v8)]
theorem cg_ws_pow (wt : Nat → Nat) {v : Nat} (v8 : v < 8) : cg_ws wt (2 ^ v) = wt v := by
  unfold cg_ws
  have gen : ∀ k, cg_sm (fun u => if (2 ^ v).testBit u = true then wt u else 0) k = if v < k then wt v else 0 := by
    intro k
    induction k with
    | zero => rw [if_neg (Nat.not_lt_zero v)]; rfl
    | succ k ih =>
      show cg_sm _ k + (if (2 ^ v).testBit k = true then wt k else 0) = _
      rw [ih, Nat.testBit_two_pow]
      by_cases e : v = k
      · subst e
        rw [if_neg (show ¬ v < v by omega), if_pos (show decide (v = v) = true by simp), if_pos (show v < v + 1 by omega)]; omega
      · rw [if_neg (show ¬ decide (v = k) = true by simp [e])]
        by_cases z : v < k
        · rw [if_pos z, if_pos (by omega)]; omega
        · rw [if_neg z, if_neg (by omega)]
  rw [gen 8, if_pos v8]
theorem cg_M_one {v : Nat} (v8 : v < 8) (hA : ∀ i, A i = true ↔ i = v) : cg_M E w wt A = wt v := by
  apply Nat.le_antisymm
  · obtain ⟨p, hp, hq, e⟩ := cg_M_att (E := E) (w := w) (wt := wt) (A := A)
    rw [e]
    rcases (cg_Q_one v8 hp hA).mp hq with z | z
    · rw [z, cg_ws_0]; omega
    · rw [z, cg_ws_pow wt v8]; omega
  · have := cg_M_ge (E := E) (w := w) (wt := wt) (A := A) (cg_pow8 v8) ((cg_Q_one v8 (cg_pow8 v8) hA).mpr (Or.inr rfl))
    rw [cg_ws_pow wt v8] at this
    exact this
end
end
section
/-! ===== the four counts ===== -/
section
variable {f_fresh f_n f_hasWitness : Int32} {a_row a_weight a_witness a_label a_order a_module a_least : Nat → Int32}
theorem cg_withinS {p q : Nat} (hp : p < 256) (hq : q < 256) : cg_in p (bt (nI q)) = cg_in p q.testBit := by
  unfold cg_in
  congr 1
  apply propext
  constructor
  · intro h i hi bi
    have := h i hi bi
    rw [ib_nI' (by omega)] at this
    exact this
  · intro h i hi bi
    rw [ib_nI' (by omega)]
    exact h i hi bi
/-- a part of the set has its bits below n -/
theorem cg_part {n p q : Nat} (hp : p < 256) (hq : q < 2 ^ n) (h : cg_in p q.testBit = true) : p < 2 ^ n :=
  cg_lt256 fun j hj => cg_pbit hq (cg_in_iff.mp h j (cg_p8 hp hj) hj)
/-- a loop over the parts of the set: at part j, what a uniform part does, and what any other does -/
theorem yw_part {n j q : Nat} {w : Bool} (n8 : n ≤ 8) (hn : f_n = nI n) (hq : q < 2 ^ n) (hj : j < 256) (j0 : j ≠ 0) (G : Int32 → Prop) (A0 A1 : Prop)
    (hG : ∀ r, G r = ((r = 0 → A0) ∧ (¬ r = 0 → wpY_uniform (fun r => (r = 0 → A0) ∧ (¬ r = 0 → A1)) (f_fresh, f_n, f_hasWitness, a_row, a_weight, a_witness, a_label, a_order, a_module, a_least) (nI j) (cg_b w))))
    (h1 : cg_Q (cg_E a_row) w q.testBit j = true → A1) (h0 : ¬ cg_Q (cg_E a_row) w q.testBit j = true → A0) : wpY_within G (f_fresh, f_n, f_hasWitness, a_row, a_weight, a_witness, a_label, a_order, a_module, a_least) (nI j) (nI q) := by
  refine yw_within hj ?_
  rw [cg_withinS hj (cg_p256 n8 hq), hG]
  by_cases z : cg_in j q.testBit = true
  · refine br_f (cg_b_t z) (yw_uniform n8 hn (cg_part hj hq z) ?_)
    have e : cg_Q (cg_E a_row) w q.testBit j = (cg_uni (cg_E a_row) w j && decide (j ≠ 0)) := by
      unfold cg_Q
      rw [z, decide_eq_true j0]
      cases cg_uni (cg_E a_row) w j <;> rfl
    rw [← e]
    by_cases t : cg_Q (cg_E a_row) w q.testBit j = true
    · exact br_f (cg_b_t t) (h1 t)
    · exact br_t (cg_b_0.mpr (cg_bF t)) (h0 t)
  · exact br_t (cg_b_0.mpr (cg_bF z)) (h0 fun t => z (by unfold cg_Q at t; rw [Bool.and_eq_true] at t; exact t.1))
theorem yw_countUniform {post : Int32 → Prop} {n q : Nat} {w : Bool} (n8 : n ≤ 8) (hn : f_n = nI n) (hq : q < 2 ^ n) (h : post (nI (cg_N (cg_E a_row) w q.testBit - 1))) : wpY_countUniform post (f_fresh, f_n, f_hasWitness, a_row, a_weight, a_witness, a_label, a_order, a_module, a_least) (nI q) (cg_b w) := by
  suffices loop : ∀ d j, j + d = 256 → j ≠ 0 → ∀ f, d < f → wY_countUniform_5 post (nI q) (cg_b w) f_fresh f_n f_hasWitness a_row a_weight a_witness a_label a_order a_module a_least f (nI (cg_cnt (cg_Q (cg_E a_row) w q.testBit) j - 1)) (nI j) by
    have := loop 255 1 rfl (by decide) 256 (by omega)
    have e : cg_cnt (cg_Q (cg_E a_row) w q.testBit) 1 - 1 = 0 := by
      show 0 + (if cg_Q (cg_E a_row) w q.testBit 0 = true then 1 else 0) - 1 = 0
      split <;> rfl
    rw [e] at this
    exact ⟨256, this⟩
  intro d
  induction d with
  | zero =>
    intro j hj j0 f hf
    obtain ⟨m, rfl⟩ : ∃ m, f = m + 1 := ⟨f - 1, by omega⟩
    have : j = 256 := by omega
    subst this
    exact br_t (by decide) h
  | succ d ih =>
    intro j hj j0 f hf
    obtain ⟨m, rfl⟩ : ∃ m, f = m + 1 := ⟨f - 1, by omega⟩
    have go := ih (j + 1) (by omega) (by omega) m (by omega)
    have e : cg_cnt (cg_Q (cg_E a_row) w q.testBit) (j + 1) = cg_cnt (cg_Q (cg_E a_row) w q.testBit) j + (if cg_Q (cg_E a_row) w q.testBit j = true then 1 else 0) := rfl
    have pos : 1 ≤ cg_cnt (cg_Q (cg_E a_row) w q.testBit) j := cg_cnt_pos (j := 0) (by omega) (cg_Q_0 _ _ _)
    rw [e] at go
    refine br_f (nI_ge (b := 256) (by omega) (by decide)) (yw_part n8 hn hq (by omega) j0 _ _ _ (fun r => rfl) (fun t => ?_) (fun t => ?_))
    · rw [if_pos t] at go
      refine nm_r (nI_1 _) (nm_r (nI_1 j) ?_)
      rw [show cg_cnt (cg_Q (cg_E a_row) w q.testBit) j - 1 + 1 = cg_cnt (cg_Q (cg_E a_row) w q.testBit) j + 1 - 1 by omega]
      exact go
    · rw [if_neg t] at go
      exact nm_r (nI_1 j) go
theorem yw_clique_14 {post : Int32 → Prop} {n q : Nat} (n8 : n ≤ 8) (hn : f_n = nI n) (hq : q < 2 ^ n) (h : post (nI (cg_M (cg_E a_row) true (fun _ => 1) q.testBit))) : ∃ f, wY_cliqueNumber_14 post (nI q) f_fresh f_n f_hasWitness a_row a_weight a_witness a_label a_order a_module a_least f (nI 0) (nI 1) := by
  obtain ⟨g, hg⟩ : ∃ g : Nat → Nat, g = fun p => if cg_Q (cg_E a_row) true q.testBit p = true then cg_ws (fun _ => 1) p else 0 := ⟨_, rfl⟩
  have h : post (nI (cg_mx g 256)) := by rw [hg]; exact h
  have g8 : ∀ p, g p ≤ 8 := fun p => by
    rw [hg]
    show (if cg_Q (cg_E a_row) true q.testBit p = true then cg_ws (fun _ => 1) p else 0) ≤ 8
    split
    · exact cg_ws_le (c := 1) (fun _ => Nat.le_refl 1) p
    · omega
  have m8 : ∀ k, cg_mx g k ≤ 8 := fun k => by
    rcases cg_mx_att g k with z | ⟨j, _, e⟩
    · omega
    · rw [e]; exact g8 j
  have g0 : g 0 = 0 := by
    rw [hg]
    show (if cg_Q (cg_E a_row) true q.testBit 0 = true then cg_ws (fun _ => 1) 0 else 0) = 0
    rw [cg_ws_0]; split <;> rfl
  suffices loop : ∀ d j, j + d = 256 → j ≠ 0 → ∀ f, d < f → wY_cliqueNumber_14 post (nI q) f_fresh f_n f_hasWitness a_row a_weight a_witness a_label a_order a_module a_least f (nI (cg_mx g j)) (nI j) by
    have := loop 255 1 rfl (by decide) 256 (by omega)
    have e : cg_mx g 1 = 0 := by
      show (if g 0 ≤ 0 then 0 else g 0) = 0
      rw [g0]; rfl
    rw [e] at this
    exact ⟨256, this⟩
  intro d
  induction d with
  | zero =>
    intro j hj j0 f hf
    obtain ⟨m, rfl⟩ : ∃ m, f = m + 1 := ⟨f - 1, by omega⟩
    have : j = 256 := by omega
    subst this
    exact br_t (by decide) h
  | succ d ih =>
    intro j hj j0 f hf
    obtain ⟨m, rfl⟩ : ∃ m, f = m + 1 := ⟨f - 1, by omega⟩
    have go := ih (j + 1) (by omega) (by omega) m (by omega)
    have e : cg_mx g (j + 1) = if g j ≤ cg_mx g j then cg_mx g j else g j := rfl
    rw [e] at go
    refine br_f (nI_ge (b := 256) (by omega) (by decide)) (yw_part (w := true) n8 hn hq (by omega) j0 _ _ _ (fun r => rfl) (fun t => ?_) (fun t => ?_))
    · have gj : g j = cg_cnt (bt (nI j)) 8 := by
        rw [hg]
        show (if cg_Q (cg_E a_row) true q.testBit j = true then cg_ws (fun _ => 1) j else 0) = _
        rw [if_pos t, cg_cnt_sm]
        unfold cg_ws
        apply cg_sm_congr
        intro i _
        rw [ib_nI' (by omega)]
      refine yw_sizeOf ?_
      rw [← gj]
      have := m8 j
      have := g8 j
      by_cases z : g j ≤ cg_mx g j
      · rw [if_pos z] at go
        exact br_t (nI_le z (by omega)) (nm_r (nI_1 j) go)
      · rw [if_neg z] at go
        exact br_f (nI_ge (by omega) (by omega)) (nm_r (nI_1 j) go)
    · have gj : g j = 0 := by rw [hg]; exact if_neg t
      rw [gj, if_pos (by omega)] at go
      exact nm_r (nI_1 j) go
theorem yw_heavy_14 {post : Int32 → Prop} {n q : Nat} {wt : Nat → Nat} (n8 : n ≤ 8) (hn : f_n = nI n) (hq : q < 2 ^ n) (hwt : ∀ v, a_weight v = nI (wt v)) (w100 : ∀ v, wt v ≤ 100) (h : post (nI (cg_M (cg_E a_row) false wt q.testBit))) : ∃ f, wY_heaviestStable_14 post (nI q) f_fresh f_n f_hasWitness a_row a_weight a_witness a_label a_order a_module a_least f (nI 0) (nI 1) := by
  obtain ⟨g, hg⟩ : ∃ g : Nat → Nat, g = fun p => if cg_Q (cg_E a_row) false q.testBit p = true then cg_ws wt p else 0 := ⟨_, rfl⟩
  have h : post (nI (cg_mx g 256)) := by rw [hg]; exact h
  have g8 : ∀ p, g p ≤ 800 := fun p => by
    rw [hg]
    show (if cg_Q (cg_E a_row) false q.testBit p = true then cg_ws wt p else 0) ≤ 800
    split
    · exact cg_ws_le (c := 100) w100 p
    · omega
  have m8 : ∀ k, cg_mx g k ≤ 800 := fun k => by
    rcases cg_mx_att g k with z | ⟨j, _, e⟩
    · omega
    · rw [e]; exact g8 j
  have g0 : g 0 = 0 := by
    rw [hg]
    show (if cg_Q (cg_E a_row) false q.testBit 0 = true then cg_ws wt 0 else 0) = 0
    rw [cg_ws_0]; split <;> rfl
  -- the sum of one part
  have inner : ∀ (j best : Nat) (J : Int32 → Int32 → Prop), j < 2 ^ n → best ≤ 800 → J (nI (if cg_ws wt j ≤ best then best else cg_ws wt j)) (nI (j + 1)) → ∀ d i, i + d = n → ∀ f, d < f → wY_heaviestStable_45 post J (nI q) (nI best) (nI j) f_fresh f_n f_hasWitness a_row a_weight a_witness a_label a_order a_module a_least f (nI (cg_sm (fun v => if j.testBit v = true then wt v else 0) i)) (nI i) := by
    intro j best J hj hb hJ d
    have j256 := cg_p256 n8 hj
    have full : cg_sm (fun v => if j.testBit v = true then wt v else 0) n = cg_ws wt j := by
      unfold cg_ws
      have gen : ∀ k, cg_sm (fun v => if j.testBit v = true then wt v else 0) (n + k) = cg_sm (fun v => if j.testBit v = true then wt v else 0) n := by
        intro k
        induction k with
        | zero => rfl
        | succ k ih =>
          show cg_sm _ (n + k) + (if j.testBit (n + k) = true then wt (n + k) else 0) = _
          rw [ih, if_neg (fun z => by have := cg_pbit hj z; omega)]
          omega
      have := gen (8 - n)
      rw [show n + (8 - n) = 8 by omega] at this
      exact this.symm
    have wle := cg_ws_le (c := 100) w100 j
    induction d with
    | zero =>
      intro i hi f hf
      obtain ⟨m, rfl⟩ : ∃ m, f = m + 1 := ⟨f - 1, by omega⟩
      have : i = n := by omega
      subst this
      rw [full]
      refine br_t (by rw [hn]; exact nI_le (Nat.le_refl _) (by omega)) ?_
      by_cases z : cg_ws wt j ≤ best
      · rw [if_pos z] at hJ
        exact br_t (nI_le z (by omega)) (nm_r (nI_1 j) hJ)
      · rw [if_neg z] at hJ
        exact br_f (nI_ge (by omega) (by omega)) (nm_r (nI_1 j) hJ)
    | succ d ih =>
      intro i hi f hf
      obtain ⟨m, rfl⟩ : ∃ m, f = m + 1 := ⟨f - 1, by omega⟩
      have go := ih (i + 1) (by omega) m (by omega)
      have e : cg_sm (fun v => if j.testBit v = true then wt v else 0) (i + 1) = cg_sm (fun v => if j.testBit v = true then wt v else 0) i + (if j.testBit i = true then wt i else 0) := rfl
      rw [e] at go
      refine br_f (by rw [hn]; exact nI_ge (by omega) (by omega)) (yw_has (by omega) ?_)
      rw [ib_nI' (by omega)]
      by_cases z : j.testBit i = true
      · rw [if_pos z] at go
        refine br_f (cg_b_t z) ⟨ib_in (show i < 8 by omega) (by omega), nm_r ?_ (nm_r (nI_1 i) go)⟩
        rw [ib_cl (show i < 256 by omega), hwt i, nI_add]
      · rw [if_neg z] at go
        exact br_t (cg_b_0.mpr (cg_bF z)) (nm_r (nI_1 i) go)
  suffices loop : ∀ d j, j + d = 256 → j ≠ 0 → ∀ f, d < f → wY_heaviestStable_14 post (nI q) f_fresh f_n f_hasWitness a_row a_weight a_witness a_label a_order a_module a_least f (nI (cg_mx g j)) (nI j) by
    have := loop 255 1 rfl (by decide) 256 (by omega)
    have e : cg_mx g 1 = 0 := by
      show (if g 0 ≤ 0 then 0 else g 0) = 0
      rw [g0]; rfl
    rw [e] at this
    exact ⟨256, this⟩
  intro d
  induction d with
  | zero =>
    intro j hj j0 f hf
    obtain ⟨m, rfl⟩ : ∃ m, f = m + 1 := ⟨f - 1, by omega⟩
    have : j = 256 := by omega
    subst this
    exact br_t (by decide) h
  | succ d ih =>
    intro j hj j0 f hf
    obtain ⟨m, rfl⟩ : ∃ m, f = m + 1 := ⟨f - 1, by omega⟩
    have go := ih (j + 1) (by omega) (by omega) m (by omega)
    have e : cg_mx g (j + 1) = if g j ≤ cg_mx g j then cg_mx g j else g j := rfl
    rw [e] at go
    refine br_f (nI_ge (b := 256) (by omega) (by decide)) (yw_part (w := false) n8 hn hq (by omega) j0 _ _ _ (fun r => rfl) (fun t => ?_) (fun t => ?_))
    · have gj : g j = cg_ws wt j := by rw [hg]; exact if_pos t
      rw [gj] at go
      have inq : cg_in j q.testBit = true := by unfold cg_Q at t; rw [Bool.and_eq_true] at t; exact t.1
      exact ⟨n + 1, inner j (cg_mx g j) _ (cg_part (by omega) hq inq) (m8 j) go n 0 (by omega) (n + 1) (by omega)⟩
    · have gj : g j = 0 := by rw [hg]; exact if_neg t
      rw [gj, if_pos (by omega)] at go
      exact nm_r (nI_1 j) go
end
end
section
section
variable {V U : Nat → Bool} {r : Nat} {K P : Nat → Int32} {L E C : Nat → Nat → Bool}
theorem cg_sep_of {b : Bool} {A B : Nat → Bool} (h : ∀ u v, A u = true → B v = true → u ≠ v ∧ E u v = b ∧ E v u = b) : cg_sep E b A B := h
theorem cg_innN (B : tw_B V U r K P L E) (hC : tw_C U P C) {x : Nat} (hx : U x = true) (kx : K x ≠ 0) (S : Nat → Bool) (w : Bool) :
    (decide (K x = 2) = w → cg_fold (cg_fmul (fun y => cg_N E w (fun v => S v && L y v) - 1)) 1 (C x) 20 - 1 = cg_N E w (fun v => S v && L x v) - 1) ∧
    (decide (K x = 2) = !w → cg_fold (cg_fsum (fun y => cg_N E w (fun v => S v && L y v) - 1)) 0 (C x) 20 = cg_N E w (fun v => S v && L x v) - 1) := by
  constructor
  · intro hk
    rw [cg_foldG B hC hx kx S (cg_N E w) _ 1 cg_N_0]
    intro k A uk _ hs
    rw [hk] at hs
    rw [cg_N_mul (cg_sep_of hs)]
    show _ = cg_N E w A * (1 + (cg_N E w (fun v => S v && L k v) - 1))
    have := cg_N_pos (E := E) (w := w) (A := fun v => S v && L k v)
    congr 1
    omega
  · intro hk
    refine cg_foldG B hC hx kx S (fun A => cg_N E w A - 1) _ 0 (by show cg_N E w (fun _ => false) - 1 = 0; rw [cg_N_0]) ?_
    intro k A uk _ hs
    rw [hk] at hs
    have h1 := cg_N_add (w := w) (cg_sep_of hs)
    have h2 := cg_N_pos (E := E) (w := w) (A := A)
    have h3 := cg_N_pos (E := E) (w := w) (A := fun v => S v && L k v)
    show cg_N E w (fun v => A v || (S v && L k v)) - 1 = cg_N E w A - 1 + (cg_N E w (fun v => S v && L k v) - 1)
    omega
theorem cg_innM (B : tw_B V U r K P L E) (hC : tw_C U P C) {x : Nat} (hx : U x = true) (kx : K x ≠ 0) (S : Nat → Bool) (w : Bool) (wt : Nat → Nat) :
    (decide (K x = 2) = w → cg_fold (cg_fsum (fun y => cg_M E w wt (fun v => S v && L y v))) 0 (C x) 20 = cg_M E w wt (fun v => S v && L x v)) ∧
    (decide (K x = 2) = !w → cg_fold (cg_fmax (fun y => cg_M E w wt (fun v => S v && L y v))) 0 (C x) 20 = cg_M E w wt (fun v => S v && L x v)) := by
  constructor
  · intro hk
    refine cg_foldG B hC hx kx S (cg_M E w wt) _ 0 cg_M_0 ?_
    intro k A uk _ hs
    rw [hk] at hs
    exact cg_M_add (cg_sep_of hs)
  · intro hk
    refine cg_foldG B hC hx kx S (cg_M E w wt) _ 0 cg_M_0 ?_
    intro k A uk _ hs
    rw [hk] at hs
    exact cg_M_max (cg_sep_of hs)
end
section
variable {f_vertexCount f_root f_usedNodes f_newWeight f_wholeChildren f_emptyChildren f_partChildren f_orderLength f_witnessKept : Int32} {a_kind a_parent a_leaves a_children a_weight a_order a_value a_witnessCells a_row : Nat → Int32}
theorem xw_evalT {post : Int32 → SX → Prop} {n q w : Nat} {E : Nat → Nat → Bool} {F : (Nat → Bool) → Nat} (hw : w < 7) (T : cg_T n f_root f_usedNodes a_kind a_parent a_leaves a_children E) (n8 : n ≤ 8) (hq : q < 2 ^ n)
    (F0 : F (fun _ => false) = 0) (Fb : ∀ A, F A ≤ 1000)
    (F1 : ∀ A v, v < 8 → (∀ i, A i = true ↔ i = v) → (w ≠ 3 → F A = 1) ∧ (w = 3 → a_weight v = nI (F A)))
    (Fi : ∀ r, tw_B (fun v => decide (v < n)) (bt f_usedNodes) r a_kind a_parent (fun x => bt (a_leaves x)) E → tw_C (bt f_usedNodes) a_parent (fun x => bt (a_children x)) → ∀ x, bt f_usedNodes x = true → a_kind x ≠ 0 →
      F (fun v => q.testBit v && bt (a_leaves x) v) = cg_inn w (decide (a_kind x = 2)) (fun y => F (fun v => q.testBit v && bt (a_leaves y) v)) (fun c => cg_cnt (bt (a_leaves c)) 8) (bt (a_children x)))
    (h : ∀ len ord value, post (nI (F q.testBit)) (f_vertexCount, f_root, f_usedNodes, f_newWeight, f_wholeChildren, f_emptyChildren, f_partChildren, len, f_witnessKept, a_kind, a_parent, a_leaves, a_children, a_weight, ord, value, a_witnessCells, a_row)) : wpX_evaluate post (f_vertexCount, f_root, f_usedNodes, f_newWeight, f_wholeChildren, f_emptyChildren, f_partChildren, f_orderLength, f_witnessKept, a_kind, a_parent, a_leaves, a_children, a_weight, a_order, a_value, a_witnessCells, a_row) (nI q) (nI w) := by
  have q256 := cg_p256 n8 hq
  rcases T with ⟨n0, hr, _⟩ | ⟨_, _, r, hr, B, A, hC⟩
  · have q0 : q = 0 := by rw [n0] at hq; simpa using hq
    have e : q.testBit = fun _ => false := by funext i; rw [q0, Nat.zero_testBit]
    rw [e, F0] at h
    unfold wpX_evaluate
    dsimp only
    rw [hr]
    have := h f_orderLength a_order a_value
    rw [hr] at this
    exact br_f (by decide) this
  · have bq : ∀ j, bt (nI q) j = q.testBit j := fun j => ib_nI' (by omega) j
    have er : (fun v => q.testBit v && bt (a_leaves r) v) = q.testBit := by
      funext v
      cases z : q.testBit v
      · rfl
      · rw [show bt (a_leaves r) v = true from tw_rL B (by simp [cg_pbit hq z])]; rfl
    refine xw_evaluate (val := fun y => F (fun v => q.testBit v && bt (a_leaves y) v)) hw B hC hr (fun x _ => Fb _) ?_ ?_ ?_ (Fi r B hC) ?_
    · intro x hx kx hno
      have : (fun v => q.testBit v && bt (a_leaves x) v) = fun _ => false := by
        funext v
        cases z : bt (a_leaves x) v
        · simp
        · have := hno v z
          rw [bq] at this
          rw [this]; rfl
      rw [this]; exact F0
    · intro x v hx kx lv sv w3
      have sg := (tw_leaf B hx kx lv).2
      refine (F1 _ v (tw_L8 B hx lv) (fun i => ?_)).1 w3
      rw [Bool.and_eq_true]
      constructor
      · exact fun z => (sg i).mp z.2
      · intro z
        subst z
        exact ⟨by rw [← bq]; exact sv, lv⟩
    · intro x v hx kx lv sv w3
      have sg := (tw_leaf B hx kx lv).2
      refine (F1 _ v (tw_L8 B hx lv) (fun i => ?_)).2 w3
      rw [Bool.and_eq_true]
      constructor
      · exact fun z => (sg i).mp z.2
      · intro z
        subst z
        exact ⟨by rw [← bq]; exact sv, lv⟩
    · intro len ord value
      rw [er]
      exact h len ord value
theorem xw_eval_N {post : Int32 → SX → Prop} {n q w : Nat} {b : Bool} {E : Nat → Nat → Bool} (hb : (w = 1 ∧ b = true) ∨ (w = 2 ∧ b = false)) (T : cg_T n f_root f_usedNodes a_kind a_parent a_leaves a_children E) (n8 : n ≤ 8) (hq : q < 2 ^ n)
    (h : ∀ len ord value, post (nI (cg_N E b q.testBit - 1)) (f_vertexCount, f_root, f_usedNodes, f_newWeight, f_wholeChildren, f_emptyChildren, f_partChildren, len, f_witnessKept, a_kind, a_parent, a_leaves, a_children, a_weight, ord, value, a_witnessCells, a_row)) : wpX_evaluate post (f_vertexCount, f_root, f_usedNodes, f_newWeight, f_wholeChildren, f_emptyChildren, f_partChildren, f_orderLength, f_witnessKept, a_kind, a_parent, a_leaves, a_children, a_weight, a_order, a_value, a_witnessCells, a_row) (nI q) (nI w) := by
  refine xw_evalT (F := fun A => cg_N E b A - 1) (by omega) T n8 hq (by show cg_N E b (fun _ => false) - 1 = 0; rw [cg_N_0]) ?_ ?_ ?_ h
  · intro A
    have := cg_cnt_le (cg_Q E b A) 256
    show cg_cnt (cg_Q E b A) 256 - 1 ≤ 1000
    omega
  · intro A v v8 hA
    refine ⟨fun _ => ?_, fun z => by omega⟩
    show cg_N E b A - 1 = 1
    rw [cg_N_one v8 hA]
  · intro r B hC x hx kx
    obtain ⟨i1, i2⟩ := cg_innN B hC hx kx q.testBit b
    rcases hb with ⟨w1, b1⟩ | ⟨w2, b2⟩
    · subst w1 b1
      show cg_N E true _ - 1 = if decide (a_kind x = 2) = true then _ else _
      by_cases k : a_kind x = 2
      · rw [if_pos (decide_eq_true k)]
        exact (i1 (decide_eq_true k)).symm
      · rw [if_neg (by simp [k])]
        exact (i2 (decide_eq_false k)).symm
    · subst w2 b2
      show cg_N E false _ - 1 = if decide (a_kind x = 2) = true then _ else _
      by_cases k : a_kind x = 2
      · rw [if_pos (decide_eq_true k)]
        exact (i2 (decide_eq_true k)).symm
      · rw [if_neg (by simp [k])]
        exact (i1 (decide_eq_false k)).symm
theorem xw_eval_C {post : Int32 → SX → Prop} {n q w : Nat} {E : Nat → Nat → Bool} (hw : w = 0 ∨ w = 4) (T : cg_T n f_root f_usedNodes a_kind a_parent a_leaves a_children E) (n8 : n ≤ 8) (hq : q < 2 ^ n)
    (h : ∀ len ord value, post (nI (cg_M E true (fun _ => 1) q.testBit)) (f_vertexCount, f_root, f_usedNodes, f_newWeight, f_wholeChildren, f_emptyChildren, f_partChildren, len, f_witnessKept, a_kind, a_parent, a_leaves, a_children, a_weight, ord, value, a_witnessCells, a_row)) : wpX_evaluate post (f_vertexCount, f_root, f_usedNodes, f_newWeight, f_wholeChildren, f_emptyChildren, f_partChildren, f_orderLength, f_witnessKept, a_kind, a_parent, a_leaves, a_children, a_weight, a_order, a_value, a_witnessCells, a_row) (nI q) (nI w) := by
  refine xw_evalT (F := cg_M E true (fun _ => 1)) (by omega) T n8 hq cg_M_0 (fun A => ?_) ?_ ?_ h
  · have := cg_M_le (E := E) (w := true) (wt := fun _ => 1) (A := A) (c := 1) (fun _ => Nat.le_refl 1)
    omega
  · intro A v v8 hA
    exact ⟨fun _ => cg_M_one v8 hA, fun z => by omega⟩
  · intro r B hC x hx kx
    obtain ⟨i1, i2⟩ := cg_innM B hC hx kx q.testBit true (fun _ => 1)
    rcases hw with w1 | w1 <;> subst w1
    all_goals
      show cg_M E true (fun _ => 1) _ = if decide (a_kind x = 2) = true then _ else _
      by_cases k : a_kind x = 2
      · rw [if_pos (decide_eq_true k)]
        exact (i1 (decide_eq_true k)).symm
      · rw [if_neg (by simp [k])]
        exact (i2 (decide_eq_false k)).symm
theorem xw_eval_H {post : Int32 → SX → Prop} {n q : Nat} {E : Nat → Nat → Bool} {wt : Nat → Nat} (T : cg_T n f_root f_usedNodes a_kind a_parent a_leaves a_children E) (n8 : n ≤ 8) (hq : q < 2 ^ n) (hwt : ∀ v, a_weight v = nI (wt v)) (w100 : ∀ v, wt v ≤ 100)
    (h : ∀ len ord value, post (nI (cg_M E false wt q.testBit)) (f_vertexCount, f_root, f_usedNodes, f_newWeight, f_wholeChildren, f_emptyChildren, f_partChildren, len, f_witnessKept, a_kind, a_parent, a_leaves, a_children, a_weight, ord, value, a_witnessCells, a_row)) : wpX_evaluate post (f_vertexCount, f_root, f_usedNodes, f_newWeight, f_wholeChildren, f_emptyChildren, f_partChildren, f_orderLength, f_witnessKept, a_kind, a_parent, a_leaves, a_children, a_weight, a_order, a_value, a_witnessCells, a_row) (nI q) (nI 3) := by
  refine xw_evalT (F := cg_M E false wt) (by omega) T n8 hq cg_M_0 (fun A => ?_) ?_ ?_ h
  · have := cg_M_le (E := E) (w := false) (wt := wt) (A := A) (c := 100) w100
    omega
  · intro A v v8 hA
    exact ⟨fun z => (z rfl).elim, fun _ => by rw [cg_M_one v8 hA]; exact hwt v⟩
  · intro r B hC x hx kx
    obtain ⟨i1, i2⟩ := cg_innM B hC hx kx q.testBit false wt
    show cg_M E false wt _ = if decide (a_kind x = 2) = true then _ else _
    by_cases k : a_kind x = 2
    · rw [if_pos (decide_eq_true k)]
      exact (i2 (decide_eq_true k)).symm
    · rw [if_neg (by simp [k])]
      exact (i1 (decide_eq_false k)).symm
end
theorem i_vc_cliqueNumber {k : Nat} {u : SX} {v : SY} (I : i_Rel k u v) (hk : k + 3 ≤ 1537) (v1 : Int32) : wpX_cliqueNumber (fun r u' => wpY_cliqueNumber (fun r' => r' = r ∧ i_Rel (k + 3) u' v) v v1) u v1 := by
  obtain ⟨vc, root, used, nw, x1, x2, x3, x4, wk, kind, parent, leaves, children, weight, x5, x6, cells, x7⟩ := u
  obtain ⟨fresh, yn, hw, row, weight', wit, y1, y2, y3, y4⟩ := v
  have J := I
  obtain ⟨n, n8, rfl, rfl, _, _, _, G, T, _⟩ := J
  have z0 : ¬ (1 : Int32) = 0 := by decide
  unfold wpX_cliqueNumber
  rcases cg_isSet n8 v1 with bad | ⟨p, hp, rfl⟩
  · refine xw_isSet0 rfl bad (br_t rfl ?_)
    unfold wpY_cliqueNumber
    exact yw_isSet0 rfl bad (br_t rfl ⟨rfl, I⟩)
  · refine xw_isSet1 n8 rfl hp (br_f z0 (xw_eval_C (w := 0) (Or.inl rfl) T n8 hp ?_))
    intro len ord value
    dsimp only
    unfold wpY_cliqueNumber
    exact yw_isSet1 n8 rfl hp (br_f z0 (yw_clique_14 n8 rfl hp ⟨rfl, I⟩))
theorem i_vc_cliques {k : Nat} {u : SX} {v : SY} (I : i_Rel k u v) (hk : k + 3 ≤ 1537) (v1 : Int32) : wpX_cliques (fun r u' => wpY_cliques (fun r' => r' = r ∧ i_Rel (k + 3) u' v) v v1) u v1 := by
  obtain ⟨vc, root, used, nw, x1, x2, x3, x4, wk, kind, parent, leaves, children, weight, x5, x6, cells, x7⟩ := u
  obtain ⟨fresh, yn, hw, row, weight', wit, y1, y2, y3, y4⟩ := v
  have J := I
  obtain ⟨n, n8, rfl, rfl, _, _, _, G, T, _⟩ := J
  have z0 : ¬ (1 : Int32) = 0 := by decide
  unfold wpX_cliques
  rcases cg_isSet n8 v1 with bad | ⟨p, hp, rfl⟩
  · refine xw_isSet0 rfl bad (br_t rfl ?_)
    unfold wpY_cliques
    exact yw_isSet0 rfl bad (br_t rfl ⟨rfl, I⟩)
  · refine xw_isSet1 n8 rfl hp (br_f z0 (xw_eval_N (w := 1) (b := true) (Or.inl ⟨rfl, rfl⟩) T n8 hp ?_))
    intro len ord value
    dsimp only
    unfold wpY_cliques
    exact yw_isSet1 n8 rfl hp (br_f z0 (yw_countUniform (w := true) n8 rfl hp ⟨rfl, I⟩))
theorem i_vc_stableSets {k : Nat} {u : SX} {v : SY} (I : i_Rel k u v) (hk : k + 3 ≤ 1537) (v1 : Int32) : wpX_stableSets (fun r u' => wpY_stableSets (fun r' => r' = r ∧ i_Rel (k + 3) u' v) v v1) u v1 := by
  obtain ⟨vc, root, used, nw, x1, x2, x3, x4, wk, kind, parent, leaves, children, weight, x5, x6, cells, x7⟩ := u
  obtain ⟨fresh, yn, hw, row, weight', wit, y1, y2, y3, y4⟩ := v
  have J := I
  obtain ⟨n, n8, rfl, rfl, _, _, _, G, T, _⟩ := J
  have z0 : ¬ (1 : Int32) = 0 := by decide
  unfold wpX_stableSets
  rcases cg_isSet n8 v1 with bad | ⟨p, hp, rfl⟩
  · refine xw_isSet0 rfl bad (br_t rfl ?_)
    unfold wpY_stableSets
    exact yw_isSet0 rfl bad (br_t rfl ⟨rfl, I⟩)
  · refine xw_isSet1 n8 rfl hp (br_f z0 (xw_eval_N (w := 2) (b := false) (Or.inr ⟨rfl, rfl⟩) T n8 hp ?_))
    intro len ord value
    dsimp only
    unfold wpY_stableSets
    exact yw_isSet1 n8 rfl hp (br_f z0 (yw_countUniform (w := false) n8 rfl hp ⟨rfl, I⟩))
theorem i_vc_heaviestStable {k : Nat} {u : SX} {v : SY} (I : i_Rel k u v) (hk : k + 3 ≤ 1537) (v1 : Int32) : wpX_heaviestStable (fun r u' => wpY_heaviestStable (fun r' => r' = r ∧ i_Rel (k + 3) u' v) v v1) u v1 := by
  obtain ⟨vc, root, used, nw, x1, x2, x3, x4, wk, kind, parent, leaves, children, weight, x5, x6, cells, x7⟩ := u
  obtain ⟨fresh, yn, hw, row, weight', wit, y1, y2, y3, y4⟩ := v
  have J := I
  obtain ⟨n, n8, rfl, rfl, rfl, hwt, _, G, T, _⟩ := J
  obtain ⟨wt, hwt⟩ := Classical.axiomOfChoice hwt
  have z0 : ¬ (1 : Int32) = 0 := by decide
  unfold wpX_heaviestStable
  rcases cg_isSet n8 v1 with bad | ⟨p, hp, rfl⟩
  · refine xw_isSet0 rfl bad (br_t rfl ?_)
    unfold wpY_heaviestStable
    exact yw_isSet0 rfl bad (br_t rfl ⟨rfl, I⟩)
  · refine xw_isSet1 n8 rfl hp (br_f z0 (xw_eval_H (wt := wt) T n8 hp (fun v => (hwt v).2) (fun v => (hwt v).1) ?_))
    intro len ord value
    dsimp only
    unfold wpY_heaviestStable
    exact yw_isSet1 n8 rfl hp (br_f z0 (yw_heavy_14 (wt := wt) n8 rfl hp (fun v => (hwt v).2) (fun v => (hwt v).1) ⟨rfl, I⟩))
end
section
/-! ===== colours ===== -/
section
variable {V U : Nat → Bool} {r : Nat} {K P : Nat → Int32} {L E C : Nat → Nat → Bool}
/-- a property of vertex sets, up the tree -/
theorem cg_indP (B : tw_B V U r K P L E) (hC : tw_C U P C) (S : Nat → Bool) (Q : (Nat → Bool) → Prop) (Q0 : Q (fun _ => false)) (Q1 : ∀ A v, v < 8 → (∀ i, A i = true ↔ i = v) → Q A)
    (Qs : ∀ (b : Bool) A B', (∀ v, A v = true → v < 8) → (∀ v, B' v = true → v < 8) → cg_sep E b A B' → Q A → Q B' → Q (fun v => A v || B' v)) : ∀ m x, cg_cnt (L x) 8 ≤ m → U x = true → Q (fun v => S v && L x v) := by
  intro m
  induction m with
  | zero =>
    intro x hm hx
    obtain ⟨v, hv⟩ := tw_ne B hx
    have := cg_cnt_pos (A := L x) (tw_L8 B hx hv) hv
    omega
  | succ m ih =>
    intro x hm hx
    by_cases kx : K x = 0
    · obtain ⟨v, hv⟩ := tw_ne B hx
      have sg := (tw_leaf B hx kx hv).2
      by_cases sv : S v = true
      · refine Q1 _ v (tw_L8 B hx hv) (fun i => ?_)
        rw [Bool.and_eq_true]
        constructor
        · exact fun z => (sg i).mp z.2
        · intro z; subst z; exact ⟨sv, hv⟩
      · have : (fun v => S v && L x v) = fun _ => false := by
          funext u
          cases z : L x u
          · simp
          · rw [(sg u).mp z, cg_bF sv]; rfl
        rw [this]; exact Q0
    · have key : ∀ k, k ≤ 20 → Q (fun v => S v && cg_pre (C x) L k v) := by
        intro k
        induction k with
        | zero =>
          intro _
          have : (fun v => S v && cg_pre (C x) L 0 v) = fun _ => false := by
            funext v
            show (S v && false) = false
            simp
          rw [this]; exact Q0
        | succ k ihk =>
          intro hk
          by_cases c : C x k = true
          · obtain ⟨uk, pk⟩ := (hC x hx k).mp c
            have := Qs (decide (K x = 2)) (fun v => S v && cg_pre (C x) L k v) (fun v => S v && L k v) ?_ ?_ ?_ (ihk (by omega)) (ih k (by have := tw_card B hx uk pk; omega) uk)
            · have e : (fun v => S v && cg_pre (C x) L (k + 1) v) = fun v => ((S v && cg_pre (C x) L k v) || (S v && L k v)) := by
                funext v
                show (S v && (cg_pre (C x) L k v || (C x k && L k v))) = _
                rw [c]
                cases S v <;> cases cg_pre (C x) L k v <;> cases L k v <;> rfl
              rw [e]; exact this
            · intro v hv
              simp only [Bool.and_eq_true] at hv
              obtain ⟨d, _, cd, ld⟩ := (cg_pre_iff k v).mp hv.2
              exact tw_L8 B ((hC x hx d).mp cd).1 ld
            · intro v hv
              simp only [Bool.and_eq_true] at hv
              exact tw_L8 B uk hv.2
            · intro u v hu hv
              simp only [Bool.and_eq_true] at hu hv
              obtain ⟨d, dk, cd, ld⟩ := (cg_pre_iff k u).mp hu.2
              obtain ⟨ud, pd⟩ := (hC x hx d).mp cd
              have ne : d ≠ k := by omega
              refine ⟨?_, tw_adj B ud uk ne hx pd pk ld hv.2, tw_adj B uk ud (Ne.symm ne) hx pk pd hv.2 ld⟩
              intro e
              subst e
              exact ne (tw_dis B ud uk hx pd pk ld hv.2)
          · have e : (fun v => S v && cg_pre (C x) L (k + 1) v) = fun v => S v && cg_pre (C x) L k v := by
              funext v
              show (S v && (cg_pre (C x) L k v || (C x k && L k v))) = _
              rw [cg_bF c]
              simp
            rw [e]; exact ihk (by omega)
      have e : (fun v => S v && cg_pre (C x) L 20 v) = fun v => S v && L x v := by
        funext v
        have : cg_pre (C x) L 20 v = L x v := by
          cases q : L x v
          · refine cg_bF fun z => ?_
            obtain ⟨c, _, cc, lc⟩ := (cg_pre_iff 20 v).mp z
            obtain ⟨uc, pc⟩ := (hC x hx c).mp cc
            rw [tw_sub B uc hx pc lc] at q
            exact absurd q (by decide)
          · obtain ⟨_, cov, _⟩ := tw_inn B hx kx
            obtain ⟨c, uc, pc, lc⟩ := cov v q
            exact (cg_pre_iff 20 v).mpr ⟨c, tw_lt B uc, (hC x hx c).mpr ⟨uc, pc⟩, lc⟩
        rw [this]
      rw [← e]; exact key 20 (Nat.le_refl 20)
end
/-- the same for the whole graph -/
theorem cg_indT {n : Nat} {root used : Int32} {kind parent leaves children : Nat → Int32} {E : Nat → Nat → Bool} (T : cg_T n root used kind parent leaves children E) {q : Nat} (hq : q < 2 ^ n) (Q : (Nat → Bool) → Prop) (Q0 : Q (fun _ => false)) (Q1 : ∀ A v, v < 8 → (∀ i, A i = true ↔ i = v) → Q A)
    (Qs : ∀ (b : Bool) A B', (∀ v, A v = true → v < 8) → (∀ v, B' v = true → v < 8) → cg_sep E b A B' → Q A → Q B' → Q (fun v => A v || B' v)) : Q q.testBit := by
  rcases T with ⟨n0, _, _⟩ | ⟨_, _, r, _, B, _, hC⟩
  · have q0 : q = 0 := by rw [n0] at hq; simpa using hq
    have e : q.testBit = fun _ => false := by funext i; rw [q0, Nat.zero_testBit]
    rw [e]; exact Q0
  · have := cg_indP B hC q.testBit Q Q0 Q1 Qs 8 r (cg_cnt_le _ 8) (tw_rU B)
    have er : (fun v => q.testBit v && bt (leaves r) v) = q.testBit := by
      funext v
      cases z : q.testBit v
      · rfl
      · rw [show bt (leaves r) v = true from tw_rL B (by simp [cg_pbit hq z])]; rfl
    rw [← er]; exact this
/-- A can be coloured with k colours -/
def cg_col (E : Nat → Nat → Bool) (A : Nat → Bool) (k : Nat) : Prop := ∃ f : Nat → Nat, (∀ v, A v = true → f v < k) ∧ ∀ u v, A u = true → A v = true → u ≠ v → E u v = true → f u ≠ f v
theorem cg_colT {n : Nat} {root used : Int32} {kind parent leaves children : Nat → Int32} {E : Nat → Nat → Bool} (T : cg_T n root used kind parent leaves children E) {q : Nat} (hq : q < 2 ^ n) : cg_col E q.testBit (cg_M E true (fun _ => 1) q.testBit) := by
  refine cg_indT T hq (fun A => cg_col E A (cg_M E true (fun _ => 1) A)) ?_ ?_ ?_
  · exact ⟨fun _ => 0, fun v h => Bool.noConfusion h, fun u v h => Bool.noConfusion h⟩
  · intro A v v8 hA
    refine ⟨fun _ => 0, fun u _ => by rw [cg_M_one v8 hA]; exact Nat.zero_lt_one, fun a b ha hb ne => ?_⟩
    exact (ne (((hA a).mp ha).trans ((hA b).mp hb).symm)).elim
  · intro b A B' _ _ hs ⟨f, f1, f2⟩ ⟨g, g1, g2⟩
    have orE : ∀ {v}, (A v || B' v) = true → A v = false → B' v = true := fun {v} h a => by rw [a] at h; simpa using h
    have nB : ∀ {v}, A v = true → B' v = true → False := fun {v} a b => (hs v v a b).1 rfl
    cases b
    · rw [cg_M_max (w := true) hs]
      refine ⟨fun v => if A v = true then f v else g v, fun v h => ?_, fun u v hu hv ne e => ?_⟩
      · show (if A v = true then f v else g v) < _
        by_cases a : A v = true
        · rw [if_pos a]; have := f1 v a; split <;> omega
        · rw [if_neg a]; have := g1 v (orE h (cg_bF a)); split <;> omega
      · show (if A u = true then f u else g u) ≠ (if A v = true then f v else g v)
        by_cases a : A u = true
        · by_cases c : A v = true
          · rw [if_pos a, if_pos c]; exact f2 u v a c ne e
          · have := (hs u v a (orE hv (cg_bF c))).2.1
            rw [e] at this; exact absurd this (by decide)
        · by_cases c : A v = true
          · have := (hs v u c (orE hu (cg_bF a))).2.2
            rw [e] at this; exact absurd this (by decide)
          · rw [if_neg a, if_neg c]; exact g2 u v (orE hu (cg_bF a)) (orE hv (cg_bF c)) ne e
    · rw [cg_M_add (w := true) hs]
      refine ⟨fun v => if A v = true then f v else cg_M E true (fun _ => 1) A + g v, fun v h => ?_, fun u v hu hv ne e => ?_⟩
      · show (if A v = true then f v else cg_M E true (fun _ => 1) A + g v) < _
        by_cases a : A v = true
        · rw [if_pos a]; have := f1 v a; omega
        · rw [if_neg a]; have := g1 v (orE h (cg_bF a)); omega
      · show (if A u = true then f u else cg_M E true (fun _ => 1) A + g u) ≠ (if A v = true then f v else cg_M E true (fun _ => 1) A + g v)
        by_cases a : A u = true
        · by_cases c : A v = true
          · rw [if_pos a, if_pos c]; exact f2 u v a c ne e
          · rw [if_pos a, if_neg c]; have := f1 u a; omega
        · by_cases c : A v = true
          · rw [if_neg a, if_pos c]; have := f1 v c; omega
          · rw [if_neg a, if_neg c]
            have := g2 u v (orE hu (cg_bF a)) (orE hv (cg_bF c)) ne e
            omega
/-- p without s -/
def cg_diff (p s : Nat) : Nat := cg_cap p (fun v => !s.testBit v)
theorem cg_diff_iff {p s i : Nat} (hp : p < 256) : (cg_diff p s).testBit i = true ↔ p.testBit i = true ∧ s.testBit i = false := by
  unfold cg_diff
  rw [cg_cap_iff]
  constructor
  · rintro ⟨_, a, b⟩
    exact ⟨a, by simpa using b⟩
  · rintro ⟨a, b⟩
    exact ⟨cg_p8 hp a, a, by simp [b]⟩
theorem cg_diff_I {p s : Nat} (hp : p < 256) (hs : s < 256) : (nI p &&& (nI s ^^^ (-1))) = nI (cg_diff p s) := by
  apply b_ext
  intro i hi
  rw [b_and, ib_not _ hi, ib_nI' (by omega), ib_nI' (by omega), ib_nI' (show cg_diff p s < 2 ^ 32 from Nat.lt_trans (cg_cap_lt _ _) (by decide))]
  cases z : (cg_diff p s).testBit i
  · refine cg_bF fun t => ?_
    have : (cg_diff p s).testBit i = true := (cg_diff_iff hp).mpr (by simpa using t)
    rw [z] at this; exact absurd this (by decide)
  · have := (cg_diff_iff hp).mp z
    simp [this.1, this.2]
theorem cg_sub_le {p s : Nat} (h : ∀ i, s.testBit i = true → p.testBit i = true) : s ≤ p := by
  have e : s = p &&& s := Nat.eq_of_testBit_eq fun i => by
    rw [Nat.testBit_and]
    cases z : s.testBit i
    · simp
    · simp [h i z]
  rw [e]; exact Nat.and_le_left
theorem cg_diff_lt {p s : Nat} (hp : p < 256) (h : ∀ i, s.testBit i = true → p.testBit i = true) (s0 : s ≠ 0) : cg_diff p s < p := by
  have le : cg_diff p s ≤ p := cg_sub_le fun i hi => ((cg_diff_iff hp).mp hi).1
  refine Nat.lt_of_le_of_ne le fun e => s0 (cg_p0 fun i => cg_bF fun z => ?_)
  have := h i z
  rw [← e] at this
  rw [((cg_diff_iff hp).mp this).2] at z
  exact absurd z (by decide)
theorem cg_cnt_le1 {A : Nat → Bool} {k : Nat} (h : ∀ i j, i < k → j < k → A i = true → A j = true → i = j) : cg_cnt A k ≤ 1 := by
  by_cases z : ∃ j, j < k ∧ A j = true
  · obtain ⟨j, hj, aj⟩ := z
    rw [cg_cnt_erase hj aj, cg_cnt_zero k (fun i hi => cg_bF fun t => ?_)]
    · omega
    · simp only [Bool.and_eq_true] at t
      have := h i j hi hj t.1 aj
      simp [this] at t
  · have : cg_cnt A k = 0 := cg_cnt_zero k (fun i hi => cg_bF fun t => z ⟨i, hi, t⟩)
    omega
/-- lower bound: l p is at least the size of every clique in p -/
def cg_low (E : Nat → Nat → Bool) (l : Nat → Nat) : Prop := ∀ p, p < 256 → ∀ Q, Q < 256 → cg_Q E true p.testBit Q = true → cg_ws (fun _ => 1) Q ≤ l p
/-- upper bound: below k, l p is at most one more than l of p without a part of one colour -/
def cg_upp (M : Nat → Bool) (l : Nat → Nat) (k : Nat) : Prop := ∀ p, p < k → ∀ s, s ≠ 0 → s < 256 → M s = true → (∀ i, s.testBit i = true → p.testBit i = true) → l p ≤ l (cg_diff p s) + 1
theorem cg_low_upd {E : Nat → Nat → Bool} {l : Nat → Nat} {p s : Nat} {q : Nat} (hp : p < 256) (hs : s < 256) (h : cg_low E l) (st : cg_Q E false q.testBit s = true) :
    cg_low E (fun j => if j = p then l (cg_diff p s) + 1 else l j) := by
  intro j hj Q hQ hq
  show cg_ws (fun _ => 1) Q ≤ if j = p then l (cg_diff p s) + 1 else l j
  by_cases e : j = p
  · rw [if_pos e]
    subst e
    obtain ⟨q1, q2⟩ := cg_Q_iff.mp hq
    have s2 := (cg_Q_iff.mp st).2
    have e1 := cg_ws_cap (wt := fun _ => 1) (p := Q) (A := s.testBit) (B := fun v => !s.testBit v) (fun i _ _ => by cases s.testBit i <;> rfl) (fun i a b => by rw [a] at b; exact absurd b (by decide))
    have e2 : cg_ws (fun _ => 1) (cg_cap Q s.testBit) ≤ 1 := by
      unfold cg_ws
      rw [← cg_cnt_sm]
      refine cg_cnt_le1 fun a b ha hb ta tb => ?_
      have ca := cg_cap_iff.mp ta
      have cb := cg_cap_iff.mp tb
      refine Classical.byContradiction fun ne => ?_
      have x1 := q2 a ha b hb ne ca.2.1 cb.2.1
      have x2 := s2 a ha b hb ne ca.2.2 cb.2.2
      rw [x1] at x2
      exact absurd x2 (by decide)
    have e3 := h (cg_diff j s) (cg_cap_lt _ _) (cg_cap Q (fun v => !s.testBit v)) (cg_cap_lt _ _) (cg_Q_iff.mpr ⟨fun i hi t => ?_, fun a ha b hb ne ta tb => q2 a ha b hb ne (cg_cap_iff.mp ta).2.1 (cg_cap_iff.mp tb).2.1⟩)
    · omega
    · have c := cg_cap_iff.mp t
      exact (cg_diff_iff hj).mpr ⟨q1 i hi c.2.1, by simpa using c.2.2⟩
  · rw [if_neg e]
    exact h j hj Q hQ hq
theorem cg_upp_col {E : Nat → Nat → Bool} {M : Nat → Bool} {l : Nat → Nat} {q : Nat} (hq : q < 256) (hM : ∀ s, s ≠ 0 → s < 256 → (M s = true ↔ cg_Q E false q.testBit s = true)) (l0 : l 0 = 0) (h : cg_upp M l 256) :
    ∀ k A, A < 256 → (∀ i, A.testBit i = true → q.testBit i = true) → cg_col E A.testBit k → l A ≤ k := by
  intro k
  induction k with
  | zero =>
    intro A hA hs ⟨f, f1, _⟩
    have : A = 0 := cg_p0 fun i => cg_bF fun z => Nat.not_lt_zero _ (f1 i z)
    rw [this, l0]; omega
  | succ k ih =>
    intro A hA hs ⟨f, f1, f2⟩
    obtain ⟨s, es⟩ : ∃ s, s = cg_cap A (fun v => decide (f v = k)) := ⟨_, rfl⟩
    have sb : ∀ i, s.testBit i = true ↔ A.testBit i = true ∧ f i = k := fun i => by
      rw [es, cg_cap_iff]
      constructor
      · rintro ⟨_, a, b⟩; exact ⟨a, of_decide_eq_true b⟩
      · rintro ⟨a, b⟩; exact ⟨cg_p8 hA a, a, decide_eq_true b⟩
    have s256 : s < 256 := by rw [es]; exact cg_cap_lt _ _
    by_cases s0 : s = 0
    · have := ih A hA hs ⟨f, fun v hv => ?_, f2⟩
      · omega
      · have h1 := f1 v hv
        have : f v ≠ k := fun e => by
          have := (sb v).mpr ⟨hv, e⟩
          rw [s0, Nat.zero_testBit] at this
          exact absurd this (by decide)
        omega
    · have ms : M s = true := (hM s s0 s256).mpr (cg_Q_iff.mpr ⟨fun i _ hi => hs i ((sb i).mp hi).1, fun u _ v _ ne hu hv => cg_bF fun t => f2 u v ((sb u).mp hu).1 ((sb v).mp hv).1 ne t (((sb u).mp hu).2.trans ((sb v).mp hv).2.symm)⟩)
      have h1 := h A hA s s0 s256 ms (fun i hi => ((sb i).mp hi).1)
      have h2 := ih (cg_diff A s) (cg_cap_lt _ _) (fun i hi => hs i ((cg_diff_iff hA).mp hi).1) ⟨f, fun v hv => ?_, fun u v hu hv => f2 u v ((cg_diff_iff hA).mp hu).1 ((cg_diff_iff hA).mp hv).1⟩
      · omega
      · have hv' := (cg_diff_iff hA).mp hv
        have h3 := f1 v hv'.1
        have : f v ≠ k := fun e => by
          have := (sb v).mpr ⟨hv'.1, e⟩
          rw [hv'.2] at this
          exact absurd this (by decide)
        omega
end
section
section
variable {f_fresh f_n f_hasWitness : Int32} {a_row a_weight a_witness a_label a_order a_module a_least : Nat → Int32}
/-- one part: all its colours -/
theorem yw_col_96 {post : Int32 → SY → Prop} {q p : Nat} {J : Int32 → (Nat → Int32) → (Nat → Int32) → (Nat → Int32) → (Nat → Int32) → (Nat → Int32) → (Nat → Int32) → (Nat → Int32) → Prop} {M : Nat → Bool}
    (hmd : ∀ s, s ≠ 0 → s < 256 → a_module s = cg_b (M s)) (hp : p < 256) (hM : ∀ s, s ≠ 0 → s < 256 → (M s = true ↔ cg_Q (cg_E a_row) false q.testBit s = true)) (l0 : Nat → Nat)
    (hJ : ∀ l ar, (∀ j, j < 256 → ar j = nI (l j)) → (∀ j, l j ≤ 100) → cg_low (cg_E a_row) l → (∀ j, j ≠ p → l j = l0 j) → (∀ s, s ≠ 0 → s < 256 → M s = true → (∀ i, s.testBit i = true → p.testBit i = true) → l p ≤ l (cg_diff p s) + 1) → J (nI (p + 1)) a_row a_weight a_witness a_label a_order a_module ar) :
    ∀ d s, s + d = p + 1 → s ≠ 0 → ∀ l ar, (∀ j, j < 256 → ar j = nI (l j)) → (∀ j, l j ≤ 100) → cg_low (cg_E a_row) l → (∀ j, j ≠ p → l j = l0 j) → (∀ t, t ≠ 0 → t < s → M t = true → (∀ i, t.testBit i = true → p.testBit i = true) → l p ≤ l (cg_diff p t) + 1) → ∀ f, d < f →
    wY_colours_96 post J (nI q) (nI p) f_fresh f_n f_hasWitness f (nI s) a_row a_weight a_witness a_label a_order a_module ar := by
  intro d
  induction d with
  | zero =>
    intro s hs s0 l ar har h100 hlow hk hu f hf
    obtain ⟨m, rfl⟩ : ∃ m, f = m + 1 := ⟨f - 1, by omega⟩
    refine br_t (nI_lt (by omega) (by omega)) (nm_r (nI_1 p) (hJ l ar har h100 hlow hk ?_))
    intro t t0 t256 mt ht
    have := cg_sub_le ht
    exact hu t t0 (by omega) mt ht
  | succ d ih =>
    intro s hs s0 l ar har h100 hlow hk hu f hf
    obtain ⟨m, rfl⟩ : ∃ m, f = m + 1 := ⟨f - 1, by omega⟩
    have s256 : s < 256 := by omega
    have ext : ∀ l' : Nat → Nat, (∀ j, j ≠ p → l' j = l j) → l' p ≤ l p → (M s = true → (∀ i, s.testBit i = true → p.testBit i = true) → l' p ≤ l' (cg_diff p s) + 1) → ∀ t, t ≠ 0 → t < s + 1 → M t = true → (∀ i, t.testBit i = true → p.testBit i = true) → l' p ≤ l' (cg_diff p t) + 1 := by
      intro l' h1 h2 h3 t t0 ht mt sub
      by_cases e : t = s
      · subst e; exact h3 mt sub
      · have h4 := hu t t0 (by omega) mt sub
        have h5 := cg_diff_lt hp sub t0
        rw [h1 (cg_diff p t) (by omega)]
        omega
    refine br_f (nI_nlt (by omega) (by omega)) ⟨ib_in s256 (by omega), ?_⟩
    rw [ib_cl s256, hmd s s0 s256]
    by_cases ms : M s = true
    · refine br_f (cg_b_t ms) (yw_within s256 ?_)
      by_cases w : cg_in s (bt (nI p)) = true
      · have sub := (cg_within s256 hp).mp w
        have dl := cg_diff_lt hp sub s0
        have d256 : cg_diff p s < 256 := cg_cap_lt _ _
        have e1 := cg_diff_I hp s256
        refine br_f (cg_b_t w) ?_
        rw [e1, ib_cl d256, ib_cl hp, har p hp, har _ d256, nI_1]
        have b1 := h100 p
        have b2 := h100 (cg_diff p s)
        refine ⟨ib_in d256 (by omega), ib_in hp (by omega), ?_⟩
        by_cases z : l p ≤ l (cg_diff p s) + 1
        · exact br_t (nI_le z (by omega)) (nm_r (nI_1 s) (ih (s + 1) (by omega) (by omega) l ar har h100 hlow hk (ext l (fun _ _ => rfl) (Nat.le_refl _) (fun _ _ => z)) m (by omega)))
        · refine br_f (nI_ge (by omega) (by omega)) ⟨ib_in d256 (by omega), ib_in hp (by omega), nm_e (nm_r (nI_1 s) (ih (s + 1) (by omega) (by omega) (fun j => if j = p then l (cg_diff p s) + 1 else l j) _ ?_ ?_ (cg_low_upd hp s256 hlow ((hM s s0 s256).mp ms)) ?_ ?_ m (by omega)))⟩
          · intro j hj
            by_cases e : j = p
            · subst e; rw [pk_us, if_pos rfl]
            · rw [pk_un e, if_neg e]; exact har j hj
          · intro j
            show (if j = p then l (cg_diff p s) + 1 else l j) ≤ 100
            split
            · omega
            · exact h100 j
          · intro j hj
            show (if j = p then l (cg_diff p s) + 1 else l j) = l0 j
            rw [if_neg hj]; exact hk j hj
          · refine ext _ (fun j hj => if_neg hj) ?_ ?_
            · show (if p = p then l (cg_diff p s) + 1 else l p) ≤ l p
              rw [if_pos rfl]; omega
            · intro _ _
              show (if p = p then l (cg_diff p s) + 1 else l p) ≤ (if cg_diff p s = p then l (cg_diff p s) + 1 else l (cg_diff p s)) + 1
              rw [if_pos rfl, if_neg (by omega)]; omega
      · exact br_t (cg_b_0.mpr (cg_bF w)) (nm_r (nI_1 s) (ih (s + 1) (by omega) (by omega) l ar har h100 hlow hk (ext l (fun _ _ => rfl) (Nat.le_refl _) (fun _ sub => (w ((cg_within s256 hp).mpr sub)).elim)) m (by omega)))
    · exact br_t (cg_b_0.mpr (cg_bF ms)) (nm_r (nI_1 s) (ih (s + 1) (by omega) (by omega) l ar har h100 hlow hk (ext l (fun _ _ => rfl) (Nat.le_refl _) (fun z => (ms z).elim)) m (by omega)))
theorem yw_colours {post : Int32 → SY → Prop} {n q : Nat} (n8 : n ≤ 8) (hn : f_n = nI n) (hq : q < 2 ^ n) (hcol : cg_col (cg_E a_row) q.testBit (cg_M (cg_E a_row) true (fun _ => 1) q.testBit))
    (h : ∀ md ls, post (nI (cg_M (cg_E a_row) true (fun _ => 1) q.testBit)) (f_fresh, f_n, f_hasWitness, a_row, a_weight, a_witness, a_label, a_order, md, ls)) : wpY_colours post (f_fresh, f_n, f_hasWitness, a_row, a_weight, a_witness, a_label, a_order, a_module, a_least) (nI q) := by
  have q256 := cg_p256 n8 hq
  unfold wpY_colours
  refine yw_isSet1 n8 hn hq (br_f (by decide) ⟨257, ?_⟩)
  subst hn
  -- the last loop
  have loop3 : ∀ md : Nat → Int32, (∀ s, s ≠ 0 → s < 256 → md s = cg_b (cg_Q (cg_E a_row) false q.testBit s)) → ∀ d p, p + d = 256 → p ≠ 0 → ∀ l ar, (∀ j, j < 256 → ar j = nI (l j)) → (∀ j, l j ≤ 100) → l 0 = 0 → cg_low (cg_E a_row) l → cg_upp (fun s => cg_Q (cg_E a_row) false q.testBit s) l p → ∀ f, d < f →
      wY_colours_87 post (nI q) f_fresh (nI n) f_hasWitness f (nI p) a_row a_weight a_witness a_label a_order md ar := by
    intro md hmd d
    induction d with
    | zero =>
      intro p hp p0 l ar har h100 l0 hlow hupp f hf
      obtain ⟨m, rfl⟩ : ∃ m, f = m + 1 := ⟨f - 1, by omega⟩
      have : p = 256 := by omega
      subst this
      refine br_t (by decide) ⟨ib_in q256 (by omega), ?_⟩
      rw [ib_cl q256, har q q256]
      have up := cg_upp_col (E := cg_E a_row) q256 (fun s _ _ => Iff.rfl) l0 hupp _ q q256 (fun i hi => hi) hcol
      have lo : cg_M (cg_E a_row) true (fun _ => 1) q.testBit ≤ l q := by
        obtain ⟨Q, hQ, hq', e⟩ := cg_M_att (E := cg_E a_row) (w := true) (wt := fun _ => 1) (A := q.testBit)
        rw [e]; exact hlow q q256 Q hQ hq'
      rw [show l q = cg_M (cg_E a_row) true (fun _ => 1) q.testBit by omega]
      exact h md ar
    | succ d ih =>
      intro p hp p0 l ar har h100 l0 hlow hupp f hf
      obtain ⟨m, rfl⟩ : ∃ m, f = m + 1 := ⟨f - 1, by omega⟩
      refine br_f (nI_ge (b := 256) (by omega) (by decide)) ⟨p + 1, ?_⟩
      refine yw_col_96 (a_module := md) (M := fun s => cg_Q (cg_E a_row) false q.testBit s) hmd (show p < 256 by omega) (fun s _ _ => Iff.rfl) l ?_ p 1 (by omega) (by decide) l ar har h100 hlow (fun _ _ => rfl) (fun t t0 t1 => by omega) (p + 1) (by omega)
      intro l' ar' har' h100' hlow' hk' hu'
      refine ih (p + 1) (by omega) (by omega) l' ar' har' h100' (by rw [hk' 0 (by omega)]; exact l0) hlow' ?_ m (by omega)
      intro j hj s s0 s256 ms sub
      by_cases e : j = p
      · subst e; exact hu' s s0 s256 ms sub
      · have h1 := hupp j (by omega) s s0 s256 ms sub
        have h2 := cg_diff_lt (p := j) (by omega) sub s0
        rw [hk' j e, hk' (cg_diff j s) (by omega)]
        exact h1
  -- the modules
  have loop2 : ∀ d s, s + d = 256 → s ≠ 0 → ∀ md ar : Nat → Int32, (∀ t, t ≠ 0 → t < s → md t = cg_b (cg_Q (cg_E a_row) false q.testBit t)) → (∀ j, j < 256 → ar j = if j = 0 then 0 else 100) → ∀ f, d < f →
      wY_colours_43 post (nI q) f_fresh (nI n) f_hasWitness f (nI s) a_row a_weight a_witness a_label a_order md ar := by
    intro d
    induction d with
    | zero =>
      intro s hs s0 md ar hmd har f hf
      obtain ⟨m, rfl⟩ : ∃ m, f = m + 1 := ⟨f - 1, by omega⟩
      have : s = 256 := by omega
      subst this
      refine br_t (by decide) ⟨256, loop3 md hmd 255 1 rfl (by decide) (fun j => if j = 0 then 0 else 100) ar ?_ ?_ rfl ?_ ?_ 256 (by omega)⟩
      · intro j hj
        rw [har j hj]
        by_cases e : j = 0
        · rw [if_pos e, if_pos e]; rfl
        · rw [if_neg e, if_neg e]; rfl
      · intro j
        show (if j = 0 then 0 else 100) ≤ 100
        split <;> omega
      · intro p hp Q hQ hq'
        show _ ≤ if p = 0 then 0 else 100
        by_cases e : p = 0
        · subst e
          have : Q = 0 := cg_p0 fun i => cg_bF fun z => by
            have := (cg_Q_iff.mp hq').1 i (cg_p8 hQ z) z
            rw [Nat.zero_testBit] at this
            exact absurd this (by decide)
          rw [this, cg_ws_0]; omega
        · rw [if_neg e]
          have := cg_ws_le (wt := fun _ => 1) (c := 1) (fun _ => Nat.le_refl 1) Q
          omega
      · intro p hp s s0 _ _ sub
        have := cg_sub_le sub
        omega
    | succ d ih =>
      intro s hs s0 md ar hmd har f hf
      obtain ⟨m, rfl⟩ : ∃ m, f = m + 1 := ⟨f - 1, by omega⟩
      have is : vp_in (nI s) 256 := ib_in (show s < 256 by omega) (by omega)
      have go : ∀ b : Bool, cg_Q (cg_E a_row) false q.testBit s = b → wY_colours_43 post (nI q) f_fresh (nI n) f_hasWitness m (nI (s + 1)) a_row a_weight a_witness a_label a_order (upd md s (cg_b b)) ar := by
        intro b hb
        refine ih (s + 1) (by omega) (by omega) _ ar ?_ har m (by omega)
        intro t t0 ht
        by_cases e : t = s
        · subst e; rw [pk_us, hb]
        · rw [pk_un e]; exact hmd t t0 (by omega)
      refine br_f (nI_ge (b := 256) (by omega) (by decide)) (yw_within (show s < 256 by omega) ?_)
      rw [cg_withinS (by omega) q256]
      by_cases z : cg_in s q.testBit = true
      · refine br_f (cg_b_t z) (yw_uniform (w := false) n8 rfl (cg_part (by omega) hq z) ?_)
        have e : cg_Q (cg_E a_row) false q.testBit s = (cg_uni (cg_E a_row) false s && decide (s ≠ 0)) := by
          unfold cg_Q
          rw [z, decide_eq_true s0]
          cases cg_uni (cg_E a_row) false s <;> rfl
        rw [← e]
        by_cases t : cg_Q (cg_E a_row) false q.testBit s = true
        · refine br_f (cg_b_t t) ⟨is, nm_e (nm_r (nI_1 s) ?_)⟩
          rw [ib_cl (show s < 256 by omega)]
          exact go true t
        · refine br_t (cg_b_0.mpr (cg_bF t)) ⟨is, nm_e (nm_r (nI_1 s) ?_)⟩
          rw [ib_cl (show s < 256 by omega)]
          exact go false (cg_bF t)
      · refine br_t (cg_b_0.mpr (cg_bF z)) ⟨is, nm_e (nm_r (nI_1 s) ?_)⟩
        rw [ib_cl (show s < 256 by omega)]
        exact go false (by unfold cg_Q; rw [cg_bF z]; rfl)
  suffices loop : ∀ d p, p + d = 256 → ∀ ar : Nat → Int32, (∀ j, j < p → ar j = if j = 0 then 0 else 100) → ∀ f, d < f →
      wY_colours_12 post (nI q) f_fresh (nI n) f_hasWitness f (nI p) a_row a_weight a_witness a_label a_order a_module ar from loop 256 0 rfl a_least (fun j hj => (Nat.not_lt_zero j hj).elim) 257 (by omega)
  intro d
  induction d with
  | zero =>
    intro p hp ar har f hf
    obtain ⟨m, rfl⟩ : ∃ m, f = m + 1 := ⟨f - 1, by omega⟩
    have : p = 256 := by omega
    subst this
    exact br_t (by decide) ⟨256, loop2 255 1 rfl (by decide) a_module ar (fun t t0 t1 => by omega) har 256 (by omega)⟩
  | succ d ih =>
    intro p hp ar har f hf
    obtain ⟨m, rfl⟩ : ∃ m, f = m + 1 := ⟨f - 1, by omega⟩
    have ip : vp_in (nI p) 256 := ib_in (show p < 256 by omega) (by omega)
    refine br_f (nI_ge (b := 256) (by omega) (by decide)) ?_
    rw [ib_cl (show p < 256 by omega)]
    by_cases e : p = 0
    · refine br_t (by rw [e]; rfl) ⟨ip, nm_e (nm_r (nI_1 p) (ih (p + 1) (by omega) _ ?_ m (by omega)))⟩
      intro j hj
      have : j = p := by omega
      rw [this, pk_us, if_pos e]
    · refine br_f (nI_ne0 (by omega) (by omega)) ⟨ip, nm_e (nm_r (nI_1 p) (ih (p + 1) (by omega) _ ?_ m (by omega)))⟩
      intro j hj
      by_cases t : j = p
      · rw [t, pk_us, if_neg e]
      · rw [pk_un t]; exact har j (by omega)
end
theorem i_vc_colours {k : Nat} {u : SX} {v : SY} (I : i_Rel k u v) (hk : k + 3 ≤ 1537) (v1 : Int32) : wpX_colours (fun r u' => wpY_colours (fun r' v' => r' = r ∧ i_Rel (k + 3) u' v') v v1) u v1 := by
  obtain ⟨vc, root, used, nw, x1, x2, x3, x4, wk, kind, parent, leaves, children, weight, x5, x6, cells, x7⟩ := u
  obtain ⟨fresh, yn, hw, row, weight', wit, y1, y2, y3, y4⟩ := v
  have J := I
  obtain ⟨n, n8, rfl, rfl, _, _, _, G, T, _⟩ := J
  have z0 : ¬ (1 : Int32) = 0 := by decide
  unfold wpX_colours
  rcases cg_isSet n8 v1 with bad | ⟨p, hp, rfl⟩
  · refine xw_isSet0 rfl bad (br_t rfl ?_)
    unfold wpY_colours
    exact yw_isSet0 rfl bad (br_t rfl ⟨rfl, I⟩)
  · refine xw_isSet1 n8 rfl hp (br_f z0 (xw_eval_C (w := 4) (Or.inr rfl) T n8 hp ?_))
    intro len ord value
    dsimp only
    exact yw_colours n8 rfl hp (cg_colT T hp) (fun md ls => ⟨rfl, I⟩)
end
section
/-! ===== components ===== -/
/-- u and v within two steps in A -/
def cg_lk (E : Nat → Nat → Bool) (A : Nat → Bool) (u v : Nat) : Prop := E u v = true ∨ ∃ z, A z = true ∧ E u z = true ∧ E z v = true
/-- v is the least of its part of A -/
noncomputable def cg_hd (E : Nat → Nat → Bool) (A : Nat → Bool) (v : Nat) : Bool := A v && !cg_D (∃ u, u < v ∧ A u = true ∧ cg_lk E A u v)
theorem cg_hd_iff {E : Nat → Nat → Bool} {A : Nat → Bool} {v : Nat} : cg_hd E A v = true ↔ A v = true ∧ ¬ ∃ u, u < v ∧ A u = true ∧ cg_lk E A u v := by
  unfold cg_hd
  rw [Bool.and_eq_true, Bool.not_eq_true', cg_D_f]
noncomputable def cg_K (E : Nat → Nat → Bool) (A : Nat → Bool) : Nat := cg_cnt (cg_hd E A) 8
section
variable {E : Nat → Nat → Bool} {A B : Nat → Bool}
theorem cg_K_le : cg_K E A ≤ 8 := cg_cnt_le _ 8
theorem cg_K_0 : cg_K E (fun _ => false) = 0 := cg_cnt_zero 8 (fun i _ => cg_bF fun z => Bool.noConfusion (cg_hd_iff.mp z).1)
theorem cg_K_ne {v : Nat} (v8 : v < 8) (hv : A v = true) : cg_K E A ≠ 0 := by
  obtain ⟨m, hm, hl⟩ := pk_least (fun v => A v = true) ⟨v, hv⟩
  have mv : m ≤ v := Nat.le_of_not_lt fun z => hl v z hv
  have := cg_cnt_pos (A := cg_hd E A) (j := m) (k := 8) (by omega) (cg_hd_iff.mpr ⟨hm, fun ⟨u, hu, au, _⟩ => hl u hu au⟩)
  unfold cg_K
  omega
theorem cg_K_one {v : Nat} (v8 : v < 8) (hA : ∀ i, A i = true ↔ i = v) : cg_K E A = 1 := by
  unfold cg_K
  rw [← cg_cnt_one 8 v v8]
  apply cg_cnt_congr
  intro i _
  cases z : cg_hd E A i
  · symm
    refine decide_eq_false fun e => ?_
    have : cg_hd E A i = true := cg_hd_iff.mpr ⟨(hA i).mpr e, fun ⟨u, hu, au, _⟩ => by have := (hA u).mp au; omega⟩
    rw [z] at this; exact absurd this (by decide)
  · exact (decide_eq_true ((hA i).mp (cg_hd_iff.mp z).1)).symm
theorem cg_K_half (hs : cg_sep E false A B) {v : Nat} (hv : A v = true) : cg_hd E (fun v => A v || B v) v = cg_hd E A v := by
  have key : (∃ u, u < v ∧ (A u || B u) = true ∧ cg_lk E (fun v => A v || B v) u v) ↔ ∃ u, u < v ∧ A u = true ∧ cg_lk E A u v := by
    constructor
    · rintro ⟨u, hu, au, l⟩
      rw [Bool.or_eq_true] at au
      rcases au with a | b
      · refine ⟨u, hu, a, ?_⟩
        rcases l with e | ⟨z, az, e1, e2⟩
        · exact Or.inl e
        · have az : (A z || B z) = true := az
          rw [Bool.or_eq_true] at az
          rcases az with c | c
          · exact Or.inr ⟨z, c, e1, e2⟩
          · rw [(hs u z a c).2.1] at e1; exact absurd e1 (by decide)
      · rcases l with e | ⟨z, az, e1, e2⟩
        · rw [(hs v u hv b).2.2] at e; exact absurd e (by decide)
        · have az : (A z || B z) = true := az
          rw [Bool.or_eq_true] at az
          rcases az with c | c
          · rw [(hs z u c b).2.2] at e1; exact absurd e1 (by decide)
          · rw [(hs v z hv c).2.2] at e2; exact absurd e2 (by decide)
    · rintro ⟨u, hu, a, l⟩
      refine ⟨u, hu, by rw [a]; rfl, ?_⟩
      rcases l with e | ⟨z, az, e1, e2⟩
      · exact Or.inl e
      · exact Or.inr ⟨z, by show (A z || B z) = true; rw [az]; rfl, e1, e2⟩
  cases z : cg_hd E A v
  · refine cg_bF fun t => ?_
    have : cg_hd E A v = true := cg_hd_iff.mpr ⟨hv, fun y => (cg_hd_iff.mp t).2 (key.mpr y)⟩
    rw [z] at this; exact absurd this (by decide)
  · exact cg_hd_iff.mpr ⟨by show (A v || B v) = true; rw [hv]; rfl, fun y => (cg_hd_iff.mp z).2 (key.mp y)⟩
theorem cg_sep_sym {b : Bool} (hs : cg_sep E b A B) : cg_sep E b B A := fun u v hu hv => ⟨Ne.symm (hs v u hv hu).1, (hs v u hv hu).2.2, (hs v u hv hu).2.1⟩
theorem cg_K_add (hs : cg_sep E false A B) : cg_K E (fun v => A v || B v) = cg_K E A + cg_K E B := by
  unfold cg_K
  rw [← cg_cnt_or 8 (fun i _ a b => (hs i i (cg_hd_iff.mp a).1 (cg_hd_iff.mp b).1).1 rfl)]
  apply cg_cnt_congr
  intro v _
  have comm : (fun v => A v || B v) = fun v => B v || A v := by funext i; cases A i <;> cases B i <;> rfl
  by_cases a : A v = true
  · rw [cg_K_half hs a]
    have : cg_hd E B v = false := cg_bF fun z => (hs v v a (cg_hd_iff.mp z).1).1 rfl
    rw [this]; simp
  · have ha : cg_hd E A v = false := cg_bF fun z => a (cg_hd_iff.mp z).1
    by_cases b : B v = true
    · rw [comm, cg_K_half (cg_sep_sym hs) b, ha]; rfl
    · have hb : cg_hd E B v = false := cg_bF fun z => b (cg_hd_iff.mp z).1
      rw [ha, hb]
      refine cg_bF fun z => ?_
      have := (cg_hd_iff.mp z).1
      have this : (A v || B v) = true := this
      rw [cg_bF a, cg_bF b] at this
      exact absurd this (by decide)
theorem cg_K_join (ha : ∀ v, A v = true → v < 8) (hb : ∀ v, B v = true → v < 8) (hs : cg_sep E true A B) : cg_K E (fun v => A v || B v) = if cg_K E B = 0 then cg_K E A else if cg_K E A = 0 then cg_K E B else 1 := by
  by_cases zb : cg_K E B = 0
  · rw [if_pos zb]
    congr 1
    funext v
    cases q : B v
    · simp
    · exact (cg_K_ne (hb v q) q zb).elim
  · rw [if_neg zb]
    by_cases za : cg_K E A = 0
    · rw [if_pos za]
      congr 1
      funext v
      cases q : A v
      · simp
      · exact (cg_K_ne (ha v q) q za).elim
    · rw [if_neg za]
      have exA : ∃ a, A a = true := Classical.byContradiction fun z => za (cg_cnt_zero 8 fun i _ => cg_bF fun t => z ⟨i, (cg_hd_iff.mp t).1⟩)
      have exB : ∃ b, B b = true := Classical.byContradiction fun z => zb (cg_cnt_zero 8 fun i _ => cg_bF fun t => z ⟨i, (cg_hd_iff.mp t).1⟩)
      obtain ⟨a, aa⟩ := exA
      obtain ⟨b, bb⟩ := exB
      have linked : ∀ u v, (A u || B u) = true → (A v || B v) = true → cg_lk E (fun v => A v || B v) u v := by
        intro u v hu hv
        rw [Bool.or_eq_true] at hu hv
        rcases hu with hu | hu <;> rcases hv with hv | hv
        · exact Or.inr ⟨b, by show (A b || B b) = true; rw [bb]; simp, (hs u b hu bb).2.1, (hs v b hv bb).2.2⟩
        · exact Or.inl (hs u v hu hv).2.1
        · exact Or.inl (hs v u hv hu).2.2
        · exact Or.inr ⟨a, by show (A a || B a) = true; rw [aa]; rfl, (hs a u aa hu).2.2, (hs a v aa hv).2.1⟩
      obtain ⟨m, hm, hl⟩ := pk_least (fun v => (A v || B v) = true) ⟨a, by rw [aa]; rfl⟩
      have m8 : m < 8 := by
        have := hm
        rw [Bool.or_eq_true] at this
        exact this.elim (ha m) (hb m)
      unfold cg_K
      rw [← cg_cnt_one 8 m m8]
      apply cg_cnt_congr
      intro v _
      cases z : cg_hd E (fun v => A v || B v) v
      · symm
        refine decide_eq_false fun e => ?_
        have : cg_hd E (fun v => A v || B v) v = true := cg_hd_iff.mpr ⟨by rw [e]; exact hm, fun ⟨u, hu, au, _⟩ => hl u (by omega) au⟩
        rw [z] at this; exact absurd this (by decide)
      · symm
        obtain ⟨hv, hno⟩ := cg_hd_iff.mp z
        refine decide_eq_true (Classical.byContradiction fun ne => hno ⟨m, ?_, hm, linked m v hm hv⟩)
        have : ¬ v < m := fun t => hl v t hv
        omega
end
section
variable {V U : Nat → Bool} {r : Nat} {K P : Nat → Int32} {L E C : Nat → Nat → Bool}
theorem cg_innK (B : tw_B V U r K P L E) (hC : tw_C U P C) {x : Nat} (hx : U x = true) (kx : K x ≠ 0) (S : Nat → Bool) :
    (decide (K x = 2) = true → cg_fold (cg_fprt (fun y => cg_K E (fun v => S v && L y v))) 0 (C x) 20 = cg_K E (fun v => S v && L x v)) ∧
    (decide (K x = 2) = false → cg_fold (cg_fsum (fun y => cg_K E (fun v => S v && L y v))) 0 (C x) 20 = cg_K E (fun v => S v && L x v)) := by
  constructor
  · intro hk
    refine cg_foldG B hC hx kx S (cg_K E) _ 0 cg_K_0 ?_
    intro k A uk ha hs
    rw [hk] at hs
    exact cg_K_join ha (fun v hv => by simp only [Bool.and_eq_true] at hv; exact tw_L8 B uk hv.2) (cg_sep_of hs)
  · intro hk
    refine cg_foldG B hC hx kx S (cg_K E) _ 0 cg_K_0 ?_
    intro k A uk ha hs
    rw [hk] at hs
    exact cg_K_add (cg_sep_of hs)
end
section
variable {f_vertexCount f_root f_usedNodes f_newWeight f_wholeChildren f_emptyChildren f_partChildren f_orderLength f_witnessKept : Int32} {a_kind a_parent a_leaves a_children a_weight a_order a_value a_witnessCells a_row : Nat → Int32}
theorem xw_eval_K {post : Int32 → SX → Prop} {n q : Nat} {E : Nat → Nat → Bool} (T : cg_T n f_root f_usedNodes a_kind a_parent a_leaves a_children E) (n8 : n ≤ 8) (hq : q < 2 ^ n)
    (h : ∀ len ord value, post (nI (cg_K E q.testBit)) (f_vertexCount, f_root, f_usedNodes, f_newWeight, f_wholeChildren, f_emptyChildren, f_partChildren, len, f_witnessKept, a_kind, a_parent, a_leaves, a_children, a_weight, ord, value, a_witnessCells, a_row)) : wpX_evaluate post (f_vertexCount, f_root, f_usedNodes, f_newWeight, f_wholeChildren, f_emptyChildren, f_partChildren, f_orderLength, f_witnessKept, a_kind, a_parent, a_leaves, a_children, a_weight, a_order, a_value, a_witnessCells, a_row) (nI q) (nI 6) := by
  refine xw_evalT (F := cg_K E) (by omega) T n8 hq cg_K_0 (fun A => ?_) ?_ ?_ h
  · have := cg_K_le (E := E) (A := A)
    omega
  · intro A v v8 hA
    exact ⟨fun _ => cg_K_one v8 hA, fun z => by omega⟩
  · intro r B hC x hx kx
    obtain ⟨i1, i2⟩ := cg_innK B hC hx kx q.testBit
    show cg_K E _ = if decide (a_kind x = 2) = true then _ else _
    by_cases k : a_kind x = 2
    · rw [if_pos (decide_eq_true k)]
      exact (i1 (decide_eq_true k)).symm
    · rw [if_neg (by simp [k])]
      exact (i2 (decide_eq_false k)).symm
end
end
section
/-- the labels: each one names a vertex of the same part, not above the vertex itself -/
def cg_lab (E : Nat → Nat → Bool) (S : Nat → Bool) (n : Nat) (lb : Nat → Nat) : Prop := ∀ v, v < n → lb v ≤ v ∧ (lb v ≠ v → S v = true ∧ S (lb v) = true ∧ cg_lk E S (lb v) v)
theorem cg_lab_upd {E : Nat → Nat → Bool} {S : Nat → Bool} {n u v : Nat} {lb : Nat → Nat} (sy : ∀ u v, u < n → v < n → E u v = E v u) (hS : ∀ v, S v = true → v < n)
    (p4 : ∀ a b c d, a < n → b < n → c < n → d < n → E a b = true → E b c = true → E c d = true → E a c = false → E a d = false → E b d = false → False)
    (h : cg_lab E S n lb) (su : S u = true) (sv : S v = true) (e : E u v = true) (lt : lb v < lb u) : cg_lab E S n (fun j => if j = u then lb v else lb j) := by
  have un := hS u su
  have vn := hS v sv
  obtain ⟨hu1, _⟩ := h u un
  obtain ⟨hv1, hv2⟩ := h v vn
  have evu : E v u = true := by rw [sy v u vn un]; exact e
  intro j hj
  show (if j = u then lb v else lb j) ≤ j ∧ ((if j = u then lb v else lb j) ≠ j → S j = true ∧ S (if j = u then lb v else lb j) = true ∧ cg_lk E S (if j = u then lb v else lb j) j)
  by_cases ju : j = u
  · subst ju
    rw [if_pos rfl]
    refine ⟨by omega, fun _ => ?_⟩
    by_cases w : lb v = v
    · rw [w]
      exact ⟨su, sv, Or.inl evu⟩
    · obtain ⟨_, s2, l⟩ := hv2 w
      refine ⟨su, s2, ?_⟩
      have wn := hS _ s2
      rcases l with e1 | ⟨z, sz, e1, e2⟩
      · exact Or.inr ⟨v, sv, e1, evu⟩
      · have zn := hS z sz
        by_cases c1 : E (lb v) j = true
        · exact Or.inl c1
        · by_cases c2 : E (lb v) v = true
          · exact Or.inr ⟨v, sv, c2, evu⟩
          · by_cases c3 : E z j = true
            · exact Or.inr ⟨z, sz, e1, c3⟩
            · exact (p4 (lb v) z v j wn zn vn un e1 e2 evu (cg_bF c2) (cg_bF c1) (cg_bF c3)).elim
  · rw [if_neg ju]
    exact h j hj
section
variable {f_fresh f_n f_hasWitness : Int32} {a_row a_weight a_witness a_label a_order a_module a_least : Nat → Int32}
theorem yw_components {post : Int32 → SY → Prop} {n q : Nat} (n8 : n ≤ 8) (hn : f_n = nI n) (hq : q < 2 ^ n)
    (sy : ∀ u v, u < n → v < n → cg_E a_row u v = cg_E a_row v u) (ir : ∀ u, u < n → cg_E a_row u u = false) (up : ∀ u v, u < n → cg_E a_row u v = true → v < n)
    (p4 : ∀ a b c d, a < n → b < n → c < n → d < n → cg_E a_row a b = true → cg_E a_row b c = true → cg_E a_row c d = true → cg_E a_row a c = false → cg_E a_row a d = false → cg_E a_row b d = false → False)
    (h : ∀ lab, post (nI (cg_K (cg_E a_row) q.testBit)) (f_fresh, f_n, f_hasWitness, a_row, a_weight, a_witness, lab, a_order, a_module, a_least)) : wpY_components post (f_fresh, f_n, f_hasWitness, a_row, a_weight, a_witness, a_label, a_order, a_module, a_least) (nI q) := by
  have q256 := cg_p256 n8 hq
  have bq : ∀ j, bt (nI q) j = q.testBit j := fun j => ib_nI' (by omega) j
  have hS : ∀ v, q.testBit v = true → v < n := fun v hv => cg_pbit hq hv
  unfold wpY_components
  refine yw_isSet1 n8 hn hq (br_f (by decide) ⟨n + 1, ?_⟩)
  subst hn
  -- the count
  have loop4 : ∀ (lb : Nat → Nat) (lab : Nat → Int32), (∀ v, v < n → lab v = nI (lb v)) → (∀ v, v < n → lb v ≤ v) → (∀ v, v < n → q.testBit v = true → (lb v = v ↔ cg_hd (cg_E a_row) q.testBit v = true)) →
      ∀ d i, i + d = n → ∀ f, d < f → wY_components_140 post (nI q) f_fresh (nI n) f_hasWitness a_row a_weight a_witness lab a_order a_module a_least f (nI (cg_cnt (cg_hd (cg_E a_row) q.testBit) i)) (nI i) := by
    intro lb lab hlab hle hhd d
    induction d with
    | zero =>
      intro i hi f hf
      obtain ⟨m, rfl⟩ : ∃ m, f = m + 1 := ⟨f - 1, by omega⟩
      have : i = n := by omega
      subst this
      have e : cg_cnt (cg_hd (cg_E a_row) q.testBit) i = cg_K (cg_E a_row) q.testBit := (cg_cnt_ext n8 (fun j _ hj => hS j (cg_hd_iff.mp hj).1)).symm
      rw [e]
      exact br_t (nI_le (Nat.le_refl _) (by omega)) (h lab)
    | succ d ih =>
      intro i hi f hf
      obtain ⟨m, rfl⟩ : ∃ m, f = m + 1 := ⟨f - 1, by omega⟩
      have go := ih (i + 1) (by omega) m (by omega)
      have e : cg_cnt (cg_hd (cg_E a_row) q.testBit) (i + 1) = cg_cnt (cg_hd (cg_E a_row) q.testBit) i + (if cg_hd (cg_E a_row) q.testBit i = true then 1 else 0) := rfl
      rw [e] at go
      refine br_f (nI_ge (by omega) (by omega)) (yw_has (by omega) ?_)
      rw [bq]
      by_cases z : q.testBit i = true
      · refine br_f (cg_b_t z) ⟨ib_in (show i < 8 by omega) (by omega), ?_⟩
        rw [ib_cl (show i < 256 by omega), hlab i (by omega)]
        have hb := hle i (by omega)
        by_cases t : lb i = i
        · rw [if_pos ((hhd i (by omega) z).mp t)] at go
          exact br_t (by rw [t]) (nm_r (nI_1 _) (nm_r (nI_1 i) go))
        · rw [if_neg (fun y => t ((hhd i (by omega) z).mpr y))] at go
          exact br_f (fun y => t ((nI_eq (by omega) (by omega)).mp y)) (nm_r (nI_1 i) go)
      · rw [if_neg (fun y => z (cg_hd_iff.mp y).1)] at go
        exact br_t (cg_b_0.mpr (cg_bF z)) (nm_r (nI_1 i) go)
  -- one round
  have loop3 : ∀ (x2 : Nat) (J : Int32 → (Nat → Int32) → (Nat → Int32) → (Nat → Int32) → (Nat → Int32) → (Nat → Int32) → (Nat → Int32) → (Nat → Int32) → Prop) (l0 : Nat → Nat),
      (∀ lb lab, (∀ v, v < n → lab v = nI (lb v)) → cg_lab (cg_E a_row) q.testBit n lb → (∀ u v, q.testBit u = true → q.testBit v = true → cg_E a_row u v = true → lb u ≤ l0 v) → (∀ v, lb v ≤ l0 v) → J (nI (x2 + 1)) a_row a_weight a_witness lab a_order a_module a_least) →
      ∀ d k, k + d = 64 → ∀ lb lab, (∀ v, v < n → lab v = nI (lb v)) → cg_lab (cg_E a_row) q.testBit n lb → (∀ u v, u < 8 → v < 8 → u * 8 + v < k → q.testBit u = true → q.testBit v = true → cg_E a_row u v = true → lb u ≤ l0 v) → (∀ v, lb v ≤ l0 v) → ∀ f, d < f →
      wY_components_45 post J (nI q) (nI x2) f_fresh (nI n) f_hasWitness f (nI k) a_row a_weight a_witness lab a_order a_module a_least := by
    intro x2 J l0 hJ d
    induction d with
    | zero =>
      intro k hk lb lab hlab hl hc hle f hf
      obtain ⟨m, rfl⟩ : ∃ m, f = m + 1 := ⟨f - 1, by omega⟩
      have : k = 64 := by omega
      subst this
      refine br_t (by decide) (nm_r (nI_1 x2) (hJ lb lab hlab hl (fun u v su sv e => hc u v ?_ ?_ ?_ su sv e) hle))
      · have := hS u su; omega
      · have := hS v sv; omega
      · have := hS u su
        have := hS v sv
        omega
    | succ d ih =>
      intro k hk lb lab hlab hl hc hle f hf
      obtain ⟨m, rfl⟩ : ∃ m, f = m + 1 := ⟨f - 1, by omega⟩
      have k64 : k < 64 := by omega
      have d1 : nI k >>> ((3 : Int32) &&& 31) = nI (k / 8) := pk_shrN (by omega) _ 3 (by decide)
      have d2 : nI k &&& 7 = nI (k % 8) := pk_andN (by omega) 3 (by decide)
      have u8 : k / 8 < 8 := by omega
      have v8 : k % 8 < 8 := by omega
      obtain ⟨u, hu⟩ : ∃ u, u = k / 8 := ⟨_, rfl⟩
      obtain ⟨v, hv⟩ : ∃ v, v = k % 8 := ⟨_, rfl⟩
      rw [← hu] at d1 u8
      rw [← hv] at d2 v8
      have ext : ∀ lb' : Nat → Nat, (∀ j, lb' j ≤ lb j) → (q.testBit u = true → q.testBit v = true → cg_E a_row u v = true → lb' u ≤ l0 v) → ∀ a b, a < 8 → b < 8 → a * 8 + b < k + 1 → q.testBit a = true → q.testBit b = true → cg_E a_row a b = true → lb' a ≤ l0 b := by
        intro lb' h1 h2 a b ha hb hab sa sb e
        by_cases z : a * 8 + b < k
        · exact Nat.le_trans (h1 a) (hc a b ha hb z sa sb e)
        · have ea : a = u := by omega
          have eb : b = v := by omega
          subst ea eb
          exact h2 sa sb e
      refine br_f (nI_ge (b := 64) k64 (by decide)) (nm_r d1 (nm_r d2 (yw_has (by omega) ?_)))
      rw [bq]
      by_cases su : q.testBit u = true
      · refine br_f (cg_b_t su) (yw_has (by omega) ?_)
        rw [bq]
        by_cases sv : q.testBit v = true
        · have un := hS u su
          have vn := hS v sv
          refine br_f (cg_b_t sv) (yw_linked (by omega) (by omega) ?_)
          by_cases e : cg_E a_row u v = true
          · have iu : vp_in (nI u) 8 := ib_in u8 (by omega)
            have iv : vp_in (nI v) 8 := ib_in v8 (by omega)
            refine br_f (cg_b_t e) ⟨iv, iu, ?_⟩
            rw [ib_cl (show u < 256 by omega), ib_cl (show v < 256 by omega), hlab u un, hlab v vn]
            have b1 := (hl u un).1
            have b2 := (hl v vn).1
            by_cases z : lb u ≤ lb v
            · exact br_t (nI_le z (by omega)) (nm_r (nI_1 k) (ih (k + 1) (by omega) lb lab hlab hl (ext lb (fun _ => Nat.le_refl _) (fun _ _ _ => Nat.le_trans z (hle v))) hle m (by omega)))
            · refine br_f (nI_ge (by omega) (by omega)) ⟨iv, iu, nm_e (nm_r (nI_1 k) (ih (k + 1) (by omega) (fun j => if j = u then lb v else lb j) _ ?_ (cg_lab_upd sy hS p4 hl su sv e (by omega)) (ext _ ?_ ?_) ?_ m (by omega)))⟩
              · intro j hj
                by_cases t : j = u
                · subst t; rw [pk_us, if_pos rfl]
                · rw [pk_un t, if_neg t]; exact hlab j hj
              · intro j
                show (if j = u then lb v else lb j) ≤ lb j
                by_cases t : j = u
                · rw [if_pos t, t]; omega
                · rw [if_neg t]; omega
              · intro _ _ _
                show (if u = u then lb v else lb u) ≤ l0 v
                rw [if_pos rfl]; exact hle v
              · intro j
                show (if j = u then lb v else lb j) ≤ l0 j
                by_cases t : j = u
                · rw [if_pos t, t]; have := hle u; omega
                · rw [if_neg t]; exact hle j
          · exact br_t (cg_b_0.mpr (cg_bF e)) (nm_r (nI_1 k) (ih (k + 1) (by omega) lb lab hlab hl (ext lb (fun _ => Nat.le_refl _) (fun _ _ z => (e z).elim)) hle m (by omega)))
        · exact br_t (cg_b_0.mpr (cg_bF sv)) (nm_r (nI_1 k) (ih (k + 1) (by omega) lb lab hlab hl (ext lb (fun _ => Nat.le_refl _) (fun _ z _ => (sv z).elim)) hle m (by omega)))
      · exact br_t (cg_b_0.mpr (cg_bF su)) (nm_r (nI_1 k) (ih (k + 1) (by omega) lb lab hlab hl (ext lb (fun _ => Nat.le_refl _) (fun z _ _ => (su z).elim)) hle m (by omega)))
  -- the rounds
  have loop2 : ∀ d i, i + d = n → ∀ lb lab, (∀ v, v < n → lab v = nI (lb v)) → cg_lab (cg_E a_row) q.testBit n lb → (∀ v, lb v ≤ v) → (1 ≤ i → ∀ u v, q.testBit u = true → q.testBit v = true → cg_E a_row u v = true → lb u ≤ v) → (2 ≤ i → ∀ u z v, q.testBit u = true → q.testBit z = true → q.testBit v = true → cg_E a_row u z = true → cg_E a_row z v = true → lb u ≤ v) → ∀ f, d < f →
      wY_components_35 post (nI q) f_fresh (nI n) f_hasWitness f (nI i) a_row a_weight a_witness lab a_order a_module a_least := by
    intro d
    induction d with
    | zero =>
      intro i hi lb lab hlab hl hle c1 c2 f hf
      obtain ⟨m, rfl⟩ : ∃ m, f = m + 1 := ⟨f - 1, by omega⟩
      have : i = n := by omega
      subst this
      refine br_t (nI_le (Nat.le_refl _) (by omega)) ⟨i + 1, loop4 lb lab hlab (fun v _ => hle v) ?_ i 0 (by omega) (i + 1) (by omega)⟩
      intro v hv sv
      rw [cg_hd_iff]
      constructor
      · intro e
        refine ⟨sv, fun ⟨u, hu, su, l⟩ => ?_⟩
        have un := hS u su
        rcases l with e1 | ⟨z, sz, e1, e2⟩
        · have := c1 (by omega) v u sv su (by rw [sy v u hv un]; exact e1)
          omega
        · have zn := hS z sz
          have zu : z ≠ u := fun t => by rw [t, ir u un] at e1; exact absurd e1 (by decide)
          have zv : z ≠ v := fun t => by rw [t, ir v hv] at e2; exact absurd e2 (by decide)
          have := c2 (by omega) v z u sv sz su (by rw [sy v z hv zn]; exact e2) (by rw [sy z u zn un]; exact e1)
          omega
      · rintro ⟨_, hno⟩
        refine Classical.byContradiction fun ne => ?_
        obtain ⟨_, s2, l⟩ := (hl v hv).2 ne
        exact hno ⟨lb v, by have := hle v; omega, s2, l⟩
    | succ d ih =>
      intro i hi lb lab hlab hl hle c1 c2 f hf
      obtain ⟨m, rfl⟩ : ∃ m, f = m + 1 := ⟨f - 1, by omega⟩
      refine br_f (nI_ge (by omega) (by omega)) ⟨65, loop3 i _ lb ?_ 64 0 rfl lb lab hlab hl (fun u v _ _ z => (Nat.not_lt_zero _ z).elim) (fun _ => Nat.le_refl _) 65 (by omega)⟩
      intro lb' lab' hlab' hl' hc' hle'
      refine ih (i + 1) (by omega) lb' lab' hlab' hl' (fun v => Nat.le_trans (hle' v) (hle v)) ?_ ?_ m (by omega)
      · intro _ u v su sv e
        exact Nat.le_trans (hc' u v su sv e) (hle v)
      · intro hi2 u z v su sz sv e1 e2
        exact Nat.le_trans (hc' u z su sz e1) (c1 (by omega) z v sz sv e2)
  suffices loop : ∀ d i, i + d = n → ∀ lab : Nat → Int32, (∀ v, v < i → lab v = nI v) → ∀ f, d < f → wY_components_12 post (nI q) f_fresh (nI n) f_hasWitness f (nI i) a_row a_weight a_witness lab a_order a_module a_least from
    loop n 0 (by omega) a_label (fun v hv => (Nat.not_lt_zero v hv).elim) (n + 1) (by omega)
  intro d
  induction d with
  | zero =>
    intro i hi lab hlab f hf
    obtain ⟨m, rfl⟩ : ∃ m, f = m + 1 := ⟨f - 1, by omega⟩
    have : i = n := by omega
    subst this
    exact br_t (nI_le (Nat.le_refl _) (by omega)) ⟨i + 1, loop2 i 0 (by omega) (fun v => v) lab hlab (fun v _ => ⟨Nat.le_refl v, fun z => (z rfl).elim⟩) (fun v => Nat.le_refl v) (fun z => by omega) (fun z => by omega) (i + 1) (by omega)⟩
  | succ d ih =>
    intro i hi lab hlab f hf
    obtain ⟨m, rfl⟩ : ∃ m, f = m + 1 := ⟨f - 1, by omega⟩
    refine br_f (nI_ge (by omega) (by omega)) ⟨ib_in (show i < 8 by omega) (by omega), nm_e (nm_r (nI_1 i) (ih (i + 1) (by omega) _ ?_ m (by omega)))⟩
    intro v hv
    rw [ib_cl (show i < 256 by omega)]
    by_cases e : v = i
    · subst e; rw [pk_us]
    · rw [pk_un e]; exact hlab v (by omega)
end
/-- no four-path in a graph that has its tree -/
theorem cg_noP4 {n : Nat} {root used : Int32} {kind parent leaves children : Nat → Int32} {E : Nat → Nat → Bool} (T : cg_T n root used kind parent leaves children E) {a b c d : Nat} (ha : a < n) (hb : b < n) (hc : c < n) (hd : d < n)
    (h1 : E a b = true) (h2 : E b c = true) (h3 : E c d = true) (h4 : E a c = false) (h5 : E a d = false) (h6 : E b d = false) : False := by
  rcases T with ⟨n0, _⟩ | ⟨_, _, r, _, B, _, _⟩
  · omega
  · have inR : ∀ x, x < n → (fun x => bt (leaves x)) r x = true := fun x hx => tw_rL B (by simp [hx])
    exact tw_p4 B h1 h2 h3 h4 h5 h6 8 r (cg_cnt_le _ 8) (tw_rU B) (inR a ha) (inR b hb) (inR c hc) (inR d hd)
theorem i_vc_components {k : Nat} {u : SX} {v : SY} (I : i_Rel k u v) (hk : k + 3 ≤ 1537) (v1 : Int32) : wpX_components (fun r u' => wpY_components (fun r' v' => r' = r ∧ i_Rel (k + 3) u' v') v v1) u v1 := by
  obtain ⟨vc, root, used, nw, x1, x2, x3, x4, wk, kind, parent, leaves, children, weight, x5, x6, cells, x7⟩ := u
  obtain ⟨fresh, yn, hw, row, weight', wit, y1, y2, y3, y4⟩ := v
  have J := I
  obtain ⟨n, n8, rfl, rfl, _, _, _, G, T, _⟩ := J
  have z0 : ¬ (1 : Int32) = 0 := by decide
  unfold wpX_components
  rcases cg_isSet n8 v1 with bad | ⟨p, hp, rfl⟩
  · refine xw_isSet0 rfl bad (br_t rfl ?_)
    unfold wpY_components
    exact yw_isSet0 rfl bad (br_t rfl ⟨rfl, I⟩)
  · refine xw_isSet1 n8 rfl hp (br_f z0 (xw_eval_K T n8 hp ?_))
    intro len ord value
    dsimp only
    exact yw_components n8 rfl hp G.2.1 G.2.2 (fun u v hu e => (G.1 u v (by omega) e).2) (fun a b c d ha hb hc hd => cg_noP4 T ha hb hc hd) (fun lab => ⟨rfl, I⟩)
end
section
/-! ===== the fewest paths ===== -/
/-- the paths into which a list of vertices falls -/
def pc_cost (E : Nat → Nat → Bool) : List Nat → Nat
  | [] => 0
  | [_] => 1
  | x :: y :: l => (if E x y = true then 0 else 1) + pc_cost E (y :: l)
def pc_enum (A : Nat → Bool) (l : List Nat) : Prop := l.Nodup ∧ ∀ v, v ∈ l ↔ A v = true
section
variable {E : Nat → Nat → Bool}
theorem pc_cost_le : ∀ l : List Nat, pc_cost E l ≤ l.length
  | [] => Nat.le_refl _
  | [_] => Nat.le_refl _
  | x :: y :: l => by
    have := pc_cost_le (y :: l)
    show (if E x y = true then 0 else 1) + pc_cost E (y :: l) ≤ (y :: l).length + 1
    split <;> omega
theorem pc_cost_pos : ∀ (x : Nat) (l : List Nat), 1 ≤ pc_cost E (x :: l)
  | _, [] => Nat.le_refl _
  | x, y :: l => by
    have := pc_cost_pos y l
    show 1 ≤ (if E x y = true then 0 else 1) + pc_cost E (y :: l)
    omega
theorem pc_cost_cons (x : Nat) (l : List Nat) : pc_cost E l ≤ pc_cost E (x :: l) ∧ pc_cost E (x :: l) ≤ 1 + pc_cost E l := by
  cases l with
  | nil => exact ⟨Nat.zero_le _, Nat.le_refl _⟩
  | cons y l =>
    show pc_cost E (y :: l) ≤ (if E x y = true then 0 else 1) + pc_cost E (y :: l) ∧ (if E x y = true then 0 else 1) + pc_cost E (y :: l) ≤ 1 + pc_cost E (y :: l)
    split <;> omega
theorem pc_app : ∀ l r : List Nat, pc_cost E (l ++ r) ≤ pc_cost E l + pc_cost E r
  | [], r => by
    show pc_cost E r ≤ 0 + pc_cost E r
    omega
  | [x], r => by
    have := (pc_cost_cons (E := E) x r).2
    show pc_cost E (x :: r) ≤ 1 + pc_cost E r
    exact this
  | x :: y :: l, r => by
    have := pc_app (y :: l) r
    show (if E x y = true then 0 else 1) + pc_cost E (y :: l ++ r) ≤ (if E x y = true then 0 else 1) + pc_cost E (y :: l) + pc_cost E r
    omega
theorem pc_cat {y : Nat} {r : List Nat} : ∀ p : List Nat, p ≠ [] → (∀ x, x ∈ p → E x y = true) → pc_cost E (p ++ y :: r) + 1 = pc_cost E p + pc_cost E (y :: r)
  | [], h, _ => (h rfl).elim
  | [x], _, h => by
    show (if E x y = true then 0 else 1) + pc_cost E (y :: r) + 1 = 1 + pc_cost E (y :: r)
    rw [if_pos (h x (List.mem_singleton.mpr rfl))]
    omega
  | x :: z :: p, _, h => by
    have := pc_cat (y := y) (r := r) (z :: p) (by simp) (fun a ha => h a (List.mem_cons_of_mem _ ha))
    show (if E x z = true then 0 else 1) + pc_cost E (z :: p ++ y :: r) + 1 = (if E x z = true then 0 else 1) + pc_cost E (z :: p) + pc_cost E (y :: r)
    omega
/-- what is left when some vertices go -/
theorem pc_filter (p : Nat → Bool) : ∀ l : List Nat, pc_cost E (l.filter p) ≤ pc_cost E l + (l.filter (fun x => !p x)).length ∧ (∀ x, p x = true → pc_cost E (x :: l.filter p) ≤ pc_cost E (x :: l) + (l.filter (fun x => !p x)).length)
  | [] => ⟨Nat.le_refl _, fun x _ => Nat.le_refl _⟩
  | y :: l => by
    obtain ⟨h1, h2⟩ := pc_filter p l
    by_cases py : p y = true
    · have e1 : (y :: l).filter p = y :: l.filter p := List.filter_cons_of_pos py
      have e2 : (y :: l).filter (fun x => !p x) = l.filter (fun x => !p x) := List.filter_cons_of_neg (by simp [py])
      rw [e1, e2]
      refine ⟨h2 y py, fun x px => ?_⟩
      have := h2 y py
      show (if E x y = true then 0 else 1) + pc_cost E (y :: l.filter p) ≤ (if E x y = true then 0 else 1) + pc_cost E (y :: l) + _
      omega
    · have e1 : (y :: l).filter p = l.filter p := List.filter_cons_of_neg py
      have e2 : (y :: l).filter (fun x => !p x) = y :: l.filter (fun x => !p x) := List.filter_cons_of_pos (by simp [cg_bF py])
      rw [e1, e2]
      have k1 := pc_cost_cons (E := E) y l
      refine ⟨?_, fun x px => ?_⟩
      · show pc_cost E (l.filter p) ≤ pc_cost E (y :: l) + ((l.filter (fun x => !p x)).length + 1)
        omega
      · have h3 := h2 x px
        have k2 := pc_cost_cons (E := E) x l
        show pc_cost E (x :: l.filter p) ≤ (if E x y = true then 0 else 1) + pc_cost E (y :: l) + ((l.filter (fun x => !p x)).length + 1)
        omega
/-- two sides without links -/
theorem pc_two {p : Nat → Bool} : ∀ l : List Nat, (∀ x y, x ∈ l → y ∈ l → p x = true → p y = false → E x y = false ∧ E y x = false) → pc_cost E (l.filter p) + pc_cost E (l.filter (fun x => !p x)) ≤ pc_cost E l
  | [], _ => Nat.le_refl _
  | [x], _ => by
    by_cases px : p x = true
    · rw [List.filter_cons_of_pos px, List.filter_cons_of_neg (p := fun x => !p x) (by simp [px])]; exact Nat.le_refl _
    · rw [List.filter_cons_of_neg px, List.filter_cons_of_pos (p := fun x => !p x) (by simp [cg_bF px])]; exact Nat.le_refl _
  | x :: y :: l, h => by
    have ih := pc_two (p := p) (y :: l) (fun a b ha hb => h a b (List.mem_cons_of_mem _ ha) (List.mem_cons_of_mem _ hb))
    have xy := h x y (by simp) (by simp)
    have yx := h y x (by simp) (by simp)
    show _ ≤ (if E x y = true then 0 else 1) + pc_cost E (y :: l)
    by_cases px : p x = true
    · rw [List.filter_cons_of_pos px, List.filter_cons_of_neg (p := fun x => !p x) (a := x) (by simp [px])]
      by_cases py : p y = true
      · have e1 : (y :: l).filter p = y :: l.filter p := List.filter_cons_of_pos py
        rw [e1] at ih ⊢
        show (if E x y = true then 0 else 1) + pc_cost E (y :: l.filter p) + _ ≤ _
        omega
      · rw [if_neg (by rw [(xy px (cg_bF py)).1]; decide)]
        have := (pc_cost_cons (E := E) x ((y :: l).filter p)).2
        omega
    · rw [List.filter_cons_of_neg px, List.filter_cons_of_pos (p := fun x => !p x) (a := x) (by simp [cg_bF px])]
      by_cases py : p y = true
      · rw [if_neg (by rw [(yx py (cg_bF px)).2]; decide)]
        have := (pc_cost_cons (E := E) x ((y :: l).filter (fun x => !p x))).2
        omega
      · have e1 : (y :: l).filter (fun x => !p x) = y :: l.filter (fun x => !p x) := List.filter_cons_of_pos (by simp [cg_bF py])
        rw [e1] at ih ⊢
        show _ + ((if E x y = true then 0 else 1) + pc_cost E (y :: l.filter (fun x => !p x))) ≤ _
        omega
/-- a list cut into k paths -/
theorem pc_cut : ∀ (l : List Nat) (k : Nat), pc_cost E l ≤ k → k ≤ l.length → ∃ ps : List (List Nat), ps.flatten = l ∧ ps.length = k ∧ ∀ p, p ∈ ps → pc_cost E p = 1
  | [], k, _, h => ⟨[], rfl, by have : k ≤ 0 := h; show 0 = k; omega, fun p hp => by simp at hp⟩
  | [x], k, h1, h2 => by
    have h1 : 1 ≤ k := h1
    have h2 : k ≤ 1 := h2
    exact ⟨[[x]], rfl, by show 1 = k; omega, fun p hp => by rw [List.mem_singleton] at hp; subst hp; rfl⟩
  | x :: y :: l, k, h1, h2 => by
    have h1 : (if E x y = true then 0 else 1) + pc_cost E (y :: l) ≤ k := h1
    have h2 : k ≤ (y :: l).length + 1 := h2
    have hl := pc_cost_le (E := E) (y :: l)
    by_cases z : 1 + pc_cost E (y :: l) ≤ k
    · obtain ⟨ps, e, hk, hp⟩ := pc_cut (y :: l) (k - 1) (by omega) (by omega)
      refine ⟨[x] :: ps, by rw [List.flatten_cons, e]; rfl, by rw [List.length_cons, hk]; omega, fun p h => ?_⟩
      rcases List.mem_cons.mp h with t | t
      · subst t; rfl
      · exact hp p t
    · have exy : E x y = true := by
        refine cg_bT fun t => z ?_
        rw [t, if_neg (by decide)] at h1
        exact h1
      rw [if_pos exy] at h1
      obtain ⟨ps, e, hk, hp⟩ := pc_cut (y :: l) k (by omega) (by omega)
      cases ps with
      | nil => simp at e
      | cons p ps =>
        have p1 := hp p (by simp)
        cases p with
        | nil => exact absurd p1 (by show ¬ 0 = 1; decide)
        | cons y' p =>
          rw [List.flatten_cons, List.cons_append] at e
          injection e with e1 e2
          subst e1
          refine ⟨(x :: y' :: p) :: ps, by rw [List.flatten_cons, List.cons_append, List.cons_append, e2], hk, fun p' h => ?_⟩
          rcases List.mem_cons.mp h with t | t
          · subst t
            show (if E x y' = true then 0 else 1) + pc_cost E (y' :: p) = 1
            rw [if_pos exy, p1]
          · exact hp p' (List.mem_cons_of_mem _ t)
theorem pc_flat : ∀ ps : List (List Nat), (∀ p, p ∈ ps → pc_cost E p = 1) → pc_cost E ps.flatten ≤ ps.length
  | [], _ => Nat.le_refl _
  | p :: ps, h => by
    have h1 := pc_flat ps (fun q hq => h q (List.mem_cons_of_mem _ hq))
    have h2 := pc_app (E := E) p ps.flatten
    have h3 := h p (by simp)
    rw [List.flatten_cons, List.length_cons]
    omega
end
/-- paths of two sides by turns -/
def pc_zip : List (List Nat) → List (List Nat) → List Nat
  | [], qs => qs.flatten
  | p :: ps, [] => (p :: ps).flatten
  | p :: ps, q :: qs => p ++ (q ++ pc_zip ps qs)
theorem pc_zip_perm : ∀ ps qs : List (List Nat), (pc_zip ps qs).Perm (ps.flatten ++ qs.flatten)
  | [], qs => List.Perm.refl _
  | p :: ps, [] => by
    show ((p :: ps).flatten).Perm ((p :: ps).flatten ++ [])
    rw [List.append_nil]
  | p :: ps, q :: qs => by
    have ih := pc_zip_perm ps qs
    show (p ++ (q ++ pc_zip ps qs)).Perm ((p ++ ps.flatten) ++ (q ++ qs.flatten))
    rw [List.append_assoc]
    refine List.Perm.append_left p ?_
    refine (List.Perm.append_left q ih).trans ?_
    exact List.perm_append_comm_assoc q ps.flatten qs.flatten
theorem pc_zip_cost {E : Nat → Nat → Bool} : ∀ ps qs : List (List Nat), qs.length ≤ ps.length → (∀ p, p ∈ ps → pc_cost E p = 1) → (∀ q, q ∈ qs → pc_cost E q = 1) → (∀ p q x y, p ∈ ps → q ∈ qs → x ∈ p → y ∈ q → E x y = true ∧ E y x = true) →
    pc_cost E (pc_zip ps qs) ≤ ps.length - qs.length ∨ pc_cost E (pc_zip ps qs) ≤ 1
  | [], [], _, _, _, _ => Or.inl (Nat.le_refl _)
  | [], q :: qs, h, _, _, _ => absurd h (by simp)
  | p :: ps, [], _, hp, _, _ => Or.inl (pc_flat (p :: ps) hp)
  | p :: ps, q :: qs, h, hp, hq, hs => by
    have ih := pc_zip_cost ps qs (by simpa using h) (fun a ha => hp a (List.mem_cons_of_mem _ ha)) (fun a ha => hq a (List.mem_cons_of_mem _ ha)) (fun a b x y ha hb => hs a b x y (List.mem_cons_of_mem _ ha) (List.mem_cons_of_mem _ hb))
    have p1 := hp p (by simp)
    have q1 := hq q (by simp)
    have pn : p ≠ [] := fun e => by rw [e] at p1; exact absurd p1 (by show ¬ 0 = 1; decide)
    have qn : q ≠ [] := fun e => by rw [e] at q1; exact absurd q1 (by show ¬ 0 = 1; decide)
    have step1 : ∀ r, pc_cost E (p ++ (q ++ r)) = pc_cost E (q ++ r) := by
      intro r
      cases q with
      | nil => exact (qn rfl).elim
      | cons y q =>
        have := pc_cat (E := E) (y := y) (r := q ++ r) p pn (fun x hx => (hs p (y :: q) x y (by simp) (by simp) hx (by simp)).1)
        rw [List.cons_append]
        omega
    show pc_cost E (p ++ (q ++ pc_zip ps qs)) ≤ (ps.length + 1) - (qs.length + 1) ∨ pc_cost E (p ++ (q ++ pc_zip ps qs)) ≤ 1
    rw [step1]
    cases ps with
    | nil =>
      have hl : qs.length ≤ 0 := by simpa using h
      have : qs = [] := by
        cases qs with
        | nil => rfl
        | cons a b => exact absurd hl (by simp)
      subst this
      right
      show pc_cost E (q ++ []) ≤ 1
      rw [List.append_nil, q1]
      exact Nat.le_refl 1
    | cons p' ps =>
      have p1' := hp p' (by simp)
      -- what follows begins with a vertex of the first side
      have hd : ∃ y r, pc_zip (p' :: ps) qs = y :: r ∧ y ∈ p' := by
        cases p' with
        | nil => exact absurd p1' (by show ¬ 0 = 1; decide)
        | cons y p' =>
          cases qs with
          | nil => exact ⟨y, p' ++ ps.flatten, rfl, by simp⟩
          | cons q' qs => exact ⟨y, p' ++ (q' ++ pc_zip ps qs), rfl, by simp⟩
      obtain ⟨y, r, e, hy⟩ := hd
      have := pc_cat (E := E) (y := y) (r := r) q qn (fun x hx => (hs p' q y x (by simp) (by simp) hy hx).2)
      rw [e] at ih ⊢
      simp only [List.length_cons] at ih ⊢
      omega
end
section
noncomputable def pc_F (E : Nat → Nat → Bool) (A : Nat → Bool) : Nat := cg_cnt (fun k => !cg_D (∃ l, pc_enum A l ∧ pc_cost E l ≤ k)) 8
section
variable {E : Nat → Nat → Bool} {A B : Nat → Bool}
theorem pc_len : ∀ (l : List Nat) (A : Nat → Bool), (∀ v, A v = true → v < 8) → pc_enum A l → l.length = cg_cnt A 8
  | [], A, _, h => by
    show 0 = _
    rw [cg_cnt_zero 8 (fun i _ => cg_bF fun z => by have := (h.2 i).mpr z; simp at this)]
  | x :: l, A, h8, h => by
    obtain ⟨nd, hm⟩ := h
    rw [List.nodup_cons] at nd
    have ax : A x = true := (hm x).mp (by simp)
    have ih := pc_len l (fun i => A i && !decide (i = x)) (fun v hv => by simp only [Bool.and_eq_true] at hv; exact h8 v hv.1) ⟨nd.2, fun v => by
      constructor
      · intro hv
        have : v ≠ x := fun e => nd.1 (by rw [← e]; exact hv)
        simp [(hm v).mp (List.mem_cons_of_mem _ hv), this]
      · intro hv
        simp at hv
        have := (hm v).mpr hv.1
        rcases List.mem_cons.mp this with t | t
        · exact (hv.2 t).elim
        · exact t⟩
    rw [cg_cnt_erase (h8 x ax) ax, ← ih]
    rfl
theorem pc_ex (h8 : ∀ v, A v = true → v < 8) : ∃ l, pc_enum A l := by
  refine ⟨(List.range 8).filter A, List.Nodup.sublist List.filter_sublist List.nodup_range, fun v => ?_⟩
  rw [List.mem_filter, List.mem_range]
  exact ⟨fun z => z.2, fun z => ⟨h8 v z, z⟩⟩
theorem pc_F_spec (h8 : ∀ v, A v = true → v < 8) : (∃ l, pc_enum A l ∧ pc_cost E l = pc_F E A) ∧ ∀ l, pc_enum A l → pc_F E A ≤ pc_cost E l := by
  obtain ⟨l0, e0⟩ := pc_ex h8
  obtain ⟨m, ⟨l, el, cl⟩, hmin⟩ := pk_least (fun k => ∃ l, pc_enum A l ∧ pc_cost E l = k) ⟨_, l0, e0, rfl⟩
  have lo : ∀ l, pc_enum A l → m ≤ pc_cost E l := fun l hl => Nat.le_of_not_lt fun z => hmin _ z ⟨l, hl, rfl⟩
  have m8 : m ≤ 8 := by
    have h1 := pc_cost_le (E := E) l
    have h2 := pc_len l A h8 el
    have h3 := cg_cnt_le A 8
    omega
  have eF : pc_F E A = m := by
    unfold pc_F
    have e : cg_cnt (fun k => !cg_D (∃ l, pc_enum A l ∧ pc_cost E l ≤ k)) 8 = cg_cnt (fun k => decide (k < m)) 8 := by
      apply cg_cnt_congr
      intro k _
      by_cases z : k < m
      · have : cg_D (∃ l, pc_enum A l ∧ pc_cost E l ≤ k) = false := cg_D_f.mpr fun ⟨l', h1, h2⟩ => by have := lo l' h1; omega
        rw [this, decide_eq_true z]; rfl
      · have : cg_D (∃ l, pc_enum A l ∧ pc_cost E l ≤ k) = true := cg_D_iff.mpr ⟨l, el, by omega⟩
        rw [this, decide_eq_false z]; rfl
    rw [e, cg_cnt_ext m8 (fun i _ hi => of_decide_eq_true hi), cg_cnt_all m (fun i hi => decide_eq_true hi)]
  rw [eF]
  exact ⟨⟨l, el, cl⟩, lo⟩
theorem pc_F_le8 : pc_F E A ≤ 8 := cg_cnt_le _ 8
theorem pc_F_0 : pc_F E (fun _ => false) = 0 := by
  have := (pc_F_spec (E := E) (A := fun _ => false) (fun v h => Bool.noConfusion h)).2 [] ⟨List.nodup_nil, fun v => ⟨fun z => by simp at z, fun z => Bool.noConfusion z⟩⟩
  have h0 : pc_cost E [] = 0 := rfl
  omega
theorem pc_F_pos (h8 : ∀ v, A v = true → v < 8) {v : Nat} (hv : A v = true) : 1 ≤ pc_F E A := by
  obtain ⟨⟨l, el, cl⟩, _⟩ := pc_F_spec (E := E) h8
  rw [← cl]
  cases l with
  | nil => have := (el.2 v).mpr hv; simp at this
  | cons x l => exact pc_cost_pos x l
theorem pc_F_card (h8 : ∀ v, A v = true → v < 8) : pc_F E A ≤ cg_cnt A 8 := by
  obtain ⟨⟨l, el, cl⟩, _⟩ := pc_F_spec (E := E) h8
  rw [← cl, ← pc_len l A h8 el]
  exact pc_cost_le l
theorem pc_F_one {v : Nat} (v8 : v < 8) (hA : ∀ i, A i = true ↔ i = v) : pc_F E A = 1 := by
  have h8 : ∀ u, A u = true → u < 8 := fun u hu => by rw [(hA u).mp hu]; exact v8
  have h1 := pc_F_pos (E := E) h8 ((hA v).mpr rfl)
  have h2 := (pc_F_spec (E := E) h8).2 [v] ⟨by simp, fun u => by rw [List.mem_singleton, hA]⟩
  have h3 : pc_cost E [v] = 1 := rfl
  omega
/-- the halves of an enumeration -/
theorem pc_halves (hd : ∀ v, A v = true → B v = true → False) {l : List Nat} (h : pc_enum (fun v => A v || B v) l) : pc_enum A (l.filter A) ∧ pc_enum B (l.filter (fun x => !A x)) := by
  refine ⟨⟨List.Nodup.sublist List.filter_sublist h.1, fun v => ?_⟩, ⟨List.Nodup.sublist List.filter_sublist h.1, fun v => ?_⟩⟩
  · rw [List.mem_filter, h.2]
    exact ⟨fun z => z.2, fun z => ⟨by show (A v || B v) = true; rw [z]; rfl, z⟩⟩
  · rw [List.mem_filter, h.2]
    constructor
    · rintro ⟨a, b⟩
      have a : (A v || B v) = true := a
      cases q : A v
      · rw [q] at a; simpa using a
      · rw [q] at b; exact Bool.noConfusion b
    · intro b
      refine ⟨by show (A v || B v) = true; rw [b]; simp, ?_⟩
      rw [cg_bF (fun a => hd v a b)]; rfl
theorem pc_join (hd : ∀ v, A v = true → B v = true → False) {l r t : List Nat} (hl : pc_enum A l) (hr : pc_enum B r) (ht : t.Perm (l ++ r)) : pc_enum (fun v => A v || B v) t := by
  refine ⟨(List.Perm.nodup_iff ht).mpr (List.nodup_append.mpr ⟨hl.1, hr.1, fun a ha b hb e => hd a ((hl.2 a).mp ha) (by rw [e]; exact (hr.2 b).mp hb)⟩), fun v => ?_⟩
  rw [List.Perm.mem_iff ht, List.mem_append, hl.2, hr.2, Bool.or_eq_true]
theorem pc_F_add (ha : ∀ v, A v = true → v < 8) (hb : ∀ v, B v = true → v < 8) (hs : cg_sep E false A B) : pc_F E (fun v => A v || B v) = pc_F E A + pc_F E B := by
  have hd : ∀ v, A v = true → B v = true → False := fun v a b => (hs v v a b).1 rfl
  have hab : ∀ v, (A v || B v) = true → v < 8 := fun v h => by rw [Bool.or_eq_true] at h; exact h.elim (ha v) (hb v)
  apply Nat.le_antisymm
  · obtain ⟨⟨l, el, cl⟩, _⟩ := pc_F_spec (E := E) ha
    obtain ⟨⟨r, er, cr⟩, _⟩ := pc_F_spec (E := E) hb
    have h1 := (pc_F_spec (E := E) hab).2 (l ++ r) (pc_join hd el er (List.Perm.refl _))
    have h2 := pc_app (E := E) l r
    omega
  · obtain ⟨⟨l, el, cl⟩, _⟩ := pc_F_spec (E := E) hab
    obtain ⟨e1, e2⟩ := pc_halves hd el
    have h1 := (pc_F_spec (E := E) ha).2 _ e1
    have h2 := (pc_F_spec (E := E) hb).2 _ e2
    have h3 := pc_two (E := E) (p := A) l (fun x y hx hy ax ay => by
      have by' : B y = true := by
        have := (el.2 y).mp hy
        rw [Bool.or_eq_true] at this
        exact this.elim (fun z => by rw [ay] at z; exact Bool.noConfusion z) id
      exact (hs x y ax by').2)
    omega
/-- side A in k1 paths, side B in k2, no more than k1 -/
theorem pc_weave (ha : ∀ v, A v = true → v < 8) (hb : ∀ v, B v = true → v < 8) (hs : cg_sep E true A B) {k1 k2 : Nat} (h1 : pc_F E A ≤ k1) (h1' : k1 ≤ cg_cnt A 8) (h2 : pc_F E B ≤ k2) (h2' : k2 ≤ cg_cnt B 8) (h : k2 ≤ k1) :
    pc_F E (fun v => A v || B v) ≤ k1 - k2 ∨ pc_F E (fun v => A v || B v) ≤ 1 := by
  have hd : ∀ v, A v = true → B v = true → False := fun v a b => (hs v v a b).1 rfl
  have hab : ∀ v, (A v || B v) = true → v < 8 := fun v h => by rw [Bool.or_eq_true] at h; exact h.elim (ha v) (hb v)
  obtain ⟨⟨l, el, cl⟩, _⟩ := pc_F_spec (E := E) ha
  obtain ⟨⟨r, er, cr⟩, _⟩ := pc_F_spec (E := E) hb
  obtain ⟨ps, p1, p2, p3⟩ := pc_cut (E := E) l k1 (by omega) (by rw [pc_len l A ha el]; exact h1')
  obtain ⟨qs, q1, q2, q3⟩ := pc_cut (E := E) r k2 (by omega) (by rw [pc_len r B hb er]; exact h2')
  have perm := pc_zip_perm ps qs
  rw [p1, q1] at perm
  have h3 := (pc_F_spec (E := E) hab).2 _ (pc_join hd el er perm)
  have h4 := pc_zip_cost (E := E) ps qs (by omega) p3 q3 (fun p q x y hp hq hx hy => by
    have ax : A x = true := (el.2 x).mp (by rw [← p1]; exact List.mem_flatten_of_mem hp hx)
    have by' : B y = true := (er.2 y).mp (by rw [← q1]; exact List.mem_flatten_of_mem hq hy)
    exact (hs x y ax by').2)
  rw [p2, q2] at h4
  omega
theorem pc_F_join (ha : ∀ v, A v = true → v < 8) (hb : ∀ v, B v = true → v < 8) (hs : cg_sep E true A B) {b : Nat} (hB : B b = true) :
    pc_F E (fun v => A v || B v) = cg_mx1 (pc_F E A - cg_cnt B 8) (pc_F E B - cg_cnt A 8) := by
  have hd : ∀ v, A v = true → B v = true → False := fun v a b => (hs v v a b).1 rfl
  have hab : ∀ v, (A v || B v) = true → v < 8 := fun v h => by rw [Bool.or_eq_true] at h; exact h.elim (ha v) (hb v)
  have comm : (fun v => A v || B v) = fun v => B v || A v := by funext i; cases A i <;> cases B i <;> rfl
  have fb := pc_F_pos (E := E) hb hB
  have cb := pc_F_card (E := E) hb
  by_cases ea : ∃ a, A a = true
  · obtain ⟨a, hA⟩ := ea
    have fa := pc_F_pos (E := E) ha hA
    have ca := pc_F_card (E := E) ha
    have f1 := pc_F_pos (E := E) hab (v := a) (by rw [hA]; rfl)
    -- lower bounds
    obtain ⟨⟨l, el, cl⟩, _⟩ := pc_F_spec (E := E) hab
    obtain ⟨e1, e2⟩ := pc_halves hd el
    have l1 := (pc_F_spec (E := E) ha).2 _ e1
    have l2 := (pc_F_spec (E := E) hb).2 _ e2
    have n1 := pc_len _ A ha e1
    have n2 := pc_len _ B hb e2
    have g1 := (pc_filter (E := E) A l).1
    have g2 := (pc_filter (E := E) (fun x => !A x) l).1
    have nn : l.filter (fun x => !(fun x => !A x) x) = l.filter A := by
      congr 1
      funext x
      show (!(!A x)) = A x
      cases A x <;> rfl
    rw [nn] at g2
    unfold cg_mx1
    by_cases c1 : cg_cnt B 8 ≤ pc_F E A
    · have w := pc_weave ha hb hs (k1 := pc_F E A) (k2 := cg_cnt B 8) (Nat.le_refl _) ca cb (Nat.le_refl _) c1
      rw [if_pos (by omega)]
      split <;> omega
    · by_cases c2 : cg_cnt A 8 ≤ pc_F E B
      · have w := pc_weave hb ha (cg_sep_sym hs) (k1 := pc_F E B) (k2 := cg_cnt A 8) (Nat.le_refl _) cb ca (Nat.le_refl _) c2
        rw [← comm] at w
        split
        · split <;> omega
        · omega
      · have w := pc_weave ha hb hs (k1 := if pc_F E A ≤ pc_F E B then pc_F E B else pc_F E A) (k2 := if pc_F E A ≤ pc_F E B then pc_F E B else pc_F E A) (by split <;> omega) (by split <;> omega) (by split <;> omega) (by split <;> omega) (Nat.le_refl _)
        split
        · split <;> omega
        · omega
  · have e0 : A = fun _ => false := by funext v; exact cg_bF fun z => ea ⟨v, z⟩
    have e1 : (fun v => A v || B v) = B := by rw [e0]; funext v; rfl
    have f0 : pc_F E A = 0 := by rw [e0]; exact pc_F_0
    have c0 : cg_cnt A 8 = 0 := cg_cnt_zero 8 (fun i _ => by rw [e0])
    rw [e1, f0, c0]
    unfold cg_mx1
    rw [if_neg (by omega)]
    omega
end
section
variable {V U : Nat → Bool} {r : Nat} {K P : Nat → Int32} {L E C : Nat → Nat → Bool}
theorem cg_innP (B : tw_B V U r K P L E) (hC : tw_C U P C) {x : Nat} (hx : U x = true) (kx : K x ≠ 0) (S : Nat → Bool) (hS : ∀ v, V v = true → S v = true) :
    (decide (K x = 2) = true → (cg_fold (cg_fpth (fun y => pc_F E (fun v => S v && L y v)) (fun c => cg_cnt (L c) 8)) (0, 0) (C x) 20).1 = pc_F E (fun v => S v && L x v)) ∧
    (decide (K x = 2) = false → cg_fold (cg_fsum (fun y => pc_F E (fun v => S v && L y v))) 0 (C x) 20 = pc_F E (fun v => S v && L x v)) := by
  constructor
  · intro hk
    rw [cg_foldG B hC hx kx S (fun A => (pc_F E A, cg_cnt A 8)) _ (0, 0)]
    · show (pc_F E (fun _ => false), cg_cnt (fun _ => false) 8) = (0, 0)
      rw [pc_F_0, cg_cnt_zero 8 (fun i _ => rfl)]
    · intro k A uk ha hs
      rw [hk] at hs
      have es : (fun v => S v && L k v) = L k := by
        funext v
        cases q : L k v
        · simp
        · rw [hS v (tw_LV B uk q)]; rfl
      have h8 : ∀ v, (fun v => S v && L k v) v = true → v < 8 := fun v hv => by
        rw [es] at hv; exact tw_L8 B uk hv
      obtain ⟨b, hb⟩ := tw_ne B uk
      show (pc_F E (fun v => A v || (S v && L k v)), cg_cnt (fun v => A v || (S v && L k v)) 8) = (cg_mx1 (pc_F E A - cg_cnt (L k) 8) (pc_F E (fun v => S v && L k v) - cg_cnt A 8), cg_cnt A 8 + cg_cnt (L k) 8)
      have j := pc_F_join ha h8 (cg_sep_of hs) (b := b) (by rw [hS b (tw_LV B uk hb), hb]; rfl)
      rw [j, cg_cnt_or 8 (B := fun v => S v && L k v) (fun i _ a b => (hs i i a b).1 rfl), es]
  · intro hk
    refine cg_foldG B hC hx kx S (pc_F E) _ 0 pc_F_0 ?_
    intro k A uk ha hs
    rw [hk] at hs
    exact pc_F_add ha (fun v hv => by simp only [Bool.and_eq_true] at hv; exact tw_L8 B uk hv.2) (cg_sep_of hs)
end
section
variable {f_vertexCount f_root f_usedNodes f_newWeight f_wholeChildren f_emptyChildren f_partChildren f_orderLength f_witnessKept : Int32} {a_kind a_parent a_leaves a_children a_weight a_order a_value a_witnessCells a_row : Nat → Int32}
theorem xw_eval_P {post : Int32 → SX → Prop} {n : Nat} {E : Nat → Nat → Bool} (T : cg_T n f_root f_usedNodes a_kind a_parent a_leaves a_children E) (n8 : n ≤ 8)
    (h : ∀ len ord value, post (nI (pc_F E (fun v => decide (v < n)))) (f_vertexCount, f_root, f_usedNodes, f_newWeight, f_wholeChildren, f_emptyChildren, f_partChildren, len, f_witnessKept, a_kind, a_parent, a_leaves, a_children, a_weight, ord, value, a_witnessCells, a_row)) : wpX_evaluate post (f_vertexCount, f_root, f_usedNodes, f_newWeight, f_wholeChildren, f_emptyChildren, f_partChildren, f_orderLength, f_witnessKept, a_kind, a_parent, a_leaves, a_children, a_weight, a_order, a_value, a_witnessCells, a_row) (nI (2 ^ n - 1)) (nI 5) := by
  have e : (2 ^ n - 1).testBit = fun v => decide (v < n) := by funext v; exact Nat.testBit_two_pow_sub_one n v
  rw [← e] at h
  have p0 : 0 < 2 ^ n := Nat.pow_pos (by decide)
  refine xw_evalT (F := pc_F E) (by omega) T n8 (by omega) pc_F_0 (fun A => ?_) ?_ ?_ h
  · have := pc_F_le8 (E := E) (A := A)
    omega
  · intro A v v8 hA
    exact ⟨fun _ => pc_F_one v8 hA, fun z => by omega⟩
  · intro r B hC x hx kx
    obtain ⟨i1, i2⟩ := cg_innP B hC hx kx (2 ^ n - 1).testBit (fun v hv => by rw [e]; exact hv)
    show pc_F E _ = if decide (a_kind x = 2) = true then _ else _
    by_cases k : a_kind x = 2
    · rw [if_pos (decide_eq_true k)]
      exact (i1 (decide_eq_true k)).symm
    · rw [if_neg (by simp [k])]
      exact (i2 (decide_eq_false k)).symm
end
end
section
/-! ===== all orders, one behind the other ===== -/
/-- the order that follows l -/
def pm_nx (l l' : List Nat) : Prop := ∃ (p : List Nat) (x : Nat) (D1 : List Nat) (y : Nat) (D2 : List Nat), l = p ++ x :: (D1 ++ y :: D2) ∧ l' = p ++ y :: (D1 ++ x :: D2).reverse ∧ (D1 ++ y :: D2).Pairwise (· > ·) ∧ x < y ∧ ∀ z, z ∈ D2 → z < x
def pm_ch : List (List Nat) → List Nat → Prop
  | [], _ => False
  | [l], e => l = e
  | l :: l' :: r, e => pm_nx l l' ∧ pm_ch (l' :: r) e
def pm_all : Nat → List Nat → List (List Nat)
  | 0, _ => [[]]
  | k + 1, s => (s.map (fun x => (pm_all k (s.erase x)).map (fun l => x :: l))).flatten
theorem pm_nx_cons {l l' : List Nat} (x : Nat) (h : pm_nx l l') : pm_nx (x :: l) (x :: l') := by
  obtain ⟨p, a, D1, y, D2, e1, e2, h1, h2, h3⟩ := h
  exact ⟨x :: p, a, D1, y, D2, by rw [e1]; rfl, by rw [e2]; rfl, h1, h2, h3⟩
theorem pm_ch_map (x : Nat) : ∀ (r : List (List Nat)) (e : List Nat), pm_ch r e → pm_ch (r.map (fun l => x :: l)) (x :: e)
  | [], _, h => h.elim
  | [l], e, h => by
    have h : l = e := h
    subst h
    exact rfl
  | l :: l' :: r, e, h => ⟨pm_nx_cons x h.1, pm_ch_map x (l' :: r) e h.2⟩
theorem pm_ch_app {h : List Nat} {r2 : List (List Nat)} {e2 : List Nat} : ∀ (r1 : List (List Nat)) (e1 : List Nat), pm_ch r1 e1 → pm_nx e1 h → pm_ch (h :: r2) e2 → pm_ch (r1 ++ h :: r2) e2
  | [], _, h1, _, _ => h1.elim
  | [l], e, h1, h2, h3 => by
    have h1 : l = e := h1
    subst h1
    exact ⟨h2, h3⟩
  | l :: l' :: r, e, h1, h2, h3 => ⟨h1.1, pm_ch_app (l' :: r) e h1.2 h2 h3⟩
theorem pm_sorted_nodup {s : List Nat} (h : s.Pairwise (· < ·)) : s.Nodup := List.Pairwise.imp (fun {a b} (hab : a < b) => Nat.ne_of_lt hab) h
theorem pm_erase {u w : List Nat} {x : Nat} (h : (u ++ x :: w).Nodup) : (u ++ x :: w).erase x = u ++ w := by
  have hx : x ∉ u := by
    intro z
    rw [List.nodup_append] at h
    exact h.2.2 x z x (by simp) rfl
  rw [List.erase_append_right _ hx, List.erase_cons_head]
theorem pm_main : ∀ (k : Nat) (s : List Nat), s.length = k → s.Pairwise (· < ·) → pm_ch (pm_all k s) s.reverse ∧ ∃ r, pm_all k s = s :: r
  | 0, s, hl, _ => by
    have : s = [] := List.length_eq_zero_iff.mp hl
    subst this
    exact ⟨rfl, [], rfl⟩
  | k + 1, s, hl, hs => by
    have nd := pm_sorted_nodup hs
    obtain ⟨blk, hblk⟩ : ∃ blk : Nat → List (List Nat), blk = fun x => (pm_all k (s.erase x)).map (fun l => x :: l) := ⟨_, rfl⟩
    have hb : ∀ x, x ∈ s → pm_ch (blk x) (x :: (s.erase x).reverse) ∧ ∃ r, blk x = (x :: s.erase x) :: r := by
      intro x hx
      have l1 : (s.erase x).length = k := by rw [List.length_erase_of_mem hx, hl]; rfl
      have s1 : (s.erase x).Pairwise (· < ·) := List.Pairwise.sublist List.erase_sublist hs
      obtain ⟨h1, r, h2⟩ := pm_main k (s.erase x) l1 s1
      rw [hblk]
      refine ⟨pm_ch_map x _ _ h1, r.map (fun l => x :: l), ?_⟩
      show (pm_all k (s.erase x)).map (fun l => x :: l) = _
      rw [h2]; rfl
    have key : ∀ (w u : List Nat), s = u ++ w → ∀ x w', w = x :: w' → pm_ch ((w.map blk).flatten) s.reverse ∧ ∃ r, (w.map blk).flatten = (x :: s.erase x) :: r := by
      intro w
      induction w with
      | nil => intro u _ x w' e; simp at e
      | cons x w ih =>
        intro u hu x' w' e
        injection e with e1 e2
        subst e1 e2
        have hx : x ∈ s := by rw [hu]; simp
        obtain ⟨b1, r1, b2⟩ := hb x hx
        have ex : s.erase x = u ++ w := by rw [hu]; rw [hu] at nd; exact pm_erase nd
        cases w with
        | nil =>
          have : ([x].map blk).flatten = blk x := by simp
          rw [this]
          refine ⟨?_, r1, b2⟩
          have e3 : s.reverse = x :: (s.erase x).reverse := by rw [ex, hu]; simp
          rw [e3]; exact b1
        | cons y w =>
          obtain ⟨c1, r2, c2⟩ := ih (u ++ [x]) (by rw [hu]; simp) y w rfl
          have ef : ((x :: y :: w).map blk).flatten = blk x ++ ((y :: w).map blk).flatten := by simp
          rw [ef]
          refine ⟨?_, ?_⟩
          · rw [c2] at c1 ⊢
            refine pm_ch_app _ _ b1 ?_ c1
            have ey : s.erase y = u ++ x :: w := by
              have nd' := nd
              have e4 : s = (u ++ [x]) ++ y :: w := by rw [hu]; simp
              rw [e4] at nd' ⊢
              rw [pm_erase nd']; simp
            refine ⟨[], x, w.reverse, y, u.reverse, by rw [ex]; simp, by rw [ey]; simp, ?_, ?_, ?_⟩
            · have : w.reverse ++ y :: u.reverse = (u ++ y :: w).reverse := by simp
              rw [this, List.pairwise_reverse, ← ex]
              exact List.Pairwise.sublist List.erase_sublist hs
            · rw [hu, List.pairwise_append] at hs
              have := hs.2.1
              rw [List.pairwise_cons] at this
              exact this.1 y (by simp)
            · intro z hz
              rw [hu, List.pairwise_append] at hs
              exact hs.2.2 z (by simpa using hz) x (by simp)
          · rw [b2]
            exact ⟨r1 ++ ((y :: w).map blk).flatten, rfl⟩
    cases s with
    | nil => simp at hl
    | cons x s' =>
      obtain ⟨h1, r, h2⟩ := key (x :: s') [] rfl x s' rfl
      have e : pm_all (k + 1) (x :: s') = ((x :: s').map blk).flatten := by rw [hblk]; rfl
      rw [e]
      refine ⟨h1, r, ?_⟩
      rw [h2, List.erase_cons_head]
theorem pm_mem : ∀ (k : Nat) (s l : List Nat), s.length = k → s.Nodup → (l ∈ pm_all k s ↔ l.Nodup ∧ ∀ v, v ∈ l ↔ v ∈ s)
  | 0, s, l, hl, _ => by
    have : s = [] := List.length_eq_zero_iff.mp hl
    subst this
    show l ∈ [[]] ↔ _
    rw [List.mem_singleton]
    constructor
    · intro e; subst e; simp
    · rintro ⟨_, h⟩
      cases l with
      | nil => rfl
      | cons a l => have := (h a).mp (by simp); simp at this
  | k + 1, s, l, hl, nd => by
    show l ∈ (s.map (fun x => (pm_all k (s.erase x)).map (fun l => x :: l))).flatten ↔ _
    rw [List.mem_flatten]
    constructor
    · rintro ⟨b, hb, hlb⟩
      rw [List.mem_map] at hb
      obtain ⟨x, hx, rfl⟩ := hb
      rw [List.mem_map] at hlb
      obtain ⟨l', hl', rfl⟩ := hlb
      obtain ⟨n1, m1⟩ := (pm_mem k (s.erase x) l' (by rw [List.length_erase_of_mem hx, hl]; rfl) (nd.erase x)).mp hl'
      refine ⟨?_, fun v => ?_⟩
      · rw [List.nodup_cons]
        refine ⟨fun z => ?_, n1⟩
        have := (m1 x).mp z
        rw [nd.mem_erase_iff] at this
        exact this.1 rfl
      · rw [List.mem_cons, m1, nd.mem_erase_iff]
        constructor
        · rintro (e | e)
          · rw [e]; exact hx
          · exact e.2
        · intro e
          by_cases z : v = x
          · exact Or.inl z
          · exact Or.inr ⟨z, e⟩
    · rintro ⟨n1, m1⟩
      cases l with
      | nil =>
        cases s with
        | nil => simp at hl
        | cons a s => have := (m1 a).mpr (by simp); simp at this
      | cons x l' =>
        have hx : x ∈ s := (m1 x).mp (by simp)
        rw [List.nodup_cons] at n1
        refine ⟨_, List.mem_map.mpr ⟨x, hx, rfl⟩, List.mem_map.mpr ⟨l', ?_, rfl⟩⟩
        refine (pm_mem k (s.erase x) l' (by rw [List.length_erase_of_mem hx, hl]; rfl) (nd.erase x)).mpr ⟨n1.2, fun v => ?_⟩
        rw [nd.mem_erase_iff]
        constructor
        · intro hv
          exact ⟨fun e => n1.1 (by rw [← e]; exact hv), (m1 v).mp (List.mem_cons_of_mem _ hv)⟩
        · rintro ⟨ne, hv⟩
          rcases List.mem_cons.mp ((m1 v).mpr hv) with e | e
          · exact (ne e).elim
          · exact e
def pm_f : Nat → Nat
  | 0 => 1
  | k + 1 => (k + 1) * pm_f k
theorem pm_f8 : ∀ n, n < 9 → pm_f n ≤ 40320 := by decide +kernel
theorem pm_length : ∀ (k : Nat) (s : List Nat), s.length = k → (pm_all k s).length = pm_f k
  | 0, _, _ => rfl
  | k + 1, s, hl => by
    show ((s.map (fun x => (pm_all k (s.erase x)).map (fun l => x :: l))).flatten).length = _
    have gen : ∀ w : List Nat, (∀ x, x ∈ w → x ∈ s) → ((w.map (fun x => (pm_all k (s.erase x)).map (fun l => x :: l))).flatten).length = w.length * pm_f k := by
      intro w
      induction w with
      | nil => intro _; simp
      | cons x w ih =>
        intro hw
        have hx := hw x (by simp)
        rw [List.map_cons, List.flatten_cons, List.length_append, ih (fun y hy => hw y (List.mem_cons_of_mem _ hy)), List.length_map, pm_length k (s.erase x) (by rw [List.length_erase_of_mem hx, hl]; rfl), List.length_cons, Nat.succ_mul]
        omega
    rw [gen s (fun x hx => hx), hl]
    rfl
/-! ===== a list by its places ===== -/
def pm_at (l : List Nat) (i : Nat) : Nat := l.getD i 0
theorem pm_at_0 (x : Nat) (l : List Nat) : pm_at (x :: l) 0 = x := rfl
theorem pm_at_s (x : Nat) (l : List Nat) (i : Nat) : pm_at (x :: l) (i + 1) = pm_at l i := rfl
theorem pm_at_l {p r : List Nat} {i : Nat} (h : i < p.length) : pm_at (p ++ r) i = pm_at p i := by
  unfold pm_at
  rw [List.getD_eq_getElem?_getD, List.getD_eq_getElem?_getD, List.getElem?_append_left h]
theorem pm_at_r (p r : List Nat) (i : Nat) : pm_at (p ++ r) (p.length + i) = pm_at r i := by
  unfold pm_at
  rw [List.getD_eq_getElem?_getD, List.getD_eq_getElem?_getD, List.getElem?_append_right (by omega)]
  congr 2
  omega
theorem pm_at_rev {l : List Nat} {i : Nat} (h : i < l.length) : pm_at l.reverse i = pm_at l (l.length - 1 - i) := by
  unfold pm_at
  rw [List.getD_eq_getElem?_getD, List.getD_eq_getElem?_getD, List.getElem?_reverse h]
theorem pm_at_mem {l : List Nat} {i : Nat} (h : i < l.length) : pm_at l i ∈ l := by
  unfold pm_at
  rw [List.getD_eq_getElem?_getD, List.getElem?_eq_getElem h]
  exact List.getElem_mem h
theorem pm_at_pw {l : List Nat} (h : l.Pairwise (· > ·)) {i j : Nat} (hij : i < j) (hj : j < l.length) : pm_at l j < pm_at l i := by
  have := List.pairwise_iff_getElem.mp h i j (by omega) hj hij
  unfold pm_at
  rw [List.getD_eq_getElem?_getD, List.getD_eq_getElem?_getD, List.getElem?_eq_getElem hj, List.getElem?_eq_getElem (show i < l.length by omega)]
  exact this
theorem pm_cost {E : Nat → Nat → Bool} : ∀ l : List Nat, l ≠ [] → pc_cost E l = 1 + cg_cnt (fun k => !E (pm_at l k) (pm_at l (k + 1))) (l.length - 1)
  | [], h => (h rfl).elim
  | [x], _ => rfl
  | x :: y :: l, _ => by
    have ih := pm_cost (E := E) (y :: l) (by simp)
    have e1 : (x :: y :: l).length - 1 = 1 + ((y :: l).length - 1) := by simp; omega
    rw [e1, cg_cnt_add]
    have e2 : cg_cnt (fun k => !E (pm_at (x :: y :: l) k) (pm_at (x :: y :: l) (k + 1))) 1 = if E x y = true then 0 else 1 := by
      show 0 + (if (!E x y) = true then 1 else 0) = _
      cases E x y <;> rfl
    have e3 : cg_cnt (fun i => (fun k => !E (pm_at (x :: y :: l) k) (pm_at (x :: y :: l) (k + 1))) (1 + i)) ((y :: l).length - 1) = cg_cnt (fun k => !E (pm_at (y :: l) k) (pm_at (y :: l) (k + 1))) ((y :: l).length - 1) := by
      apply cg_cnt_congr
      intro i _
      show (!E (pm_at (x :: y :: l) (1 + i)) (pm_at (x :: y :: l) (1 + i + 1))) = _
      rw [show 1 + i = i + 1 by omega, pm_at_s, pm_at_s]
    rw [e2, e3]
    show (if E x y = true then 0 else 1) + pc_cost E (y :: l) = _
    omega
end
section
/-- the int of place t - 1, or -1 -/
def pm_ip (t : Nat) : Int32 := if t = 0 then -1 else nI (t - 1)
theorem pm_ip_s (t : Nat) : pm_ip (t + 1) = nI t := by unfold pm_ip; rw [if_neg (by omega)]; rfl
theorem pm_ip_0 : pm_ip 0 = -1 := rfl
theorem pm_ip_m (t : Nat) : nI t + (-1) = pm_ip t := by
  cases t with
  | zero => rfl
  | succ t => rw [pm_ip_s]; exact pk_m1 t
theorem pm_ip_2 : ∀ n, n < 9 → 1 ≤ n → nI n - 2 = pm_ip (n - 1) := by decide +kernel
section
variable {f_fresh f_n f_hasWitness : Int32} {a_row a_weight a_witness a_label a_order a_module a_least : Nat → Int32}
/-- down through the descending end -/
theorem yw_next_9 {post : Int32 → SY → Prop} {n t0 : Nat} {o : Nat → Nat} (n8 : n ≤ 8) (ho : ∀ i, i < n → a_order i = nI (o i)) (o8 : ∀ i, i < n → o i < 8) (hst : t0 = 0 ∨ o (t0 - 1) < o t0) (h : wY_nextOrder_45 post (pm_ip t0) f_fresh f_n f_hasWitness a_row a_weight a_witness a_label a_order a_module a_least) :
    ∀ d t, t = t0 + d → t + 1 ≤ n → (∀ i, t0 ≤ i → i < t → o (i + 1) < o i) → ∀ k, k + t + 1 = n → ∀ f, d < f → wY_nextOrder_9 post f_fresh f_n f_hasWitness a_row a_weight a_witness a_label a_order a_module a_least f (pm_ip t) (nI k) := by
  intro d
  induction d with
  | zero =>
    intro t ht htn hdes k hk f hf
    obtain ⟨m, rfl⟩ : ∃ m, f = m + 1 := ⟨f - 1, by omega⟩
    have : t = t0 := by omega
    subst this
    refine br_f (ib_8 (by omega)) ?_
    rcases hst with z | z
    · subst z
      exact br_t (by decide) h
    · cases t with
      | zero => exact br_t (by decide) h
      | succ t =>
        rw [pm_ip_s] at h ⊢
        rw [Nat.add_sub_cancel] at z
        refine br_f (ib_neg (by omega)) ?_
        rw [nI_1 t, ib_cl (show t < 256 by omega), ib_cl (show t + 1 < 256 by omega), ho t (by omega), ho (t + 1) (by omega)]
        have := o8 (t + 1) (by omega)
        exact ⟨ib_in (show t < 8 by omega) (by omega), ib_in (show t + 1 < 8 by omega) (by omega), br_t (nI_le (by omega) (by omega)) h⟩
  | succ d ih =>
    intro t ht htn hdes k hk f hf
    obtain ⟨m, rfl⟩ : ∃ m, f = m + 1 := ⟨f - 1, by omega⟩
    cases t with
    | zero => omega
    | succ t =>
      have dec := hdes t (by omega) (by omega)
      have b1 := o8 t (by omega)
      rw [pm_ip_s]
      refine br_f (ib_8 (by omega)) (br_f (ib_neg (by omega)) ?_)
      rw [nI_1 t, ib_cl (show t < 256 by omega), ib_cl (show t + 1 < 256 by omega), ho t (by omega), ho (t + 1) (by omega)]
      exact ⟨ib_in (show t < 8 by omega) (by omega), ib_in (show t + 1 < 8 by omega) (by omega), br_f (nI_ge dec (by omega)) (nm_r (pm_ip_m t) (nm_r (nI_1 k) (ih t (by omega) (by omega) (fun i h1 h2 => hdes i h1 (by omega)) (k + 1) (by omega) m (by omega))))⟩
theorem yw_next_0 {post : Int32 → SY → Prop} {n : Nat} {o : Nat → Nat} (n8 : n ≤ 8) (n1 : 1 ≤ n) (hn : f_n = nI n) (ho : ∀ i, i < n → a_order i = nI (o i)) (o8 : ∀ i, i < n → o i < 8) (hdes : ∀ i, i + 1 < n → o (i + 1) < o i) (h : post 0 (f_fresh, f_n, f_hasWitness, a_row, a_weight, a_witness, a_label, a_order, a_module, a_least)) : wpY_nextOrder post (f_fresh, f_n, f_hasWitness, a_row, a_weight, a_witness, a_label, a_order, a_module, a_least) := by
  unfold wpY_nextOrder
  dsimp only
  rw [hn] at h ⊢
  refine nm_r (pm_ip_2 n (by omega) n1) ⟨n, ?_⟩
  refine yw_next_9 (t0 := 0) n8 ho o8 (Or.inl rfl) ?_ (n - 1) (n - 1) (by omega) (by omega) (fun i _ h2 => hdes i (by omega)) 0 (by omega) n (by omega)
  exact br_f (by decide) h
/-- the end turned round -/
theorem yw_next_129 {post : Int32 → SY → Prop} {n i0 : Nat} {R : Nat → Int32} (n8 : n ≤ 8) (hi : i0 + 1 < n) (h : ∀ ar, (∀ i, i ≤ i0 → ar i = R i) → (∀ i, i0 < i → i < n → ar i = R (n + i0 - i)) → post 1 (f_fresh, f_n, f_hasWitness, a_row, a_weight, a_witness, a_label, ar, a_module, a_least)) :
    ∀ d a b, a + b = n + i0 → i0 < a → b < n → (b - a) ≤ d → (∀ i, i ≤ i0 → a_order i = R i) → (∀ i, i0 < i → i < n → a_order i = if a ≤ i ∧ i ≤ b then R i else R (n + i0 - i)) → ∀ f, d < f → wY_nextOrder_129 post f_fresh f_n f_hasWitness f (nI a) (nI b) a_row a_weight a_witness a_label a_order a_module a_least := by
  intro d
  induction d generalizing a_order with
  | zero =>
    intro a b hab ha hb hd h1 h2 f hf
    obtain ⟨m, rfl⟩ : ∃ m, f = m + 1 := ⟨f - 1, by omega⟩
    refine br_t (nI_le (by omega) (by omega)) (h a_order h1 (fun i hi' hin => ?_))
    rw [h2 i hi' hin]
    by_cases z : a ≤ i ∧ i ≤ b
    · rw [if_pos z, show n + i0 - i = i by omega]
    · rw [if_neg z]
  | succ d ih =>
    intro a b hab ha hb hd h1 h2 f hf
    obtain ⟨m, rfl⟩ : ∃ m, f = m + 1 := ⟨f - 1, by omega⟩
    by_cases ba : b ≤ a
    · refine br_t (nI_le ba (by omega)) (h a_order h1 (fun i hi' hin => ?_))
      rw [h2 i hi' hin]
      by_cases z : a ≤ i ∧ i ≤ b
      · rw [if_pos z, show n + i0 - i = i by omega]
      · rw [if_neg z]
    · have ia : vp_in (nI a) 8 := ib_in (show a < 8 by omega) (by omega)
      have ib : vp_in (nI b) 8 := ib_in (show b < 8 by omega) (by omega)
      refine br_f (nI_ge (by omega) (by omega)) ?_
      rw [ib_cl (show a < 256 by omega), ib_cl (show b < 256 by omega)]
      have em : nI b + (-1) = nI (b - 1) := by
        rw [pm_ip_m]; unfold pm_ip; rw [if_neg (by omega)]
      refine ⟨ia, nm_e ⟨ib, ia, nm_e ⟨ib, nm_e (nm_r (nI_1 a) (nm_r em (ih (a + 1) (b - 1) (by omega) (by omega) (by omega) (by omega) ?_ ?_ m (by omega))))⟩⟩⟩
      · intro i hi'
        rw [pk_un (by omega), pk_un (by omega)]
        exact h1 i hi'
      · intro i hi' hin
        by_cases eb : i = b
        · rw [eb, pk_us, h2 a ha (by omega), if_pos (by omega), if_neg (by omega), show n + i0 - b = a by omega]
        · rw [pk_un eb]
          by_cases ea : i = a
          · rw [ea, pk_us, h2 b (by omega) hb, if_pos (by omega), if_neg (by omega), show n + i0 - a = b by omega]
          · rw [pk_un ea, h2 i hi' hin]
            by_cases z : a ≤ i ∧ i ≤ b
            · rw [if_pos z, if_pos (by omega)]
            · rw [if_neg z, if_neg (by omega)]
theorem yw_next_1 {post : Int32 → SY → Prop} {n i0 j0 : Nat} {o : Nat → Nat} (n8 : n ≤ 8) (hn : f_n = nI n) (ho : ∀ i, i < n → a_order i = nI (o i)) (o8 : ∀ i, i < n → o i < 8)
    (hij : i0 < j0) (hj : j0 < n) (hdes : ∀ i, i0 < i → i + 1 < n → o (i + 1) < o i) (hst : o i0 < o (i0 + 1)) (hj1 : o i0 < o j0) (hj2 : ∀ j, j0 < j → j < n → o j < o i0)
    (h : ∀ ar, (∀ i, i < i0 → ar i = nI (o i)) → ar i0 = nI (o j0) → (∀ i, i0 < i → i < n → ar i = if n + i0 - i = j0 then nI (o i0) else nI (o (n + i0 - i))) → post 1 (f_fresh, f_n, f_hasWitness, a_row, a_weight, a_witness, a_label, ar, a_module, a_least)) : wpY_nextOrder post (f_fresh, f_n, f_hasWitness, a_row, a_weight, a_witness, a_label, a_order, a_module, a_least) := by
  subst hn
  have ii : vp_in (nI i0) 8 := ib_in (show i0 < 8 by omega) (by omega)
  have ij : vp_in (nI j0) 8 := ib_in (show j0 < 8 by omega) (by omega)
  have es : nI n - 1 = nI (n - 1) := pk_sub (a := n) (b := 1) (by omega)
  -- the swap and the turn
  have swap : wY_nextOrder_90 post (nI i0) (nI j0) f_fresh (nI n) f_hasWitness a_row a_weight a_witness a_label a_order a_module a_least := by
    unfold wY_nextOrder_90
    rw [ib_cl (show i0 < 256 by omega), ib_cl (show j0 < 256 by omega)]
    refine ⟨ii, nm_e ⟨ij, ii, nm_e ⟨ij, nm_e (nm_r (nI_1 i0) (nm_r es ⟨n + 1, ?_⟩))⟩⟩⟩
    refine yw_next_129 (i0 := i0) (R := upd (upd a_order i0 (a_order j0)) j0 (a_order i0)) n8 (by omega) ?_ n (i0 + 1) (n - 1) (by omega) (by omega) (by omega) (by omega) (fun i _ => rfl) ?_ (n + 1) (by omega)
    · intro ar h1 h2
      refine h ar (fun i hi => ?_) ?_ (fun i hi1 hi2 => ?_)
      · rw [h1 i (by omega), pk_un (by omega), pk_un (by omega), ho i (by omega)]
      · rw [h1 i0 (Nat.le_refl _), pk_un (by omega), pk_us, ho j0 hj]
      · rw [h2 i hi1 hi2]
        by_cases z : n + i0 - i = j0
        · rw [z, if_pos rfl, pk_us, ho i0 (by omega)]
        · rw [if_neg z, pk_un z, pk_un (by omega), ho _ (by omega)]
    · intro i hi1 hi2
      rw [if_pos (by omega)]
  -- the place to swap with
  have find : ∀ d j, j = j0 + d → j < n → ∀ k, k + j + 1 = n → ∀ f, d < f → wY_nextOrder_60 post (nI i0) f_fresh (nI n) f_hasWitness a_row a_weight a_witness a_label a_order a_module a_least f (nI j) (nI k) := by
    intro d
    induction d with
    | zero =>
      intro j hjd hjn k hk f hf
      obtain ⟨m, rfl⟩ : ∃ m, f = m + 1 := ⟨f - 1, by omega⟩
      have : j = j0 := by omega
      subst this
      have b1 := o8 j hj
      refine br_f (ib_8 (by omega)) ⟨ij, ii, ?_⟩
      rw [ib_cl (show i0 < 256 by omega), ib_cl (show j < 256 by omega), ho i0 (by omega), ho j hj]
      exact br_t (nI_le (by omega) (by omega)) swap
    | succ d ih =>
      intro j hjd hjn k hk f hf
      obtain ⟨m, rfl⟩ : ∃ m, f = m + 1 := ⟨f - 1, by omega⟩
      have b1 := o8 i0 (by omega)
      have lt := hj2 j (by omega) hjn
      refine br_f (ib_8 (by omega)) ⟨ib_in (show j < 8 by omega) (by omega), ii, ?_⟩
      rw [ib_cl (show i0 < 256 by omega), ib_cl (show j < 256 by omega), ho i0 (by omega), ho j hjn]
      have em : nI j + (-1) = nI (j - 1) := by
        rw [pm_ip_m]; unfold pm_ip; rw [if_neg (by omega)]
      exact br_f (nI_ge lt (by omega)) (nm_r em (nm_r (nI_1 k) (ih (j - 1) (by omega) (by omega) (k + 1) (by omega) m (by omega))))
  unfold wpY_nextOrder
  dsimp only
  refine nm_r (pm_ip_2 n (by omega) (by omega)) ⟨n, ?_⟩
  refine yw_next_9 (t0 := i0 + 1) n8 ho o8 (Or.inr (by rw [Nat.add_sub_cancel]; exact hst)) ?_ (n - 1 - (i0 + 1)) (n - 1) (by omega) (by omega) (fun i h1 h2 => hdes i (by omega) (by omega)) 0 (by omega) n (by omega)
  rw [pm_ip_s]
  exact br_t (nI_pos' (by omega)) (nm_r es ⟨n, find (n - 1 - j0) (n - 1) (by omega) (by omega) 0 (by omega) n (by omega)⟩)
/-- the next order, as lists -/
theorem yw_nextOrder {post : Int32 → SY → Prop} {n : Nat} {l l' : List Nat} (n8 : n ≤ 8) (hn : f_n = nI n) (hl : l.length = n) (l8 : ∀ v, v ∈ l → v < 8) (ho : ∀ i, i < n → a_order i = nI (pm_at l i)) (nx : pm_nx l l')
    (h : ∀ ar, (∀ i, i < n → ar i = nI (pm_at l' i)) → post 1 (f_fresh, f_n, f_hasWitness, a_row, a_weight, a_witness, a_label, ar, a_module, a_least)) : wpY_nextOrder post (f_fresh, f_n, f_hasWitness, a_row, a_weight, a_witness, a_label, a_order, a_module, a_least) := by
  obtain ⟨p, x, D1, y, D2, e1, e2, pw, xy, hz⟩ := nx
  have o8 : ∀ i, i < n → pm_at l i < 8 := fun i hi => l8 _ (pm_at_mem (by omega))
  have len : n = p.length + 1 + (D1.length + 1 + D2.length) := by
    rw [← hl, e1]; simp; omega
  have dl : (D1 ++ y :: D2).length = D1.length + 1 + D2.length := by simp; omega
  -- the places
  have at0 : pm_at l p.length = x := by rw [e1, show p.length = p.length + 0 by rfl, pm_at_r, pm_at_0]
  have atD : ∀ s, pm_at l (p.length + 1 + s) = pm_at (D1 ++ y :: D2) s := fun s => by rw [e1, show p.length + 1 + s = p.length + (s + 1) by omega, pm_at_r, pm_at_s]
  have aty : pm_at (D1 ++ y :: D2) D1.length = y := by rw [show D1.length = D1.length + 0 by rfl, pm_at_r, pm_at_0]
  have at2 : ∀ s, pm_at (D1 ++ y :: D2) (D1.length + 1 + s) = pm_at D2 s := fun s => by rw [show D1.length + 1 + s = D1.length + (s + 1) by omega, pm_at_r, pm_at_s]
  refine yw_next_1 (i0 := p.length) (j0 := p.length + 1 + D1.length) (o := pm_at l) n8 hn ho o8 (by omega) (by omega) ?_ ?_ ?_ ?_ ?_
  · intro i h1 h2
    obtain ⟨s, rfl⟩ : ∃ s, i = p.length + 1 + s := ⟨i - (p.length + 1), by omega⟩
    rw [show p.length + 1 + s + 1 = p.length + 1 + (s + 1) by omega, atD, atD]
    exact pm_at_pw pw (by omega) (by omega)
  · rw [at0, show p.length + 1 = p.length + 1 + 0 by rfl, atD]
    by_cases d0 : D1.length = 0
    · have e0 := aty
      rw [d0] at e0
      rw [e0]; exact xy
    · have := pm_at_pw pw (i := 0) (j := D1.length) (by omega) (by omega)
      rw [aty] at this
      omega
  · rw [at0, atD, aty]; exact xy
  · intro j h1 h2
    obtain ⟨s, rfl⟩ : ∃ s, j = p.length + 1 + (D1.length + 1 + s) := ⟨j - (p.length + 1) - (D1.length + 1), by omega⟩
    rw [at0, atD, at2]
    exact hz _ (pm_at_mem (by omega))
  · intro ar h1 h2 h3
    refine h ar (fun i hi => ?_)
    rcases Nat.lt_trichotomy i p.length with z | z | z
    · rw [h1 i z, e1, e2, pm_at_l z, pm_at_l z]
    · rw [z, h2, atD, aty, e2, show p.length = p.length + 0 by rfl, pm_at_r, pm_at_0]
    · rw [h3 i z hi]
      obtain ⟨t, rfl⟩ : ∃ t, i = p.length + 1 + t := ⟨i - (p.length + 1), by omega⟩
      have el : (D1 ++ x :: D2).length = D1.length + 1 + D2.length := by simp; omega
      have e3 : pm_at l' (p.length + 1 + t) = pm_at (D1 ++ x :: D2) (D1.length + D2.length - t) := by
        rw [e2, show p.length + 1 + t = p.length + (t + 1) by omega, pm_at_r, pm_at_s, pm_at_rev (by omega), el]
        congr 1
        omega
      have e4 : n + p.length - (p.length + 1 + t) = p.length + 1 + (D1.length + D2.length - t) := by omega
      rw [e3, e4]
      by_cases q : D1.length + D2.length - t = D1.length
      · rw [if_pos (by omega), q, at0, show D1.length = D1.length + 0 by rfl, pm_at_r, pm_at_0]
      · rw [if_neg (by omega), atD]
        congr 1
        rcases Nat.lt_or_ge (D1.length + D2.length - t) D1.length with w | w
        · rw [pm_at_l w, pm_at_l w]
        · obtain ⟨s, hs⟩ : ∃ s, D1.length + D2.length - t = D1.length + (s + 1) := ⟨D1.length + D2.length - t - D1.length - 1, by omega⟩
          rw [hs, pm_at_r, pm_at_r, pm_at_s, pm_at_s]
end
end
section
section
variable {f_fresh f_n f_hasWitness : Int32} {a_row a_weight a_witness a_label a_order a_module a_least : Nat → Int32}
/-- the paths of one order, then the next order -/
theorem yw_least_53 {post : Int32 → SY → Prop} {n best turn : Nat} {l : List Nat} {J : Int32 → Int32 → Int32 → Int32 → Int32 → Int32 → (Nat → Int32) → (Nat → Int32) → (Nat → Int32) → (Nat → Int32) → (Nat → Int32) → (Nat → Int32) → (Nat → Int32) → Prop} (n8 : n ≤ 8) (n1 : 1 ≤ n) (hn : f_n = nI n) (hl : l.length = n) (l8 : ∀ v, v ∈ l → v < 8) (b8 : best ≤ 8) (ho : ∀ i, i < n → a_order i = nI (pm_at l i))
    (h : wY_leastPaths_105 post J (nI (if best ≤ pc_cost (cg_E a_row) l then best else pc_cost (cg_E a_row) l)) (nI turn) f_fresh f_n f_hasWitness a_row a_weight a_witness a_label a_order a_module a_least) :
    ∀ d k, k + d + 1 = n → ∀ f, d < f → wY_leastPaths_53 post J (nI best) (nI turn) f_fresh f_n f_hasWitness a_row a_weight a_witness a_label a_order a_module a_least f (nI (1 + cg_cnt (fun k => !cg_E a_row (pm_at l k) (pm_at l (k + 1))) k)) (nI k) := by
  have hc : pc_cost (cg_E a_row) l = 1 + cg_cnt (fun k => !cg_E a_row (pm_at l k) (pm_at l (k + 1))) (n - 1) := by
    rw [pm_cost l (fun e => by rw [e] at hl; have : 0 = n := hl; omega), hl]
  have cle := pc_cost_le (E := cg_E a_row) l
  intro d
  induction d with
  | zero =>
    intro k hk f hf
    obtain ⟨m, rfl⟩ : ∃ m, f = m + 1 := ⟨f - 1, by omega⟩
    have : k = n - 1 := by omega
    subst this
    rw [← hc]
    refine br_t (by rw [hn, nI_1]; exact nI_le (by omega) (by omega)) ?_
    by_cases z : best ≤ pc_cost (cg_E a_row) l
    · rw [if_pos z] at h
      exact br_t (nI_le z (by omega)) h
    · rw [if_neg z] at h
      exact br_f (nI_ge (by omega) (by omega)) h
  | succ d ih =>
    intro k hk f hf
    obtain ⟨m, rfl⟩ : ∃ m, f = m + 1 := ⟨f - 1, by omega⟩
    have go := ih (k + 1) (by omega) m (by omega)
    have e : cg_cnt (fun k => !cg_E a_row (pm_at l k) (pm_at l (k + 1))) (k + 1) = cg_cnt (fun k => !cg_E a_row (pm_at l k) (pm_at l (k + 1))) k + (if (!cg_E a_row (pm_at l k) (pm_at l (k + 1))) = true then 1 else 0) := rfl
    rw [e] at go
    have a8 := l8 _ (pm_at_mem (l := l) (i := k) (by omega))
    have b8' := l8 _ (pm_at_mem (l := l) (i := k + 1) (by omega))
    refine br_f (by rw [hn, nI_1]; exact nI_ge (by omega) (by omega)) ?_
    rw [nI_1 k, ib_cl (show k < 256 by omega), ib_cl (show k + 1 < 256 by omega), ho k (by omega), ho (k + 1) (by omega)]
    refine ⟨ib_in (show k < 8 by omega) (by omega), ib_in (show k + 1 < 8 by omega) (by omega), yw_linked a8 (by omega) ?_⟩
    by_cases z : cg_E a_row (pm_at l k) (pm_at l (k + 1)) = true
    · rw [if_neg (by rw [z]; decide)] at go
      exact br_f (cg_b_t z) (nm_e go)
    · rw [if_pos (by rw [cg_bF z]; rfl)] at go
      exact br_t (cg_b_0.mpr (cg_bF z)) (nm_r (nI_1 _) (nm_e go))
/-- all the orders of a chain -/
theorem yw_least_37 {post : Int32 → SY → Prop} {n : Nat} {e : List Nat} (n8 : n ≤ 8) (n1 : 1 ≤ n) (hn : f_n = nI n) (he : e.Pairwise (· > ·)) :
    ∀ (rest : List (List Nat)) (l : List Nat) (ar : Nat → Int32) (best turn : Nat), pm_ch (l :: rest) e → (∀ q, q ∈ l :: rest → q.length = n ∧ ∀ v, v ∈ q → v < 8) → best ≤ 8 → turn + (rest.length + 1) ≤ 40320 → (∀ i, i < n → ar i = nI (pm_at l i)) →
      (∀ b or, b ≤ best → (∀ q, q ∈ l :: rest → b ≤ pc_cost (cg_E a_row) q) → (b = best ∨ ∃ q, q ∈ l :: rest ∧ b = pc_cost (cg_E a_row) q) → post (nI b) (f_fresh, f_n, f_hasWitness, a_row, a_weight, a_witness, a_label, or, a_module, a_least)) →
      ∀ f, rest.length + 1 < f → wY_leastPaths_37 post f (nI best) 1 (nI turn) f_fresh f_n f_hasWitness a_row a_weight a_witness a_label ar a_module a_least
  | [], l, ar, best, turn, hch, hq, hb, ht, har, h, f, hf => by
    obtain ⟨m, rfl⟩ : ∃ m, f = m + 2 := ⟨f - 2, by have : 0 + 1 < f := hf; omega⟩
    have ht : turn + 1 ≤ 40320 := by simpa using ht
    have el : l = e := hch
    obtain ⟨ll, l8⟩ := hq l (by simp)
    have des : ∀ i, i + 1 < n → pm_at l (i + 1) < pm_at l i := fun i hi => by rw [el]; exact pm_at_pw he (by omega) (by rw [← el]; omega)
    refine br_f (nI_ge (b := 40320) (by omega) (by decide)) (br_f (by decide) ⟨n + 1, ?_⟩)
    refine yw_least_53 n8 n1 hn ll l8 hb har ?_ (n - 1) 0 (by omega) (n + 1) (by omega)
    unfold wY_leastPaths_105
    refine yw_next_0 (o := pm_at l) n8 n1 hn har (fun i hi => l8 _ (pm_at_mem (by omega))) des (nm_r (nI_1 turn) ?_)
    have fin : post (nI (if best ≤ pc_cost (cg_E a_row) l then best else pc_cost (cg_E a_row) l)) (f_fresh, f_n, f_hasWitness, a_row, a_weight, a_witness, a_label, ar, a_module, a_least) := by
      refine h _ ar (by split <;> omega) (fun q hq' => ?_) ?_
      · rw [List.mem_singleton] at hq'
        rw [hq']; split <;> omega
      · split
        · exact Or.inl rfl
        · exact Or.inr ⟨l, by simp, rfl⟩
    by_cases z : 40320 ≤ turn + 1
    · exact br_t (nI_le (a := 40320) z (by omega)) fin
    · exact br_f (nI_ge (b := 40320) (by omega) (by decide)) (br_t rfl fin)
  | l' :: rest, l, ar, best, turn, hch, hq, hb, ht, har, h, f, hf => by
    obtain ⟨m, rfl⟩ : ∃ m, f = m + 1 := ⟨f - 1, by omega⟩
    have ht : turn + (rest.length + 1 + 1) ≤ 40320 := ht
    have hf : rest.length + 1 + 1 < m + 1 := hf
    obtain ⟨nx, hch'⟩ := hch
    obtain ⟨ll, l8⟩ := hq l (by simp)
    refine br_f (nI_ge (b := 40320) (by omega) (by decide)) (br_f (by decide) ⟨n + 1, ?_⟩)
    refine yw_least_53 n8 n1 hn ll l8 hb har ?_ (n - 1) 0 (by omega) (n + 1) (by omega)
    unfold wY_leastPaths_105
    refine yw_nextOrder n8 hn ll l8 har nx (fun ar' har' => nm_r (nI_1 turn) ?_)
    refine yw_least_37 n8 n1 hn he rest l' ar' _ (turn + 1) hch' (fun q hq' => hq q (List.mem_cons_of_mem _ hq')) (by split <;> omega) (by omega) har' ?_ m (by omega)
    intro b or h1 h2 h3
    refine h b or (by split at h1 <;> omega) (fun q hq' => ?_) ?_
    · rcases List.mem_cons.mp hq' with t | t
      · rw [t]; split at h1 <;> omega
      · exact h2 q t
    · rcases h3 with t | ⟨q, hq', t⟩
      · rw [t]
        split
        · exact Or.inl rfl
        · exact Or.inr ⟨l, by simp, rfl⟩
      · exact Or.inr ⟨q, List.mem_cons_of_mem _ hq', t⟩
theorem yw_leastPaths {post : Int32 → SY → Prop} {n : Nat} (n8 : n ≤ 8) (hn : f_n = nI n) (h : ∀ or, post (nI (pc_F (cg_E a_row) (fun v => decide (v < n)))) (f_fresh, f_n, f_hasWitness, a_row, a_weight, a_witness, a_label, or, a_module, a_least)) : wpY_leastPaths post (f_fresh, f_n, f_hasWitness, a_row, a_weight, a_witness, a_label, a_order, a_module, a_least) := by
  unfold wpY_leastPaths
  dsimp only
  by_cases n0 : n = 0
  · have e : (fun v => decide (v < n)) = fun _ => false := by funext v; rw [n0]; simp
    rw [e, pc_F_0] at h
    exact br_t (by rw [hn, n0]; rfl) (h a_order)
  · have n1 : 1 ≤ n := by omega
    refine br_f (by rw [hn]; exact nI_ne0 (by omega) (by omega)) ⟨9, ?_⟩
    -- the orders
    have nd : (List.range n).Nodup := List.nodup_range
    have ln : (List.range n).length = n := List.length_range
    have srt : (List.range n).Pairwise (· < ·) := List.pairwise_lt_range
    obtain ⟨hch, r, hr⟩ := pm_main n (List.range n) ln srt
    have hlen := pm_length n (List.range n) ln
    have hf8 := pm_f8 n (by omega)
    have mem : ∀ q, q ∈ pm_all n (List.range n) ↔ pc_enum (fun v => decide (v < n)) q := by
      intro q
      rw [pm_mem n (List.range n) q ln nd]
      unfold pc_enum
      constructor
      · rintro ⟨a, b⟩
        exact ⟨a, fun v => by rw [b, List.mem_range]; simp⟩
      · rintro ⟨a, b⟩
        exact ⟨a, fun v => by rw [b, List.mem_range]; simp⟩
    have v8 : ∀ v, (fun v => decide (v < n)) v = true → v < 8 := fun v hv => by have := of_decide_eq_true hv; omega
    have des : (List.range n).reverse.Pairwise (· > ·) := by rw [List.pairwise_reverse]; exact srt
    have run : ∀ ar : Nat → Int32, (∀ i, i < n → ar i = nI i) → ∃ f, wY_leastPaths_37 post f (nI 8) 1 (nI 0) f_fresh f_n f_hasWitness a_row a_weight a_witness a_label ar a_module a_least := by
      intro ar har
      rw [hr] at hch hlen
      rw [List.length_cons] at hlen
      refine ⟨r.length + 2, yw_least_37 n8 n1 hn des r (List.range n) ar 8 0 hch ?_ (by omega) (by omega) ?_ ?_ (r.length + 2) (by omega)⟩
      · intro q hq
        rw [← hr] at hq
        have hq := (mem q).mp hq
        refine ⟨?_, fun v hv => v8 v ((hq.2 v).mp hv)⟩
        have := pc_len q _ v8 hq
        rw [this, cg_cnt_ext n8 (fun i _ hi => of_decide_eq_true hi), cg_cnt_all n (fun i hi => decide_eq_true hi)]
      · intro i hi
        rw [har i hi]
        congr 1
        unfold pm_at
        rw [List.getD_eq_getElem?_getD, List.getElem?_range hi]
        rfl
      · intro b or h1 h2 h3
        rw [← hr] at h2 h3
        obtain ⟨⟨lo, elo, clo⟩, hmin⟩ := pc_F_spec (E := cg_E a_row) v8
        have b1 : b ≤ pc_F (cg_E a_row) (fun v => decide (v < n)) := by rw [← clo]; exact h2 lo ((mem lo).mpr elo)
        have b2 : pc_F (cg_E a_row) (fun v => decide (v < n)) ≤ b := by
          rcases h3 with t | ⟨q, hq, t⟩
          · rw [t]; exact pc_F_le8
          · rw [t]; exact hmin q ((mem q).mp hq)
        rw [show b = pc_F (cg_E a_row) (fun v => decide (v < n)) by omega]
        exact h or
    suffices loop : ∀ d i, i + d = 8 → ∀ ar : Nat → Int32, (∀ j, j < i → ar j = nI j) → ∀ f, d < f → wY_leastPaths_11 post f_fresh f_n f_hasWitness f (nI i) a_row a_weight a_witness a_label ar a_module a_least from
      loop 8 0 rfl a_order (fun j hj => (Nat.not_lt_zero j hj).elim) 9 (by omega)
    intro d
    induction d with
    | zero =>
      intro i hi ar har f hf
      obtain ⟨m, rfl⟩ : ∃ m, f = m + 1 := ⟨f - 1, by omega⟩
      have : i = 8 := by omega
      subst this
      exact br_t (by decide) (run ar (fun i hi => har i (by omega)))
    | succ d ih =>
      intro i hi ar har f hf
      obtain ⟨m, rfl⟩ : ∃ m, f = m + 1 := ⟨f - 1, by omega⟩
      refine br_f (ib_8 (by omega)) ⟨ib_in (show i < 8 by omega) (by omega), nm_e (nm_r (nI_1 i) (ih (i + 1) (by omega) _ ?_ m (by omega)))⟩
      intro j hj
      rw [ib_cl (show i < 256 by omega)]
      by_cases e : j = i
      · subst e; rw [pk_us]
      · rw [pk_un e]; exact har j (by omega)
end
theorem i_vc_measure {k : Nat} {u : SX} {v : SY} (I : i_Rel k u v) (hk : k + 3 ≤ 1537) (v1 : Int32) : wpX_measure (fun r u' => wpY_measure (fun r' v' => r' = r ∧ i_Rel (k + 3) u' v') v v1) u v1 := by
  obtain ⟨vc, root, used, nw, x1, x2, x3, x4, wk, kind, parent, leaves, children, weight, x5, x6, cells, x7⟩ := u
  obtain ⟨fresh, yn, hw, row, weight', wit, y1, y2, y3, y4⟩ := v
  have J := I
  obtain ⟨n, n8, rfl, rfl, _, _, _, G, T, _⟩ := J
  unfold wpX_measure
  dsimp only
  by_cases k0 : v1 = 0
  · refine br_t k0 ⟨21, xw_measure0 ?_⟩
    unfold wpY_measure
    refine br_t k0 (yw_strong n8 rfl (fun md => ?_))
    refine ⟨?_, I⟩
    rw [cg_T_count T n8 (fun u v hu hv => G.2.1 u v hu hv)]
  · refine br_f k0 ?_
    by_cases k1 : v1 = 1
    · refine br_t k1 ?_
      have es : ((1 : Int32) <<< (nI n &&& 31)) - 1 = nI (2 ^ n - 1) := by
        show ib_1 n - 1 = _
        rw [ib_set n8]
        exact pk_sub (b := 1) (Nat.pow_pos (by decide))
      rw [es]
      refine xw_eval_P T n8 ?_
      intro len ord value
      dsimp only
      unfold wpY_measure
      exact br_f k0 (br_t k1 (yw_leastPaths n8 rfl (fun or => ⟨rfl, I⟩)))
    · refine br_f k1 ?_
      unfold wpY_measure
      exact br_f k0 (br_f k1 ⟨rfl, I⟩)
end

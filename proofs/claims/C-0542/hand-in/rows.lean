section
/-! pure rows to paste: stores, nI and lN arithmetic, masks, shifts, narrowing, branches by naturals (pk_le, pk_lt, pk_eq), loops (lp1 .. lp16: the measure of the state; rp1 ..: recursion), negatives. Take what you need -/
theorem pk_us {f : Nat → Int32} {k : Nat} {x : Int32} : upd f k x k = x := if_pos rfl
theorem pk_un {f : Nat → Int32} {k j : Nat} {x : Int32} (h : j ≠ k) : upd f k x j = f j := if_neg h
theorem pk_uLs {f : Nat → Int64} {k : Nat} {x : Int64} : vp_updL f k x k = x := if_pos rfl
theorem pk_uLn {f : Nat → Int64} {k j : Nat} {x : Int64} (h : j ≠ k) : vp_updL f k x j = f j := if_neg h
theorem pk_sub {a b : Nat} (h : b ≤ a) : nI a - nI b = nI (a - b) := by
  obtain ⟨c, rfl⟩ : ∃ c, a = c + b := ⟨a - b, by omega⟩
  rw [← nI_add, Int32.add_sub_cancel, Nat.add_sub_cancel]
theorem pk_m1 (n : Nat) : nI (n + 1) + (-1) = nI n := by
  rw [← nI_1, Int32.add_assoc, show (1 : Int32) + (-1) = 0 from rfl, Int32.add_zero]
theorem pk_mul (a b : Nat) : nI a * nI b = nI (a * b) := (Int32.ofNat_mul a b).symm
theorem pk_div {a d : Nat} (ha : a < 2 ^ 31) (h0 : 0 < d) (hd : d < 2 ^ 31) : nI a / nI d = nI (a / d) := by
  apply Int32.toInt_inj.mp
  rw [lg_idiv_nonneg (by rw [nI_toInt ha]; omega) (by rw [nI_toInt hd]; omega), nI_toInt ha, nI_toInt hd, nI_toInt (Nat.lt_of_le_of_lt (Nat.div_le_self a d) ha)]
  first | rfl | exact (Int.natCast_ediv _ _).symm
theorem pk_rem {a d : Nat} (ha : a < 2 ^ 31) (h0 : 0 < d) (hd : d < 2 ^ 31) : nI a - nI a / nI d * nI d = nI (a % d) := by
  rw [pk_div ha h0 hd, pk_mul, pk_sub (Nat.div_mul_le_self a d)]
  exact congrArg nI (by have := Nat.div_add_mod' a d; omega)
theorem pk_sub_toInt {a b : Nat} (ha : a < 2 ^ 30) (hb : b < 2 ^ 30) : (nI a - nI b).toInt = (a : Int) - b := by
  rw [Int32.toInt_sub, nI_toInt (by omega), nI_toInt (by omega)]
  exact Int.bmod_eq_of_le (by omega) (by omega)
theorem pk_sneg {a b : Nat} (hb : b < 2 ^ 30) (h : a < b) : nI a - nI b < 0 := by
  rw [Int32.lt_iff_toInt_lt, pk_sub_toInt (by omega) hb, show (0 : Int32).toInt = 0 from by decide]
  omega
theorem pk_ix (x : Int32) {n : Nat} (hn : n < 2 ^ 31) : x < 0 ∨ nI n ≤ x ∨ ∃ j : Nat, j < n ∧ x = nI j := by
  by_cases h : x < 0
  · exact Or.inl h
  · obtain ⟨j, hj, rfl⟩ := nI_of h
    by_cases h2 : j < n
    · exact Or.inr (Or.inr ⟨j, h2, rfl⟩)
    · exact Or.inr (Or.inl (nI_le (by omega) hj))
theorem pk_le {x y : Int32} {A B : Prop} (a b : Nat) (f : a ≤ b → A) (g : b < a → B) (hx : x = nI a := by rfl) (hy : y = nI b := by rfl) (ha : a < 2 ^ 31 := by omega) (hb : b < 2 ^ 31 := by omega) : (x ≤ y → A) ∧ (¬ x ≤ y → B) := by
  subst hx hy
  rw [nI_leI ha hb]
  exact ⟨f, fun z => g (by omega)⟩
theorem pk_lt {x y : Int32} {A B : Prop} (a b : Nat) (f : a < b → A) (g : b ≤ a → B) (hx : x = nI a := by rfl) (hy : y = nI b := by rfl) (ha : a < 2 ^ 31 := by omega) (hb : b < 2 ^ 31 := by omega) : (x < y → A) ∧ (¬ x < y → B) := by
  subst hx hy
  rw [nI_ltI ha hb]
  exact ⟨f, fun z => g (by omega)⟩
theorem pk_eq {x y : Int32} {A B : Prop} (a b : Nat) (f : a = b → A) (g : a ≠ b → B) (hx : x = nI a := by rfl) (hy : y = nI b := by rfl) (ha : a < 2 ^ 31 := by omega) (hb : b < 2 ^ 31 := by omega) : (x = y → A) ∧ (¬ x = y → B) := by
  subst hx hy
  rw [nI_eq ha hb]
  exact ⟨f, g⟩
theorem pk_in {x : Int32} (n N : Nat) (h : n < N) (hx : x = nI n := by rfl) (hN : N < 2 ^ 31 := by omega) : vp_in x N := by
  subst hx
  exact vp_in_nI h hN
theorem pk_cl {x : Int32} (n : Nat) (hx : x = nI n := by rfl) (h : n < 2 ^ 31 := by omega) : x.toNatClampNeg = n := by
  subst hx
  exact nI_clamp h
theorem pk_tn {n : Nat} (h : n < 2 ^ 32) : (nI n).toBitVec.toNat = n := Nat.mod_eq_of_lt h
theorem pk_and (x : Int32) {m : Int32} (k : Nat) (hm : m.toBitVec.toNat = 2 ^ k - 1) : x &&& m = nI (x.toBitVec.toNat % 2 ^ k) := by
  apply Int32.toBitVec_inj.mp
  apply BitVec.eq_of_toNat_eq
  rw [Int32.toBitVec_and, BitVec.toNat_and, hm, Nat.and_two_pow_sub_one_eq_mod]
  show _ = (BitVec.ofNat 32 _).toNat
  rw [BitVec.toNat_ofNat]
  exact (Nat.mod_eq_of_lt (Nat.lt_of_le_of_lt (Nat.mod_le _ _) x.toBitVec.isLt)).symm
theorem pk_andN {n : Nat} (h : n < 2 ^ 32) {m : Int32} (k : Nat) (hm : m.toBitVec.toNat = 2 ^ k - 1) : nI n &&& m = nI (n % 2 ^ k) := by
  rw [pk_and _ k hm, pk_tn h]
theorem pk_andE (x : Int32) {m : Int32} (k : Nat) (hm : m.toBitVec.toNat = 2 ^ k - 1) : ∃ j : Nat, j < 2 ^ k ∧ x &&& m = nI j := ⟨_, Nat.mod_lt _ (Nat.two_pow_pos k), pk_and x k hm⟩
theorem pk_andIn (x : Int32) {m : Int32} (k : Nat) (hm : m.toBitVec.toNat = 2 ^ k - 1) (hk : k ≤ 30) : vp_in (x &&& m) (2 ^ k) := by
  obtain ⟨j, hj, e⟩ := pk_andE x k hm
  rw [e]
  exact vp_in_nI hj (Nat.lt_of_le_of_lt (Nat.pow_le_pow_right (by decide) hk) (by decide))
theorem pk_shl (a s : Int32) (k : Nat) (hs : (s.toBitVec.smod 32).toNat = k) : (a <<< s).toBitVec.toNat = a.toBitVec.toNat * 2 ^ k % 2 ^ 32 := by
  show (a.toBitVec <<< (s.toBitVec.smod 32).toNat).toNat = _
  rw [hs, BitVec.toNat_shiftLeft, Nat.shiftLeft_eq]
theorem pk_shlN {n : Nat} (s : Int32) (k : Nat) (hs : (s.toBitVec.smod 32).toNat = k) (h : n * 2 ^ k < 2 ^ 32) : nI n <<< s = nI (n * 2 ^ k) := by
  apply Int32.toBitVec_inj.mp
  apply BitVec.eq_of_toNat_eq
  have hn : n < 2 ^ 32 := Nat.lt_of_le_of_lt (Nat.le_mul_of_pos_right n (Nat.two_pow_pos k)) h
  rw [pk_shl _ _ k hs, pk_tn hn, pk_tn h, Nat.mod_eq_of_lt h]
theorem pk_shr (a s : Int32) (k : Nat) (hs : (s.toBitVec.smod 32).toNat = k) : (a >>> s).toInt = a.toInt >>> k := by
  show (a.toBitVec.sshiftRight (s.toBitVec.smod 32).toNat).toInt = _
  rw [hs, BitVec.toInt_sshiftRight]
  rfl
theorem pk_shrN {n : Nat} (h : n < 2 ^ 31) (s : Int32) (k : Nat) (hs : (s.toBitVec.smod 32).toNat = k) : nI n >>> s = nI (n / 2 ^ k) := by
  apply Int32.toInt_inj.mp
  have h2 : n / 2 ^ k ≤ n := Nat.div_le_self _ _
  rw [pk_shr _ _ k hs, nI_toInt h, nI_toInt (by omega), Int.shiftRight_eq_div_pow]
  rfl
theorem pk_ushr (x s : Int32) (k : Nat) (hs : ((s.toUInt32 &&& Int32.toUInt32 31).toBitVec % 32).toNat = k) : (x.toUInt32 >>> (s.toUInt32 &&& Int32.toUInt32 31)).toInt32.toBitVec.toNat = x.toBitVec.toNat / 2 ^ k := by
  have e : (x.toUInt32 >>> (s.toUInt32 &&& Int32.toUInt32 31)).toInt32.toBitVec = x.toBitVec >>> k := by
    rw [← hs]
    exact UInt32.toBitVec_shiftRight _ _
  rw [e, BitVec.toNat_ushiftRight, Nat.shiftRight_eq_div_pow]
theorem pk_ushrN {n : Nat} (hn : n < 2 ^ 32) (s : Int32) (k : Nat) (hs : ((s.toUInt32 &&& Int32.toUInt32 31).toBitVec % 32).toNat = k) : ((nI n).toUInt32 >>> (s.toUInt32 &&& Int32.toUInt32 31)).toInt32 = nI (n / 2 ^ k) := by
  apply Int32.toBitVec_inj.mp
  apply BitVec.eq_of_toNat_eq
  rw [pk_ushr _ s k hs, pk_tn hn, pk_tn (Nat.lt_of_le_of_lt (Nat.div_le_self _ _) hn)]
theorem pk_nb (z : Int32) : narrow .byte (.int z.toInt8.toInt32) = .int z.toInt8.toInt32 := congrArg Value.int (by simp)
theorem pk_ns (z : Int32) : narrow .short (.int z.toInt16.toInt32) = .int z.toInt16.toInt32 := congrArg Value.int (by simp)
theorem pk_fb (r : Int32) : fits .byte (.int r.toInt8.toInt32) = true := by
  have ⟨a, b⟩ := lg_i2b_range r
  have h1 : (-128 : Int32).toInt = -128 := by decide
  have h2 : (127 : Int32).toInt = 127 := by decide
  simp only [fits, Bool.and_eq_true, decide_eq_true_eq, Int32.le_iff_toInt_le, h1, h2]
  omega
theorem pk_fs (r : Int32) : fits .short (.int r.toInt16.toInt32) = true := by
  have ⟨a, b⟩ := lg_i2s_range r
  have h1 : (-32768 : Int32).toInt = -32768 := by decide
  have h2 : (32767 : Int32).toInt = 32767 := by decide
  simp only [fits, Bool.and_eq_true, decide_eq_true_eq, Int32.le_iff_toInt_le, h1, h2]
  omega
theorem pk_charN {q : Nat} (hq : q < 65536) : narrow .char (.int (nI q)) = .int (nI q) ∧ fits .char (.int (nI q)) = true := by
  constructor
  · have e : (nI q).toUInt32.toUInt16.toUInt32.toInt32 = nI q := by
      apply Int32.toBitVec_inj.mp
      apply BitVec.eq_of_toNat_eq
      show (nI q).toUInt32.toUInt16.toUInt32.toNat = q % 2 ^ 32
      rw [UInt16.toNat_toUInt32, UInt32.toNat_toUInt16, show (nI q).toUInt32.toNat = q % 2 ^ 32 from rfl]
      omega
    exact congrArg Value.int e
  · have a : (0 : Int32) ≤ nI q := nI_pos' (by omega)
    have b : nI q ≤ 65535 := nI_le (b := 65535) (by omega) (by decide)
    show (decide ((0 : Int32) ≤ nI q) && decide (nI q ≤ 65535)) = true
    rw [decide_eq_true a, decide_eq_true b]
    rfl
theorem pk_char (x : Int32) : (x.toUInt32 % 65536).toInt32 = nI (x.toBitVec.toNat % 65536) := by
  apply Int32.toBitVec_inj.mp
  apply BitVec.eq_of_toNat_eq
  rw [pk_tn (by omega)]
  show (x.toUInt32 % 65536).toNat = _
  rw [UInt32.toNat_mod]
  rfl
theorem pk_nc (x : Int32) : narrow .char (.int (x.toUInt32 % 65536).toInt32) = .int (x.toUInt32 % 65536).toInt32 := by
  rw [pk_char]
  exact (pk_charN (Nat.mod_lt _ (by decide))).1
theorem pk_fc (x : Int32) : fits .char (.int (x.toUInt32 % 65536).toInt32) = true := by
  rw [pk_char]
  exact (pk_charN (Nat.mod_lt _ (by decide))).2
theorem pk_vb (z : Int32) : vp_nar .byte z.toInt8.toInt32 = z.toInt8.toInt32 := by rw [vp_nar_byte]; simp
theorem pk_vs (z : Int32) : vp_nar .short z.toInt16.toInt32 = z.toInt16.toInt32 := by rw [vp_nar_short]; simp
theorem pk_vc (z : Int32) : vp_nar .char (z.toUInt32 % 65536).toInt32 = (z.toUInt32 % 65536).toInt32 := Value.int.inj (pk_nc z)
theorem pk_lT {n : Nat} (h : n < 2 ^ 63) : (lN n).toInt = (n : Int) := lg_ofNat_toInt h
theorem pk_lLT {a b : Nat} (ha : a < 2 ^ 63) (hb : b < 2 ^ 63) : lN a < lN b ↔ a < b := by
  rw [Int64.lt_iff_toInt_lt, pk_lT ha, pk_lT hb]; omega
theorem pk_lLE {a b : Nat} (ha : a < 2 ^ 63) (hb : b < 2 ^ 63) : lN a ≤ lN b ↔ a ≤ b := by
  rw [Int64.le_iff_toInt_le, pk_lT ha, pk_lT hb]; omega
theorem pk_lEQ {a b : Nat} (ha : a < 2 ^ 63) (hb : b < 2 ^ 63) : lN a = lN b ↔ a = b := by
  rw [← Int64.toInt_inj, pk_lT ha, pk_lT hb]; omega
theorem pk_lOf {x : Int64} (h : ¬ x < 0) : ∃ k : Nat, k < 2 ^ 63 ∧ x = lN k := by
  rw [Int64.lt_iff_toInt_lt] at h
  have h0 : (0 : Int64).toInt = 0 := by decide
  have hx := Int64.toInt_lt x
  refine ⟨x.toInt.toNat, by omega, Int64.toInt_inj.mp ?_⟩
  rw [pk_lT (by omega)]
  omega
theorem pk_lDiv {a b : Nat} (ha : a < 2 ^ 63) (h0 : 0 < b) (hb : b < 2 ^ 63) : lN a / lN b = lN (a / b) := by
  apply Int64.toInt_inj.mp
  rw [lg_ldiv_nonneg (by rw [pk_lT ha]; omega) (by rw [pk_lT hb]; omega), pk_lT ha, pk_lT hb, pk_lT (Nat.lt_of_le_of_lt (Nat.div_le_self a b) ha)]
  rfl
theorem pk_lRem {a b : Nat} (ha : a < 2 ^ 63) (h0 : 0 < b) (hb : b < 2 ^ 63) : lN a - lN a / lN b * lN b = lN (a % b) := by
  rw [pk_lDiv ha h0 hb, lN_mul, lN_sub (Nat.div_mul_le_self a b)]
  exact congrArg lN (by have := Nat.div_add_mod' a b; omega)
theorem pk_loop {σ : Type} (W : Nat → Nat → σ → Prop) (I : Nat → σ → Prop) (e i0 : Nat) (s : σ) (hi : i0 ≤ e) (h0 : I i0 s) (hx : ∀ n s, I e s → W (n + 1) e s)
    (hs : ∀ n i s, i < e → I i s → (∀ s', I (i + 1) s' → W n (i + 1) s') → W (n + 1) i s) : ∃ n, W n i0 s :=
  ⟨e + 1, loop_i W I e hx hs (e + 1) i0 s hi (by omega) h0⟩
theorem pk_loopD {σ : Type} (W : Nat → Nat → σ → Prop) (I : Nat → σ → Prop) (hx : ∀ n s, I 0 s → W (n + 1) 0 s)
    (hs : ∀ n i s, I (i + 1) s → (∀ s', I i s' → W n i s') → W (n + 1) (i + 1) s) : ∀ (e : Nat) (s : σ), I e s → W (e + 1) e s := by
  intro e
  induction e with
  | zero => exact fun s h => hx 0 s h
  | succ e ih => exact fun s h => hs (e + 1) e s h (fun s' h' => ih s' h')
theorem lp1 {A1 : Type} (W : Nat → A1 → Prop) (I : A1 → Prop) (μ : A1 → Nat) (hs : ∀ (n : Nat) (a1 : A1), I a1 → (∀ (b1 : A1), I b1 → μ b1 < μ a1 → W n b1) → W (n + 1) a1) (a1 : A1) (h : I a1) : ∃ n, W n a1 :=
  loop_m (σ := A1) (fun n s => W n s) (fun s => I s) (fun s => μ s) (fun n s hI hk => hs n s hI (fun b1 h9 hm => hk b1 h9 hm)) a1 h
theorem lp2 {A1 A2 : Type} (W : Nat → A1 → A2 → Prop) (I : A1 → A2 → Prop) (μ : A1 → A2 → Nat) (hs : ∀ (n : Nat) (a1 : A1) (a2 : A2), I a1 a2 → (∀ (b1 : A1) (b2 : A2), I b1 b2 → μ b1 b2 < μ a1 a2 → W n b1 b2) → W (n + 1) a1 a2) (a1 : A1) (a2 : A2) (h : I a1 a2) : ∃ n, W n a1 a2 :=
  loop_m (σ := A1 × A2) (fun n s => W n s.1 s.2) (fun s => I s.1 s.2) (fun s => μ s.1 s.2) (fun n s hI hk => hs n s.1 s.2 hI (fun b1 b2 h9 hm => hk (b1, b2) h9 hm)) (a1, a2) h
theorem lp3 {A1 A2 A3 : Type} (W : Nat → A1 → A2 → A3 → Prop) (I : A1 → A2 → A3 → Prop) (μ : A1 → A2 → A3 → Nat) (hs : ∀ (n : Nat) (a1 : A1) (a2 : A2) (a3 : A3), I a1 a2 a3 → (∀ (b1 : A1) (b2 : A2) (b3 : A3), I b1 b2 b3 → μ b1 b2 b3 < μ a1 a2 a3 → W n b1 b2 b3) → W (n + 1) a1 a2 a3) (a1 : A1) (a2 : A2) (a3 : A3) (h : I a1 a2 a3) : ∃ n, W n a1 a2 a3 :=
  loop_m (σ := A1 × A2 × A3) (fun n s => W n s.1 s.2.1 s.2.2) (fun s => I s.1 s.2.1 s.2.2) (fun s => μ s.1 s.2.1 s.2.2) (fun n s hI hk => hs n s.1 s.2.1 s.2.2 hI (fun b1 b2 b3 h9 hm => hk (b1, b2, b3) h9 hm)) (a1, a2, a3) h
theorem lp4 {A1 A2 A3 A4 : Type} (W : Nat → A1 → A2 → A3 → A4 → Prop) (I : A1 → A2 → A3 → A4 → Prop) (μ : A1 → A2 → A3 → A4 → Nat) (hs : ∀ (n : Nat) (a1 : A1) (a2 : A2) (a3 : A3) (a4 : A4), I a1 a2 a3 a4 → (∀ (b1 : A1) (b2 : A2) (b3 : A3) (b4 : A4), I b1 b2 b3 b4 → μ b1 b2 b3 b4 < μ a1 a2 a3 a4 → W n b1 b2 b3 b4) → W (n + 1) a1 a2 a3 a4) (a1 : A1) (a2 : A2) (a3 : A3) (a4 : A4) (h : I a1 a2 a3 a4) : ∃ n, W n a1 a2 a3 a4 :=
  loop_m (σ := A1 × A2 × A3 × A4) (fun n s => W n s.1 s.2.1 s.2.2.1 s.2.2.2) (fun s => I s.1 s.2.1 s.2.2.1 s.2.2.2) (fun s => μ s.1 s.2.1 s.2.2.1 s.2.2.2) (fun n s hI hk => hs n s.1 s.2.1 s.2.2.1 s.2.2.2 hI (fun b1 b2 b3 b4 h9 hm => hk (b1, b2, b3, b4) h9 hm)) (a1, a2, a3, a4) h
theorem lp5 {A1 A2 A3 A4 A5 : Type} (W : Nat → A1 → A2 → A3 → A4 → A5 → Prop) (I : A1 → A2 → A3 → A4 → A5 → Prop) (μ : A1 → A2 → A3 → A4 → A5 → Nat) (hs : ∀ (n : Nat) (a1 : A1) (a2 : A2) (a3 : A3) (a4 : A4) (a5 : A5), I a1 a2 a3 a4 a5 → (∀ (b1 : A1) (b2 : A2) (b3 : A3) (b4 : A4) (b5 : A5), I b1 b2 b3 b4 b5 → μ b1 b2 b3 b4 b5 < μ a1 a2 a3 a4 a5 → W n b1 b2 b3 b4 b5) → W (n + 1) a1 a2 a3 a4 a5) (a1 : A1) (a2 : A2) (a3 : A3) (a4 : A4) (a5 : A5) (h : I a1 a2 a3 a4 a5) : ∃ n, W n a1 a2 a3 a4 a5 :=
  loop_m (σ := A1 × A2 × A3 × A4 × A5) (fun n s => W n s.1 s.2.1 s.2.2.1 s.2.2.2.1 s.2.2.2.2) (fun s => I s.1 s.2.1 s.2.2.1 s.2.2.2.1 s.2.2.2.2) (fun s => μ s.1 s.2.1 s.2.2.1 s.2.2.2.1 s.2.2.2.2) (fun n s hI hk => hs n s.1 s.2.1 s.2.2.1 s.2.2.2.1 s.2.2.2.2 hI (fun b1 b2 b3 b4 b5 h9 hm => hk (b1, b2, b3, b4, b5) h9 hm)) (a1, a2, a3, a4, a5) h
theorem lp6 {A1 A2 A3 A4 A5 A6 : Type} (W : Nat → A1 → A2 → A3 → A4 → A5 → A6 → Prop) (I : A1 → A2 → A3 → A4 → A5 → A6 → Prop) (μ : A1 → A2 → A3 → A4 → A5 → A6 → Nat) (hs : ∀ (n : Nat) (a1 : A1) (a2 : A2) (a3 : A3) (a4 : A4) (a5 : A5) (a6 : A6), I a1 a2 a3 a4 a5 a6 → (∀ (b1 : A1) (b2 : A2) (b3 : A3) (b4 : A4) (b5 : A5) (b6 : A6), I b1 b2 b3 b4 b5 b6 → μ b1 b2 b3 b4 b5 b6 < μ a1 a2 a3 a4 a5 a6 → W n b1 b2 b3 b4 b5 b6) → W (n + 1) a1 a2 a3 a4 a5 a6) (a1 : A1) (a2 : A2) (a3 : A3) (a4 : A4) (a5 : A5) (a6 : A6) (h : I a1 a2 a3 a4 a5 a6) : ∃ n, W n a1 a2 a3 a4 a5 a6 :=
  loop_m (σ := A1 × A2 × A3 × A4 × A5 × A6) (fun n s => W n s.1 s.2.1 s.2.2.1 s.2.2.2.1 s.2.2.2.2.1 s.2.2.2.2.2) (fun s => I s.1 s.2.1 s.2.2.1 s.2.2.2.1 s.2.2.2.2.1 s.2.2.2.2.2) (fun s => μ s.1 s.2.1 s.2.2.1 s.2.2.2.1 s.2.2.2.2.1 s.2.2.2.2.2) (fun n s hI hk => hs n s.1 s.2.1 s.2.2.1 s.2.2.2.1 s.2.2.2.2.1 s.2.2.2.2.2 hI (fun b1 b2 b3 b4 b5 b6 h9 hm => hk (b1, b2, b3, b4, b5, b6) h9 hm)) (a1, a2, a3, a4, a5, a6) h
theorem lp7 {A1 A2 A3 A4 A5 A6 A7 : Type} (W : Nat → A1 → A2 → A3 → A4 → A5 → A6 → A7 → Prop) (I : A1 → A2 → A3 → A4 → A5 → A6 → A7 → Prop) (μ : A1 → A2 → A3 → A4 → A5 → A6 → A7 → Nat) (hs : ∀ (n : Nat) (a1 : A1) (a2 : A2) (a3 : A3) (a4 : A4) (a5 : A5) (a6 : A6) (a7 : A7), I a1 a2 a3 a4 a5 a6 a7 → (∀ (b1 : A1) (b2 : A2) (b3 : A3) (b4 : A4) (b5 : A5) (b6 : A6) (b7 : A7), I b1 b2 b3 b4 b5 b6 b7 → μ b1 b2 b3 b4 b5 b6 b7 < μ a1 a2 a3 a4 a5 a6 a7 → W n b1 b2 b3 b4 b5 b6 b7) → W (n + 1) a1 a2 a3 a4 a5 a6 a7) (a1 : A1) (a2 : A2) (a3 : A3) (a4 : A4) (a5 : A5) (a6 : A6) (a7 : A7) (h : I a1 a2 a3 a4 a5 a6 a7) : ∃ n, W n a1 a2 a3 a4 a5 a6 a7 :=
  loop_m (σ := A1 × A2 × A3 × A4 × A5 × A6 × A7) (fun n s => W n s.1 s.2.1 s.2.2.1 s.2.2.2.1 s.2.2.2.2.1 s.2.2.2.2.2.1 s.2.2.2.2.2.2) (fun s => I s.1 s.2.1 s.2.2.1 s.2.2.2.1 s.2.2.2.2.1 s.2.2.2.2.2.1 s.2.2.2.2.2.2) (fun s => μ s.1 s.2.1 s.2.2.1 s.2.2.2.1 s.2.2.2.2.1 s.2.2.2.2.2.1 s.2.2.2.2.2.2) (fun n s hI hk => hs n s.1 s.2.1 s.2.2.1 s.2.2.2.1 s.2.2.2.2.1 s.2.2.2.2.2.1 s.2.2.2.2.2.2 hI (fun b1 b2 b3 b4 b5 b6 b7 h9 hm => hk (b1, b2, b3, b4, b5, b6, b7) h9 hm)) (a1, a2, a3, a4, a5, a6, a7) h
theorem lp8 {A1 A2 A3 A4 A5 A6 A7 A8 : Type} (W : Nat → A1 → A2 → A3 → A4 → A5 → A6 → A7 → A8 → Prop) (I : A1 → A2 → A3 → A4 → A5 → A6 → A7 → A8 → Prop) (μ : A1 → A2 → A3 → A4 → A5 → A6 → A7 → A8 → Nat) (hs : ∀ (n : Nat) (a1 : A1) (a2 : A2) (a3 : A3) (a4 : A4) (a5 : A5) (a6 : A6) (a7 : A7) (a8 : A8), I a1 a2 a3 a4 a5 a6 a7 a8 → (∀ (b1 : A1) (b2 : A2) (b3 : A3) (b4 : A4) (b5 : A5) (b6 : A6) (b7 : A7) (b8 : A8), I b1 b2 b3 b4 b5 b6 b7 b8 → μ b1 b2 b3 b4 b5 b6 b7 b8 < μ a1 a2 a3 a4 a5 a6 a7 a8 → W n b1 b2 b3 b4 b5 b6 b7 b8) → W (n + 1) a1 a2 a3 a4 a5 a6 a7 a8) (a1 : A1) (a2 : A2) (a3 : A3) (a4 : A4) (a5 : A5) (a6 : A6) (a7 : A7) (a8 : A8) (h : I a1 a2 a3 a4 a5 a6 a7 a8) : ∃ n, W n a1 a2 a3 a4 a5 a6 a7 a8 :=
  loop_m (σ := A1 × A2 × A3 × A4 × A5 × A6 × A7 × A8) (fun n s => W n s.1 s.2.1 s.2.2.1 s.2.2.2.1 s.2.2.2.2.1 s.2.2.2.2.2.1 s.2.2.2.2.2.2.1 s.2.2.2.2.2.2.2) (fun s => I s.1 s.2.1 s.2.2.1 s.2.2.2.1 s.2.2.2.2.1 s.2.2.2.2.2.1 s.2.2.2.2.2.2.1 s.2.2.2.2.2.2.2) (fun s => μ s.1 s.2.1 s.2.2.1 s.2.2.2.1 s.2.2.2.2.1 s.2.2.2.2.2.1 s.2.2.2.2.2.2.1 s.2.2.2.2.2.2.2) (fun n s hI hk => hs n s.1 s.2.1 s.2.2.1 s.2.2.2.1 s.2.2.2.2.1 s.2.2.2.2.2.1 s.2.2.2.2.2.2.1 s.2.2.2.2.2.2.2 hI (fun b1 b2 b3 b4 b5 b6 b7 b8 h9 hm => hk (b1, b2, b3, b4, b5, b6, b7, b8) h9 hm)) (a1, a2, a3, a4, a5, a6, a7, a8) h
theorem lp9 {A1 A2 A3 A4 A5 A6 A7 A8 A9 : Type} (W : Nat → A1 → A2 → A3 → A4 → A5 → A6 → A7 → A8 → A9 → Prop) (I : A1 → A2 → A3 → A4 → A5 → A6 → A7 → A8 → A9 → Prop) (μ : A1 → A2 → A3 → A4 → A5 → A6 → A7 → A8 → A9 → Nat) (hs : ∀ (n : Nat) (a1 : A1) (a2 : A2) (a3 : A3) (a4 : A4) (a5 : A5) (a6 : A6) (a7 : A7) (a8 : A8) (a9 : A9), I a1 a2 a3 a4 a5 a6 a7 a8 a9 → (∀ (b1 : A1) (b2 : A2) (b3 : A3) (b4 : A4) (b5 : A5) (b6 : A6) (b7 : A7) (b8 : A8) (b9 : A9), I b1 b2 b3 b4 b5 b6 b7 b8 b9 → μ b1 b2 b3 b4 b5 b6 b7 b8 b9 < μ a1 a2 a3 a4 a5 a6 a7 a8 a9 → W n b1 b2 b3 b4 b5 b6 b7 b8 b9) → W (n + 1) a1 a2 a3 a4 a5 a6 a7 a8 a9) (a1 : A1) (a2 : A2) (a3 : A3) (a4 : A4) (a5 : A5) (a6 : A6) (a7 : A7) (a8 : A8) (a9 : A9) (h : I a1 a2 a3 a4 a5 a6 a7 a8 a9) : ∃ n, W n a1 a2 a3 a4 a5 a6 a7 a8 a9 :=
  loop_m (σ := A1 × A2 × A3 × A4 × A5 × A6 × A7 × A8 × A9) (fun n s => W n s.1 s.2.1 s.2.2.1 s.2.2.2.1 s.2.2.2.2.1 s.2.2.2.2.2.1 s.2.2.2.2.2.2.1 s.2.2.2.2.2.2.2.1 s.2.2.2.2.2.2.2.2) (fun s => I s.1 s.2.1 s.2.2.1 s.2.2.2.1 s.2.2.2.2.1 s.2.2.2.2.2.1 s.2.2.2.2.2.2.1 s.2.2.2.2.2.2.2.1 s.2.2.2.2.2.2.2.2) (fun s => μ s.1 s.2.1 s.2.2.1 s.2.2.2.1 s.2.2.2.2.1 s.2.2.2.2.2.1 s.2.2.2.2.2.2.1 s.2.2.2.2.2.2.2.1 s.2.2.2.2.2.2.2.2) (fun n s hI hk => hs n s.1 s.2.1 s.2.2.1 s.2.2.2.1 s.2.2.2.2.1 s.2.2.2.2.2.1 s.2.2.2.2.2.2.1 s.2.2.2.2.2.2.2.1 s.2.2.2.2.2.2.2.2 hI (fun b1 b2 b3 b4 b5 b6 b7 b8 b9 h9 hm => hk (b1, b2, b3, b4, b5, b6, b7, b8, b9) h9 hm)) (a1, a2, a3, a4, a5, a6, a7, a8, a9) h
theorem lp10 {A1 A2 A3 A4 A5 A6 A7 A8 A9 A10 : Type} (W : Nat → A1 → A2 → A3 → A4 → A5 → A6 → A7 → A8 → A9 → A10 → Prop) (I : A1 → A2 → A3 → A4 → A5 → A6 → A7 → A8 → A9 → A10 → Prop) (μ : A1 → A2 → A3 → A4 → A5 → A6 → A7 → A8 → A9 → A10 → Nat) (hs : ∀ (n : Nat) (a1 : A1) (a2 : A2) (a3 : A3) (a4 : A4) (a5 : A5) (a6 : A6) (a7 : A7) (a8 : A8) (a9 : A9) (a10 : A10), I a1 a2 a3 a4 a5 a6 a7 a8 a9 a10 → (∀ (b1 : A1) (b2 : A2) (b3 : A3) (b4 : A4) (b5 : A5) (b6 : A6) (b7 : A7) (b8 : A8) (b9 : A9) (b10 : A10), I b1 b2 b3 b4 b5 b6 b7 b8 b9 b10 → μ b1 b2 b3 b4 b5 b6 b7 b8 b9 b10 < μ a1 a2 a3 a4 a5 a6 a7 a8 a9 a10 → W n b1 b2 b3 b4 b5 b6 b7 b8 b9 b10) → W (n + 1) a1 a2 a3 a4 a5 a6 a7 a8 a9 a10) (a1 : A1) (a2 : A2) (a3 : A3) (a4 : A4) (a5 : A5) (a6 : A6) (a7 : A7) (a8 : A8) (a9 : A9) (a10 : A10) (h : I a1 a2 a3 a4 a5 a6 a7 a8 a9 a10) : ∃ n, W n a1 a2 a3 a4 a5 a6 a7 a8 a9 a10 :=
  loop_m (σ := A1 × A2 × A3 × A4 × A5 × A6 × A7 × A8 × A9 × A10) (fun n s => W n s.1 s.2.1 s.2.2.1 s.2.2.2.1 s.2.2.2.2.1 s.2.2.2.2.2.1 s.2.2.2.2.2.2.1 s.2.2.2.2.2.2.2.1 s.2.2.2.2.2.2.2.2.1 s.2.2.2.2.2.2.2.2.2) (fun s => I s.1 s.2.1 s.2.2.1 s.2.2.2.1 s.2.2.2.2.1 s.2.2.2.2.2.1 s.2.2.2.2.2.2.1 s.2.2.2.2.2.2.2.1 s.2.2.2.2.2.2.2.2.1 s.2.2.2.2.2.2.2.2.2) (fun s => μ s.1 s.2.1 s.2.2.1 s.2.2.2.1 s.2.2.2.2.1 s.2.2.2.2.2.1 s.2.2.2.2.2.2.1 s.2.2.2.2.2.2.2.1 s.2.2.2.2.2.2.2.2.1 s.2.2.2.2.2.2.2.2.2) (fun n s hI hk => hs n s.1 s.2.1 s.2.2.1 s.2.2.2.1 s.2.2.2.2.1 s.2.2.2.2.2.1 s.2.2.2.2.2.2.1 s.2.2.2.2.2.2.2.1 s.2.2.2.2.2.2.2.2.1 s.2.2.2.2.2.2.2.2.2 hI (fun b1 b2 b3 b4 b5 b6 b7 b8 b9 b10 h9 hm => hk (b1, b2, b3, b4, b5, b6, b7, b8, b9, b10) h9 hm)) (a1, a2, a3, a4, a5, a6, a7, a8, a9, a10) h
theorem lp11 {A1 A2 A3 A4 A5 A6 A7 A8 A9 A10 A11 : Type} (W : Nat → A1 → A2 → A3 → A4 → A5 → A6 → A7 → A8 → A9 → A10 → A11 → Prop) (I : A1 → A2 → A3 → A4 → A5 → A6 → A7 → A8 → A9 → A10 → A11 → Prop) (μ : A1 → A2 → A3 → A4 → A5 → A6 → A7 → A8 → A9 → A10 → A11 → Nat) (hs : ∀ (n : Nat) (a1 : A1) (a2 : A2) (a3 : A3) (a4 : A4) (a5 : A5) (a6 : A6) (a7 : A7) (a8 : A8) (a9 : A9) (a10 : A10) (a11 : A11), I a1 a2 a3 a4 a5 a6 a7 a8 a9 a10 a11 → (∀ (b1 : A1) (b2 : A2) (b3 : A3) (b4 : A4) (b5 : A5) (b6 : A6) (b7 : A7) (b8 : A8) (b9 : A9) (b10 : A10) (b11 : A11), I b1 b2 b3 b4 b5 b6 b7 b8 b9 b10 b11 → μ b1 b2 b3 b4 b5 b6 b7 b8 b9 b10 b11 < μ a1 a2 a3 a4 a5 a6 a7 a8 a9 a10 a11 → W n b1 b2 b3 b4 b5 b6 b7 b8 b9 b10 b11) → W (n + 1) a1 a2 a3 a4 a5 a6 a7 a8 a9 a10 a11) (a1 : A1) (a2 : A2) (a3 : A3) (a4 : A4) (a5 : A5) (a6 : A6) (a7 : A7) (a8 : A8) (a9 : A9) (a10 : A10) (a11 : A11) (h : I a1 a2 a3 a4 a5 a6 a7 a8 a9 a10 a11) : ∃ n, W n a1 a2 a3 a4 a5 a6 a7 a8 a9 a10 a11 :=
  loop_m (σ := A1 × A2 × A3 × A4 × A5 × A6 × A7 × A8 × A9 × A10 × A11) (fun n s => W n s.1 s.2.1 s.2.2.1 s.2.2.2.1 s.2.2.2.2.1 s.2.2.2.2.2.1 s.2.2.2.2.2.2.1 s.2.2.2.2.2.2.2.1 s.2.2.2.2.2.2.2.2.1 s.2.2.2.2.2.2.2.2.2.1 s.2.2.2.2.2.2.2.2.2.2) (fun s => I s.1 s.2.1 s.2.2.1 s.2.2.2.1 s.2.2.2.2.1 s.2.2.2.2.2.1 s.2.2.2.2.2.2.1 s.2.2.2.2.2.2.2.1 s.2.2.2.2.2.2.2.2.1 s.2.2.2.2.2.2.2.2.2.1 s.2.2.2.2.2.2.2.2.2.2) (fun s => μ s.1 s.2.1 s.2.2.1 s.2.2.2.1 s.2.2.2.2.1 s.2.2.2.2.2.1 s.2.2.2.2.2.2.1 s.2.2.2.2.2.2.2.1 s.2.2.2.2.2.2.2.2.1 s.2.2.2.2.2.2.2.2.2.1 s.2.2.2.2.2.2.2.2.2.2) (fun n s hI hk => hs n s.1 s.2.1 s.2.2.1 s.2.2.2.1 s.2.2.2.2.1 s.2.2.2.2.2.1 s.2.2.2.2.2.2.1 s.2.2.2.2.2.2.2.1 s.2.2.2.2.2.2.2.2.1 s.2.2.2.2.2.2.2.2.2.1 s.2.2.2.2.2.2.2.2.2.2 hI (fun b1 b2 b3 b4 b5 b6 b7 b8 b9 b10 b11 h9 hm => hk (b1, b2, b3, b4, b5, b6, b7, b8, b9, b10, b11) h9 hm)) (a1, a2, a3, a4, a5, a6, a7, a8, a9, a10, a11) h
theorem lp12 {A1 A2 A3 A4 A5 A6 A7 A8 A9 A10 A11 A12 : Type} (W : Nat → A1 → A2 → A3 → A4 → A5 → A6 → A7 → A8 → A9 → A10 → A11 → A12 → Prop) (I : A1 → A2 → A3 → A4 → A5 → A6 → A7 → A8 → A9 → A10 → A11 → A12 → Prop) (μ : A1 → A2 → A3 → A4 → A5 → A6 → A7 → A8 → A9 → A10 → A11 → A12 → Nat) (hs : ∀ (n : Nat) (a1 : A1) (a2 : A2) (a3 : A3) (a4 : A4) (a5 : A5) (a6 : A6) (a7 : A7) (a8 : A8) (a9 : A9) (a10 : A10) (a11 : A11) (a12 : A12), I a1 a2 a3 a4 a5 a6 a7 a8 a9 a10 a11 a12 → (∀ (b1 : A1) (b2 : A2) (b3 : A3) (b4 : A4) (b5 : A5) (b6 : A6) (b7 : A7) (b8 : A8) (b9 : A9) (b10 : A10) (b11 : A11) (b12 : A12), I b1 b2 b3 b4 b5 b6 b7 b8 b9 b10 b11 b12 → μ b1 b2 b3 b4 b5 b6 b7 b8 b9 b10 b11 b12 < μ a1 a2 a3 a4 a5 a6 a7 a8 a9 a10 a11 a12 → W n b1 b2 b3 b4 b5 b6 b7 b8 b9 b10 b11 b12) → W (n + 1) a1 a2 a3 a4 a5 a6 a7 a8 a9 a10 a11 a12) (a1 : A1) (a2 : A2) (a3 : A3) (a4 : A4) (a5 : A5) (a6 : A6) (a7 : A7) (a8 : A8) (a9 : A9) (a10 : A10) (a11 : A11) (a12 : A12) (h : I a1 a2 a3 a4 a5 a6 a7 a8 a9 a10 a11 a12) : ∃ n, W n a1 a2 a3 a4 a5 a6 a7 a8 a9 a10 a11 a12 :=
  loop_m (σ := A1 × A2 × A3 × A4 × A5 × A6 × A7 × A8 × A9 × A10 × A11 × A12) (fun n s => W n s.1 s.2.1 s.2.2.1 s.2.2.2.1 s.2.2.2.2.1 s.2.2.2.2.2.1 s.2.2.2.2.2.2.1 s.2.2.2.2.2.2.2.1 s.2.2.2.2.2.2.2.2.1 s.2.2.2.2.2.2.2.2.2.1 s.2.2.2.2.2.2.2.2.2.2.1 s.2.2.2.2.2.2.2.2.2.2.2) (fun s => I s.1 s.2.1 s.2.2.1 s.2.2.2.1 s.2.2.2.2.1 s.2.2.2.2.2.1 s.2.2.2.2.2.2.1 s.2.2.2.2.2.2.2.1 s.2.2.2.2.2.2.2.2.1 s.2.2.2.2.2.2.2.2.2.1 s.2.2.2.2.2.2.2.2.2.2.1 s.2.2.2.2.2.2.2.2.2.2.2) (fun s => μ s.1 s.2.1 s.2.2.1 s.2.2.2.1 s.2.2.2.2.1 s.2.2.2.2.2.1 s.2.2.2.2.2.2.1 s.2.2.2.2.2.2.2.1 s.2.2.2.2.2.2.2.2.1 s.2.2.2.2.2.2.2.2.2.1 s.2.2.2.2.2.2.2.2.2.2.1 s.2.2.2.2.2.2.2.2.2.2.2) (fun n s hI hk => hs n s.1 s.2.1 s.2.2.1 s.2.2.2.1 s.2.2.2.2.1 s.2.2.2.2.2.1 s.2.2.2.2.2.2.1 s.2.2.2.2.2.2.2.1 s.2.2.2.2.2.2.2.2.1 s.2.2.2.2.2.2.2.2.2.1 s.2.2.2.2.2.2.2.2.2.2.1 s.2.2.2.2.2.2.2.2.2.2.2 hI (fun b1 b2 b3 b4 b5 b6 b7 b8 b9 b10 b11 b12 h9 hm => hk (b1, b2, b3, b4, b5, b6, b7, b8, b9, b10, b11, b12) h9 hm)) (a1, a2, a3, a4, a5, a6, a7, a8, a9, a10, a11, a12) h
theorem lp13 {A1 A2 A3 A4 A5 A6 A7 A8 A9 A10 A11 A12 A13 : Type} (W : Nat → A1 → A2 → A3 → A4 → A5 → A6 → A7 → A8 → A9 → A10 → A11 → A12 → A13 → Prop) (I : A1 → A2 → A3 → A4 → A5 → A6 → A7 → A8 → A9 → A10 → A11 → A12 → A13 → Prop) (μ : A1 → A2 → A3 → A4 → A5 → A6 → A7 → A8 → A9 → A10 → A11 → A12 → A13 → Nat) (hs : ∀ (n : Nat) (a1 : A1) (a2 : A2) (a3 : A3) (a4 : A4) (a5 : A5) (a6 : A6) (a7 : A7) (a8 : A8) (a9 : A9) (a10 : A10) (a11 : A11) (a12 : A12) (a13 : A13), I a1 a2 a3 a4 a5 a6 a7 a8 a9 a10 a11 a12 a13 → (∀ (b1 : A1) (b2 : A2) (b3 : A3) (b4 : A4) (b5 : A5) (b6 : A6) (b7 : A7) (b8 : A8) (b9 : A9) (b10 : A10) (b11 : A11) (b12 : A12) (b13 : A13), I b1 b2 b3 b4 b5 b6 b7 b8 b9 b10 b11 b12 b13 → μ b1 b2 b3 b4 b5 b6 b7 b8 b9 b10 b11 b12 b13 < μ a1 a2 a3 a4 a5 a6 a7 a8 a9 a10 a11 a12 a13 → W n b1 b2 b3 b4 b5 b6 b7 b8 b9 b10 b11 b12 b13) → W (n + 1) a1 a2 a3 a4 a5 a6 a7 a8 a9 a10 a11 a12 a13) (a1 : A1) (a2 : A2) (a3 : A3) (a4 : A4) (a5 : A5) (a6 : A6) (a7 : A7) (a8 : A8) (a9 : A9) (a10 : A10) (a11 : A11) (a12 : A12) (a13 : A13) (h : I a1 a2 a3 a4 a5 a6 a7 a8 a9 a10 a11 a12 a13) : ∃ n, W n a1 a2 a3 a4 a5 a6 a7 a8 a9 a10 a11 a12 a13 :=
  loop_m (σ := A1 × A2 × A3 × A4 × A5 × A6 × A7 × A8 × A9 × A10 × A11 × A12 × A13) (fun n s => W n s.1 s.2.1 s.2.2.1 s.2.2.2.1 s.2.2.2.2.1 s.2.2.2.2.2.1 s.2.2.2.2.2.2.1 s.2.2.2.2.2.2.2.1 s.2.2.2.2.2.2.2.2.1 s.2.2.2.2.2.2.2.2.2.1 s.2.2.2.2.2.2.2.2.2.2.1 s.2.2.2.2.2.2.2.2.2.2.2.1 s.2.2.2.2.2.2.2.2.2.2.2.2) (fun s => I s.1 s.2.1 s.2.2.1 s.2.2.2.1 s.2.2.2.2.1 s.2.2.2.2.2.1 s.2.2.2.2.2.2.1 s.2.2.2.2.2.2.2.1 s.2.2.2.2.2.2.2.2.1 s.2.2.2.2.2.2.2.2.2.1 s.2.2.2.2.2.2.2.2.2.2.1 s.2.2.2.2.2.2.2.2.2.2.2.1 s.2.2.2.2.2.2.2.2.2.2.2.2) (fun s => μ s.1 s.2.1 s.2.2.1 s.2.2.2.1 s.2.2.2.2.1 s.2.2.2.2.2.1 s.2.2.2.2.2.2.1 s.2.2.2.2.2.2.2.1 s.2.2.2.2.2.2.2.2.1 s.2.2.2.2.2.2.2.2.2.1 s.2.2.2.2.2.2.2.2.2.2.1 s.2.2.2.2.2.2.2.2.2.2.2.1 s.2.2.2.2.2.2.2.2.2.2.2.2) (fun n s hI hk => hs n s.1 s.2.1 s.2.2.1 s.2.2.2.1 s.2.2.2.2.1 s.2.2.2.2.2.1 s.2.2.2.2.2.2.1 s.2.2.2.2.2.2.2.1 s.2.2.2.2.2.2.2.2.1 s.2.2.2.2.2.2.2.2.2.1 s.2.2.2.2.2.2.2.2.2.2.1 s.2.2.2.2.2.2.2.2.2.2.2.1 s.2.2.2.2.2.2.2.2.2.2.2.2 hI (fun b1 b2 b3 b4 b5 b6 b7 b8 b9 b10 b11 b12 b13 h9 hm => hk (b1, b2, b3, b4, b5, b6, b7, b8, b9, b10, b11, b12, b13) h9 hm)) (a1, a2, a3, a4, a5, a6, a7, a8, a9, a10, a11, a12, a13) h
theorem lp14 {A1 A2 A3 A4 A5 A6 A7 A8 A9 A10 A11 A12 A13 A14 : Type} (W : Nat → A1 → A2 → A3 → A4 → A5 → A6 → A7 → A8 → A9 → A10 → A11 → A12 → A13 → A14 → Prop) (I : A1 → A2 → A3 → A4 → A5 → A6 → A7 → A8 → A9 → A10 → A11 → A12 → A13 → A14 → Prop) (μ : A1 → A2 → A3 → A4 → A5 → A6 → A7 → A8 → A9 → A10 → A11 → A12 → A13 → A14 → Nat) (hs : ∀ (n : Nat) (a1 : A1) (a2 : A2) (a3 : A3) (a4 : A4) (a5 : A5) (a6 : A6) (a7 : A7) (a8 : A8) (a9 : A9) (a10 : A10) (a11 : A11) (a12 : A12) (a13 : A13) (a14 : A14), I a1 a2 a3 a4 a5 a6 a7 a8 a9 a10 a11 a12 a13 a14 → (∀ (b1 : A1) (b2 : A2) (b3 : A3) (b4 : A4) (b5 : A5) (b6 : A6) (b7 : A7) (b8 : A8) (b9 : A9) (b10 : A10) (b11 : A11) (b12 : A12) (b13 : A13) (b14 : A14), I b1 b2 b3 b4 b5 b6 b7 b8 b9 b10 b11 b12 b13 b14 → μ b1 b2 b3 b4 b5 b6 b7 b8 b9 b10 b11 b12 b13 b14 < μ a1 a2 a3 a4 a5 a6 a7 a8 a9 a10 a11 a12 a13 a14 → W n b1 b2 b3 b4 b5 b6 b7 b8 b9 b10 b11 b12 b13 b14) → W (n + 1) a1 a2 a3 a4 a5 a6 a7 a8 a9 a10 a11 a12 a13 a14) (a1 : A1) (a2 : A2) (a3 : A3) (a4 : A4) (a5 : A5) (a6 : A6) (a7 : A7) (a8 : A8) (a9 : A9) (a10 : A10) (a11 : A11) (a12 : A12) (a13 : A13) (a14 : A14) (h : I a1 a2 a3 a4 a5 a6 a7 a8 a9 a10 a11 a12 a13 a14) : ∃ n, W n a1 a2 a3 a4 a5 a6 a7 a8 a9 a10 a11 a12 a13 a14 :=
  loop_m (σ := A1 × A2 × A3 × A4 × A5 × A6 × A7 × A8 × A9 × A10 × A11 × A12 × A13 × A14) (fun n s => W n s.1 s.2.1 s.2.2.1 s.2.2.2.1 s.2.2.2.2.1 s.2.2.2.2.2.1 s.2.2.2.2.2.2.1 s.2.2.2.2.2.2.2.1 s.2.2.2.2.2.2.2.2.1 s.2.2.2.2.2.2.2.2.2.1 s.2.2.2.2.2.2.2.2.2.2.1 s.2.2.2.2.2.2.2.2.2.2.2.1 s.2.2.2.2.2.2.2.2.2.2.2.2.1 s.2.2.2.2.2.2.2.2.2.2.2.2.2) (fun s => I s.1 s.2.1 s.2.2.1 s.2.2.2.1 s.2.2.2.2.1 s.2.2.2.2.2.1 s.2.2.2.2.2.2.1 s.2.2.2.2.2.2.2.1 s.2.2.2.2.2.2.2.2.1 s.2.2.2.2.2.2.2.2.2.1 s.2.2.2.2.2.2.2.2.2.2.1 s.2.2.2.2.2.2.2.2.2.2.2.1 s.2.2.2.2.2.2.2.2.2.2.2.2.1 s.2.2.2.2.2.2.2.2.2.2.2.2.2) (fun s => μ s.1 s.2.1 s.2.2.1 s.2.2.2.1 s.2.2.2.2.1 s.2.2.2.2.2.1 s.2.2.2.2.2.2.1 s.2.2.2.2.2.2.2.1 s.2.2.2.2.2.2.2.2.1 s.2.2.2.2.2.2.2.2.2.1 s.2.2.2.2.2.2.2.2.2.2.1 s.2.2.2.2.2.2.2.2.2.2.2.1 s.2.2.2.2.2.2.2.2.2.2.2.2.1 s.2.2.2.2.2.2.2.2.2.2.2.2.2) (fun n s hI hk => hs n s.1 s.2.1 s.2.2.1 s.2.2.2.1 s.2.2.2.2.1 s.2.2.2.2.2.1 s.2.2.2.2.2.2.1 s.2.2.2.2.2.2.2.1 s.2.2.2.2.2.2.2.2.1 s.2.2.2.2.2.2.2.2.2.1 s.2.2.2.2.2.2.2.2.2.2.1 s.2.2.2.2.2.2.2.2.2.2.2.1 s.2.2.2.2.2.2.2.2.2.2.2.2.1 s.2.2.2.2.2.2.2.2.2.2.2.2.2 hI (fun b1 b2 b3 b4 b5 b6 b7 b8 b9 b10 b11 b12 b13 b14 h9 hm => hk (b1, b2, b3, b4, b5, b6, b7, b8, b9, b10, b11, b12, b13, b14) h9 hm)) (a1, a2, a3, a4, a5, a6, a7, a8, a9, a10, a11, a12, a13, a14) h
theorem lp15 {A1 A2 A3 A4 A5 A6 A7 A8 A9 A10 A11 A12 A13 A14 A15 : Type} (W : Nat → A1 → A2 → A3 → A4 → A5 → A6 → A7 → A8 → A9 → A10 → A11 → A12 → A13 → A14 → A15 → Prop) (I : A1 → A2 → A3 → A4 → A5 → A6 → A7 → A8 → A9 → A10 → A11 → A12 → A13 → A14 → A15 → Prop) (μ : A1 → A2 → A3 → A4 → A5 → A6 → A7 → A8 → A9 → A10 → A11 → A12 → A13 → A14 → A15 → Nat) (hs : ∀ (n : Nat) (a1 : A1) (a2 : A2) (a3 : A3) (a4 : A4) (a5 : A5) (a6 : A6) (a7 : A7) (a8 : A8) (a9 : A9) (a10 : A10) (a11 : A11) (a12 : A12) (a13 : A13) (a14 : A14) (a15 : A15), I a1 a2 a3 a4 a5 a6 a7 a8 a9 a10 a11 a12 a13 a14 a15 → (∀ (b1 : A1) (b2 : A2) (b3 : A3) (b4 : A4) (b5 : A5) (b6 : A6) (b7 : A7) (b8 : A8) (b9 : A9) (b10 : A10) (b11 : A11) (b12 : A12) (b13 : A13) (b14 : A14) (b15 : A15), I b1 b2 b3 b4 b5 b6 b7 b8 b9 b10 b11 b12 b13 b14 b15 → μ b1 b2 b3 b4 b5 b6 b7 b8 b9 b10 b11 b12 b13 b14 b15 < μ a1 a2 a3 a4 a5 a6 a7 a8 a9 a10 a11 a12 a13 a14 a15 → W n b1 b2 b3 b4 b5 b6 b7 b8 b9 b10 b11 b12 b13 b14 b15) → W (n + 1) a1 a2 a3 a4 a5 a6 a7 a8 a9 a10 a11 a12 a13 a14 a15) (a1 : A1) (a2 : A2) (a3 : A3) (a4 : A4) (a5 : A5) (a6 : A6) (a7 : A7) (a8 : A8) (a9 : A9) (a10 : A10) (a11 : A11) (a12 : A12) (a13 : A13) (a14 : A14) (a15 : A15) (h : I a1 a2 a3 a4 a5 a6 a7 a8 a9 a10 a11 a12 a13 a14 a15) : ∃ n, W n a1 a2 a3 a4 a5 a6 a7 a8 a9 a10 a11 a12 a13 a14 a15 :=
  loop_m (σ := A1 × A2 × A3 × A4 × A5 × A6 × A7 × A8 × A9 × A10 × A11 × A12 × A13 × A14 × A15) (fun n s => W n s.1 s.2.1 s.2.2.1 s.2.2.2.1 s.2.2.2.2.1 s.2.2.2.2.2.1 s.2.2.2.2.2.2.1 s.2.2.2.2.2.2.2.1 s.2.2.2.2.2.2.2.2.1 s.2.2.2.2.2.2.2.2.2.1 s.2.2.2.2.2.2.2.2.2.2.1 s.2.2.2.2.2.2.2.2.2.2.2.1 s.2.2.2.2.2.2.2.2.2.2.2.2.1 s.2.2.2.2.2.2.2.2.2.2.2.2.2.1 s.2.2.2.2.2.2.2.2.2.2.2.2.2.2) (fun s => I s.1 s.2.1 s.2.2.1 s.2.2.2.1 s.2.2.2.2.1 s.2.2.2.2.2.1 s.2.2.2.2.2.2.1 s.2.2.2.2.2.2.2.1 s.2.2.2.2.2.2.2.2.1 s.2.2.2.2.2.2.2.2.2.1 s.2.2.2.2.2.2.2.2.2.2.1 s.2.2.2.2.2.2.2.2.2.2.2.1 s.2.2.2.2.2.2.2.2.2.2.2.2.1 s.2.2.2.2.2.2.2.2.2.2.2.2.2.1 s.2.2.2.2.2.2.2.2.2.2.2.2.2.2) (fun s => μ s.1 s.2.1 s.2.2.1 s.2.2.2.1 s.2.2.2.2.1 s.2.2.2.2.2.1 s.2.2.2.2.2.2.1 s.2.2.2.2.2.2.2.1 s.2.2.2.2.2.2.2.2.1 s.2.2.2.2.2.2.2.2.2.1 s.2.2.2.2.2.2.2.2.2.2.1 s.2.2.2.2.2.2.2.2.2.2.2.1 s.2.2.2.2.2.2.2.2.2.2.2.2.1 s.2.2.2.2.2.2.2.2.2.2.2.2.2.1 s.2.2.2.2.2.2.2.2.2.2.2.2.2.2) (fun n s hI hk => hs n s.1 s.2.1 s.2.2.1 s.2.2.2.1 s.2.2.2.2.1 s.2.2.2.2.2.1 s.2.2.2.2.2.2.1 s.2.2.2.2.2.2.2.1 s.2.2.2.2.2.2.2.2.1 s.2.2.2.2.2.2.2.2.2.1 s.2.2.2.2.2.2.2.2.2.2.1 s.2.2.2.2.2.2.2.2.2.2.2.1 s.2.2.2.2.2.2.2.2.2.2.2.2.1 s.2.2.2.2.2.2.2.2.2.2.2.2.2.1 s.2.2.2.2.2.2.2.2.2.2.2.2.2.2 hI (fun b1 b2 b3 b4 b5 b6 b7 b8 b9 b10 b11 b12 b13 b14 b15 h9 hm => hk (b1, b2, b3, b4, b5, b6, b7, b8, b9, b10, b11, b12, b13, b14, b15) h9 hm)) (a1, a2, a3, a4, a5, a6, a7, a8, a9, a10, a11, a12, a13, a14, a15) h
theorem lp16 {A1 A2 A3 A4 A5 A6 A7 A8 A9 A10 A11 A12 A13 A14 A15 A16 : Type} (W : Nat → A1 → A2 → A3 → A4 → A5 → A6 → A7 → A8 → A9 → A10 → A11 → A12 → A13 → A14 → A15 → A16 → Prop) (I : A1 → A2 → A3 → A4 → A5 → A6 → A7 → A8 → A9 → A10 → A11 → A12 → A13 → A14 → A15 → A16 → Prop) (μ : A1 → A2 → A3 → A4 → A5 → A6 → A7 → A8 → A9 → A10 → A11 → A12 → A13 → A14 → A15 → A16 → Nat) (hs : ∀ (n : Nat) (a1 : A1) (a2 : A2) (a3 : A3) (a4 : A4) (a5 : A5) (a6 : A6) (a7 : A7) (a8 : A8) (a9 : A9) (a10 : A10) (a11 : A11) (a12 : A12) (a13 : A13) (a14 : A14) (a15 : A15) (a16 : A16), I a1 a2 a3 a4 a5 a6 a7 a8 a9 a10 a11 a12 a13 a14 a15 a16 → (∀ (b1 : A1) (b2 : A2) (b3 : A3) (b4 : A4) (b5 : A5) (b6 : A6) (b7 : A7) (b8 : A8) (b9 : A9) (b10 : A10) (b11 : A11) (b12 : A12) (b13 : A13) (b14 : A14) (b15 : A15) (b16 : A16), I b1 b2 b3 b4 b5 b6 b7 b8 b9 b10 b11 b12 b13 b14 b15 b16 → μ b1 b2 b3 b4 b5 b6 b7 b8 b9 b10 b11 b12 b13 b14 b15 b16 < μ a1 a2 a3 a4 a5 a6 a7 a8 a9 a10 a11 a12 a13 a14 a15 a16 → W n b1 b2 b3 b4 b5 b6 b7 b8 b9 b10 b11 b12 b13 b14 b15 b16) → W (n + 1) a1 a2 a3 a4 a5 a6 a7 a8 a9 a10 a11 a12 a13 a14 a15 a16) (a1 : A1) (a2 : A2) (a3 : A3) (a4 : A4) (a5 : A5) (a6 : A6) (a7 : A7) (a8 : A8) (a9 : A9) (a10 : A10) (a11 : A11) (a12 : A12) (a13 : A13) (a14 : A14) (a15 : A15) (a16 : A16) (h : I a1 a2 a3 a4 a5 a6 a7 a8 a9 a10 a11 a12 a13 a14 a15 a16) : ∃ n, W n a1 a2 a3 a4 a5 a6 a7 a8 a9 a10 a11 a12 a13 a14 a15 a16 :=
  loop_m (σ := A1 × A2 × A3 × A4 × A5 × A6 × A7 × A8 × A9 × A10 × A11 × A12 × A13 × A14 × A15 × A16) (fun n s => W n s.1 s.2.1 s.2.2.1 s.2.2.2.1 s.2.2.2.2.1 s.2.2.2.2.2.1 s.2.2.2.2.2.2.1 s.2.2.2.2.2.2.2.1 s.2.2.2.2.2.2.2.2.1 s.2.2.2.2.2.2.2.2.2.1 s.2.2.2.2.2.2.2.2.2.2.1 s.2.2.2.2.2.2.2.2.2.2.2.1 s.2.2.2.2.2.2.2.2.2.2.2.2.1 s.2.2.2.2.2.2.2.2.2.2.2.2.2.1 s.2.2.2.2.2.2.2.2.2.2.2.2.2.2.1 s.2.2.2.2.2.2.2.2.2.2.2.2.2.2.2) (fun s => I s.1 s.2.1 s.2.2.1 s.2.2.2.1 s.2.2.2.2.1 s.2.2.2.2.2.1 s.2.2.2.2.2.2.1 s.2.2.2.2.2.2.2.1 s.2.2.2.2.2.2.2.2.1 s.2.2.2.2.2.2.2.2.2.1 s.2.2.2.2.2.2.2.2.2.2.1 s.2.2.2.2.2.2.2.2.2.2.2.1 s.2.2.2.2.2.2.2.2.2.2.2.2.1 s.2.2.2.2.2.2.2.2.2.2.2.2.2.1 s.2.2.2.2.2.2.2.2.2.2.2.2.2.2.1 s.2.2.2.2.2.2.2.2.2.2.2.2.2.2.2) (fun s => μ s.1 s.2.1 s.2.2.1 s.2.2.2.1 s.2.2.2.2.1 s.2.2.2.2.2.1 s.2.2.2.2.2.2.1 s.2.2.2.2.2.2.2.1 s.2.2.2.2.2.2.2.2.1 s.2.2.2.2.2.2.2.2.2.1 s.2.2.2.2.2.2.2.2.2.2.1 s.2.2.2.2.2.2.2.2.2.2.2.1 s.2.2.2.2.2.2.2.2.2.2.2.2.1 s.2.2.2.2.2.2.2.2.2.2.2.2.2.1 s.2.2.2.2.2.2.2.2.2.2.2.2.2.2.1 s.2.2.2.2.2.2.2.2.2.2.2.2.2.2.2) (fun n s hI hk => hs n s.1 s.2.1 s.2.2.1 s.2.2.2.1 s.2.2.2.2.1 s.2.2.2.2.2.1 s.2.2.2.2.2.2.1 s.2.2.2.2.2.2.2.1 s.2.2.2.2.2.2.2.2.1 s.2.2.2.2.2.2.2.2.2.1 s.2.2.2.2.2.2.2.2.2.2.1 s.2.2.2.2.2.2.2.2.2.2.2.1 s.2.2.2.2.2.2.2.2.2.2.2.2.1 s.2.2.2.2.2.2.2.2.2.2.2.2.2.1 s.2.2.2.2.2.2.2.2.2.2.2.2.2.2.1 s.2.2.2.2.2.2.2.2.2.2.2.2.2.2.2 hI (fun b1 b2 b3 b4 b5 b6 b7 b8 b9 b10 b11 b12 b13 b14 b15 b16 h9 hm => hk (b1, b2, b3, b4, b5, b6, b7, b8, b9, b10, b11, b12, b13, b14, b15, b16) h9 hm)) (a1, a2, a3, a4, a5, a6, a7, a8, a9, a10, a11, a12, a13, a14, a15, a16) h
theorem pk_least (P : Nat → Prop) (h : ∃ k, P k) : ∃ k, P k ∧ ∀ j, j < k → ¬ P j := by
  obtain ⟨k, hk⟩ := h
  induction k using Nat.strongRecOn with
  | ind k ih =>
    by_cases e : ∃ j, j < k ∧ P j
    · obtain ⟨j, hj, pj⟩ := e
      exact ih j hj pj
    · exact ⟨k, hk, fun j hj pj => e ⟨j, hj, pj⟩⟩
theorem rp1 {ρ A1 : Type} (W : Nat → (ρ → Prop) → A1 → Prop) (ok : A1 → Prop) (μ : A1 → Nat) (val : A1 → ρ)
    (hs : ∀ (d : Nat) (post : ρ → Prop) (a1 : A1), ok a1 → post (val a1) → (∀ (post' : ρ → Prop) (b1 : A1), ok b1 → μ b1 < μ a1 → post' (val b1) → W d post' b1) → W (d + 1) post a1) :
    ∀ (d : Nat) (post : ρ → Prop) (a1 : A1), ok a1 → μ a1 < d → post (val a1) → W d post a1 := by
  intro d
  induction d with
  | zero => intro post a1 _ h; omega
  | succ d ih =>
    intro post a1 ho hm hp
    exact hs d post a1 ho hp (fun post' b1 ho' hm' hp' => ih post' b1 ho' (by omega) hp')
theorem rp2 {ρ A1 A2 : Type} (W : Nat → (ρ → Prop) → A1 → A2 → Prop) (ok : A1 → A2 → Prop) (μ : A1 → A2 → Nat) (val : A1 → A2 → ρ)
    (hs : ∀ (d : Nat) (post : ρ → Prop) (a1 : A1) (a2 : A2), ok a1 a2 → post (val a1 a2) → (∀ (post' : ρ → Prop) (b1 : A1) (b2 : A2), ok b1 b2 → μ b1 b2 < μ a1 a2 → post' (val b1 b2) → W d post' b1 b2) → W (d + 1) post a1 a2) :
    ∀ (d : Nat) (post : ρ → Prop) (a1 : A1) (a2 : A2), ok a1 a2 → μ a1 a2 < d → post (val a1 a2) → W d post a1 a2 := by
  intro d
  induction d with
  | zero => intro post a1 a2 _ h; omega
  | succ d ih =>
    intro post a1 a2 ho hm hp
    exact hs d post a1 a2 ho hp (fun post' b1 b2 ho' hm' hp' => ih post' b1 b2 ho' (by omega) hp')
theorem rp3 {ρ A1 A2 A3 : Type} (W : Nat → (ρ → Prop) → A1 → A2 → A3 → Prop) (ok : A1 → A2 → A3 → Prop) (μ : A1 → A2 → A3 → Nat) (val : A1 → A2 → A3 → ρ)
    (hs : ∀ (d : Nat) (post : ρ → Prop) (a1 : A1) (a2 : A2) (a3 : A3), ok a1 a2 a3 → post (val a1 a2 a3) → (∀ (post' : ρ → Prop) (b1 : A1) (b2 : A2) (b3 : A3), ok b1 b2 b3 → μ b1 b2 b3 < μ a1 a2 a3 → post' (val b1 b2 b3) → W d post' b1 b2 b3) → W (d + 1) post a1 a2 a3) :
    ∀ (d : Nat) (post : ρ → Prop) (a1 : A1) (a2 : A2) (a3 : A3), ok a1 a2 a3 → μ a1 a2 a3 < d → post (val a1 a2 a3) → W d post a1 a2 a3 := by
  intro d
  induction d with
  | zero => intro post a1 a2 a3 _ h; omega
  | succ d ih =>
    intro post a1 a2 a3 ho hm hp
    exact hs d post a1 a2 a3 ho hp (fun post' b1 b2 b3 ho' hm' hp' => ih post' b1 b2 b3 ho' (by omega) hp')
theorem rp4 {ρ A1 A2 A3 A4 : Type} (W : Nat → (ρ → Prop) → A1 → A2 → A3 → A4 → Prop) (ok : A1 → A2 → A3 → A4 → Prop) (μ : A1 → A2 → A3 → A4 → Nat) (val : A1 → A2 → A3 → A4 → ρ)
    (hs : ∀ (d : Nat) (post : ρ → Prop) (a1 : A1) (a2 : A2) (a3 : A3) (a4 : A4), ok a1 a2 a3 a4 → post (val a1 a2 a3 a4) → (∀ (post' : ρ → Prop) (b1 : A1) (b2 : A2) (b3 : A3) (b4 : A4), ok b1 b2 b3 b4 → μ b1 b2 b3 b4 < μ a1 a2 a3 a4 → post' (val b1 b2 b3 b4) → W d post' b1 b2 b3 b4) → W (d + 1) post a1 a2 a3 a4) :
    ∀ (d : Nat) (post : ρ → Prop) (a1 : A1) (a2 : A2) (a3 : A3) (a4 : A4), ok a1 a2 a3 a4 → μ a1 a2 a3 a4 < d → post (val a1 a2 a3 a4) → W d post a1 a2 a3 a4 := by
  intro d
  induction d with
  | zero => intro post a1 a2 a3 a4 _ h; omega
  | succ d ih =>
    intro post a1 a2 a3 a4 ho hm hp
    exact hs d post a1 a2 a3 a4 ho hp (fun post' b1 b2 b3 b4 ho' hm' hp' => ih post' b1 b2 b3 b4 ho' (by omega) hp')
theorem rp5 {ρ A1 A2 A3 A4 A5 : Type} (W : Nat → (ρ → Prop) → A1 → A2 → A3 → A4 → A5 → Prop) (ok : A1 → A2 → A3 → A4 → A5 → Prop) (μ : A1 → A2 → A3 → A4 → A5 → Nat) (val : A1 → A2 → A3 → A4 → A5 → ρ)
    (hs : ∀ (d : Nat) (post : ρ → Prop) (a1 : A1) (a2 : A2) (a3 : A3) (a4 : A4) (a5 : A5), ok a1 a2 a3 a4 a5 → post (val a1 a2 a3 a4 a5) → (∀ (post' : ρ → Prop) (b1 : A1) (b2 : A2) (b3 : A3) (b4 : A4) (b5 : A5), ok b1 b2 b3 b4 b5 → μ b1 b2 b3 b4 b5 < μ a1 a2 a3 a4 a5 → post' (val b1 b2 b3 b4 b5) → W d post' b1 b2 b3 b4 b5) → W (d + 1) post a1 a2 a3 a4 a5) :
    ∀ (d : Nat) (post : ρ → Prop) (a1 : A1) (a2 : A2) (a3 : A3) (a4 : A4) (a5 : A5), ok a1 a2 a3 a4 a5 → μ a1 a2 a3 a4 a5 < d → post (val a1 a2 a3 a4 a5) → W d post a1 a2 a3 a4 a5 := by
  intro d
  induction d with
  | zero => intro post a1 a2 a3 a4 a5 _ h; omega
  | succ d ih =>
    intro post a1 a2 a3 a4 a5 ho hm hp
    exact hs d post a1 a2 a3 a4 a5 ho hp (fun post' b1 b2 b3 b4 b5 ho' hm' hp' => ih post' b1 b2 b3 b4 b5 ho' (by omega) hp')
theorem rp6 {ρ A1 A2 A3 A4 A5 A6 : Type} (W : Nat → (ρ → Prop) → A1 → A2 → A3 → A4 → A5 → A6 → Prop) (ok : A1 → A2 → A3 → A4 → A5 → A6 → Prop) (μ : A1 → A2 → A3 → A4 → A5 → A6 → Nat) (val : A1 → A2 → A3 → A4 → A5 → A6 → ρ)
    (hs : ∀ (d : Nat) (post : ρ → Prop) (a1 : A1) (a2 : A2) (a3 : A3) (a4 : A4) (a5 : A5) (a6 : A6), ok a1 a2 a3 a4 a5 a6 → post (val a1 a2 a3 a4 a5 a6) → (∀ (post' : ρ → Prop) (b1 : A1) (b2 : A2) (b3 : A3) (b4 : A4) (b5 : A5) (b6 : A6), ok b1 b2 b3 b4 b5 b6 → μ b1 b2 b3 b4 b5 b6 < μ a1 a2 a3 a4 a5 a6 → post' (val b1 b2 b3 b4 b5 b6) → W d post' b1 b2 b3 b4 b5 b6) → W (d + 1) post a1 a2 a3 a4 a5 a6) :
    ∀ (d : Nat) (post : ρ → Prop) (a1 : A1) (a2 : A2) (a3 : A3) (a4 : A4) (a5 : A5) (a6 : A6), ok a1 a2 a3 a4 a5 a6 → μ a1 a2 a3 a4 a5 a6 < d → post (val a1 a2 a3 a4 a5 a6) → W d post a1 a2 a3 a4 a5 a6 := by
  intro d
  induction d with
  | zero => intro post a1 a2 a3 a4 a5 a6 _ h; omega
  | succ d ih =>
    intro post a1 a2 a3 a4 a5 a6 ho hm hp
    exact hs d post a1 a2 a3 a4 a5 a6 ho hp (fun post' b1 b2 b3 b4 b5 b6 ho' hm' hp' => ih post' b1 b2 b3 b4 b5 b6 ho' (by omega) hp')
theorem rec_p {σ ρ : Type} (W : Nat → (ρ → Prop) → σ → Prop) (ok : σ → Prop) (μ : σ → Nat) (val : σ → ρ)
    (hs : ∀ d s post, ok s → post (val s) → (∀ s' post', ok s' → μ s' < μ s → post' (val s') → W d post' s') → W (d + 1) post s) :
    ∀ d s post, ok s → μ s < d → post (val s) → W d post s := by
  intro d
  induction d with
  | zero => intro s post _ h; omega
  | succ d ih =>
    intro s post ho hm hp
    exact hs d s post ho hp (fun s' post' ho' hm' hp' => ih s' post' ho' (by omega) hp')
theorem rec_q {σ ρ : Type} (W : Nat → (ρ → Prop) → σ → Prop) (ok : σ → Prop) (μ : σ → Nat) (Q : σ → ρ → Prop)
    (hs : ∀ d s post, ok s → (∀ r, Q s r → post r) → (∀ s' post', ok s' → μ s' < μ s → (∀ r, Q s' r → post' r) → W d post' s') → W (d + 1) post s) :
    ∀ d s post, ok s → μ s < d → (∀ r, Q s r → post r) → W d post s := by
  intro d
  induction d with
  | zero => intro s post _ h; omega
  | succ d ih =>
    intro s post ho hm hp
    exact hs d s post ho hp (fun s' post' ho' hm' hp' => ih s' post' ho' (by omega) hp')
def bx_sum (f : Nat → Int32) : Nat → Int32
  | 0 => 0
  | n + 1 => bx_sum f n + f n
theorem ek_u {A : Prop} {B : Nat → Prop} {k N : Nat} (hk : k < N) (h : B k) : (some k = none → A) ∧ (∀ y : Nat, some k = some y → (y < N ∧ B y)) :=
  ⟨fun z => absurd z (Option.some_ne_none k), fun _ e => (by cases e; exact ⟨hk, h⟩)⟩
theorem ek_nu {A : Prop} {B : Nat → Prop} (h : A) : ((none : Option Nat) = none → A) ∧ (∀ y : Nat, (none : Option Nat) = some y → B y) :=
  ⟨fun _ => h, fun _ e => (by cases e)⟩
theorem ek_if {c d A B : Prop} (e : c ↔ d) (f : d → A) (g : ¬ d → B) : (c → A) ∧ (¬ c → B) :=
  ⟨fun z => f (e.mp z), fun z => g (fun y => z (e.mpr y))⟩
theorem ek_v {α : Sort _} {P : α → Prop} {a b : α} (e : a = b) (h : P b) : P a := e ▸ h
theorem co_some {x : Option Nat} {A : Prop} {B : Nat → Prop} (i : Nat) (h : B i) (hx : x = some i := by rfl) : (x = none → A) ∧ (∀ y : Nat, x = some y → B y) := by
  subst hx
  exact ⟨fun e => (nomatch e), fun y e => Option.some.inj e ▸ h⟩
theorem co_none {x : Option Nat} {A : Prop} {B : Nat → Prop} (h : A) (hx : x = none := by rfl) : (x = none → A) ∧ (∀ y : Nat, x = some y → B y) := by
  subst hx
  exact ⟨fun _ => h, fun y e => (nomatch e)⟩
theorem co_any {x : Option Nat} {A : Prop} {B : Nat → Prop} (hn : x = none → A) (hs : ∀ i : Nat, x = some i → B i) : (x = none → A) ∧ (∀ y : Nat, x = some y → B y) := ⟨hn, hs⟩
theorem co_2 {P : Nat → Prop} (h0 : P 0) (h1 : P 1) {i : Nat} (hi : i < 2) : P i :=
  match i, hi with
  | 0, _ => h0
  | 1, _ => h1
theorem co_3 {P : Nat → Prop} (h0 : P 0) (h1 : P 1) (h2 : P 2) {i : Nat} (hi : i < 3) : P i :=
  match i, hi with
  | 0, _ => h0
  | 1, _ => h1
  | 2, _ => h2
theorem co_4 {P : Nat → Prop} (h0 : P 0) (h1 : P 1) (h2 : P 2) (h3 : P 3) {i : Nat} (hi : i < 4) : P i :=
  match i, hi with
  | 0, _ => h0
  | 1, _ => h1
  | 2, _ => h2
  | 3, _ => h3
theorem co_dec {N : Nat} {P : Nat → Prop} [DecidablePred P] (h : (List.range N).all (fun i => decide (P i)) = true) {i : Nat} (hi : i < N) : P i := by
  have := List.all_eq_true.mp h i (List.mem_range.mpr hi)
  exact of_decide_eq_true this
theorem co_tab {α : Type} {l : List α} {d : α} {P : α → Prop} (h : ∀ a, a ∈ l → P a) {i : Nat} (hi : i < l.length) : P (l.getD i d) := by
  rw [List.getD_eq_getElem?_getD, List.getElem?_eq_getElem hi]
  exact h _ (List.getElem_mem hi)
theorem pk_mu {x : Int32} {L : Nat} (h0 : ¬ x < 0) (h : ¬ nI L ≤ x) (hL : L < 2 ^ 31) : ∃ j : Nat, j < L ∧ x = nI j ∧ x + 1 = nI (j + 1) ∧ x.toNatClampNeg = j ∧ L - (x + 1).toNatClampNeg < L - x.toNatClampNeg := by
  obtain ⟨j, hj, rfl⟩ := nI_of h0
  have hl : j < L := Nat.not_le.mp fun q => h (nI_le q hj)
  refine ⟨j, hl, rfl, nI_1 j, nI_clamp hj, ?_⟩
  rw [nI_1, nI_clamp (by omega), nI_clamp hj]
  omega
theorem op_s {α : Type} {r : Option α} {A : Prop} {B : α → Prop} {y : α} (h : r = some y) (b : B y) : (r = none → A) ∧ ∀ z, r = some z → B z :=
  ⟨fun e => (by rw [h] at e; cases e), fun z e => (by rw [h] at e; cases e; exact b)⟩
def l_holds {α : Type} (a : Nat → Option Nat) (LP : List Nat) (p : Nat → α) (c : Nat) (b : Nat → α) : Prop :=
  ∀ j, j < c → ∃ y, a j = some y ∧ y ∈ LP ∧ p y = b j
theorem l_holds_0 {α : Type} {a : Nat → Option Nat} {LP : List Nat} {p b : Nat → α} : l_holds a LP p 0 b := fun j h => absurd h (Nat.not_lt_zero j)
theorem l_in_new (LP : List Nat) (q : Nat) : q ∈ LP ++ [q] := List.mem_append.mpr (Or.inr (List.mem_singleton.mpr rfl))
def l_sum (b : Nat → Int32) : Nat → Int32
  | 0 => 0
  | k + 1 => l_sum b k + b k
theorem sb_shr0 (x : Int32) : x >>> ((0 : Int32) &&& 31) = x := by
  rw [show ((0 : Int32) &&& 31) = 0 by decide]
  simp
theorem sb_shl0 (x : Int32) : x <<< ((0 : Int32) &&& 31) = x := by
  rw [show ((0 : Int32) &&& 31) = 0 by decide]
  simp
theorem sb_cl0 : (0 : Int32).toNatClampNeg = 0 := by decide
theorem sb_m1 {p : Nat} (h : 0 < p) : nI p + (-1) = nI (p - 1) := by
  obtain ⟨q, rfl⟩ : ∃ q, p = q + 1 := ⟨p - 1, by omega⟩
  exact pk_m1 q
def sb_b (c : Nat) : Int32 := (nI c).toInt8.toInt32
theorem sb_byte : ∀ c, c < 256 → sb_b c &&& 255 = nI c ∧ ((nI c).toUInt32 % 65536).toInt32 = nI c ∧ nI c ≤ 255 := by decide +kernel
def sb_Fit (a : Nat → Int32) : Prop := ∀ j, fits .byte (.int (a j)) = true
def sb_Lat (t : Nat → Nat) (n : Nat) (a : Nat → Int32) : Prop := ∀ j, j < n → t j < 256 ∧ a j = sb_b (t j)
theorem sb_fitB (c : Nat) : fits .byte (.int (sb_b c)) = true := pk_fb _
theorem sb_fit0 : sb_Fit (fun _ => 0) := fun _ => by
  show fits .byte (.int 0) = true
  decide
theorem sb_fitU {a : Nat → Int32} {k : Nat} {x : Int32} (h : sb_Fit a) (hx : fits .byte (.int x) = true) : sb_Fit (upd a k x) := by
  intro j
  by_cases e : j = k
  · subst e
    rw [pk_us]
    exact hx
  · rw [pk_un e]
    exact h j
def sb_cat (t : Nat → Nat) (n : Nat) (s : Nat → Nat) : Nat → Nat := fun j => if j < n then t j else s (j - n)
theorem sb_cat_lo {t s : Nat → Nat} {n j : Nat} (h : j < n) : sb_cat t n s j = t j := if_pos h
theorem sb_cat_hi {t s : Nat → Nat} {n j : Nat} : sb_cat t n s (n + j) = s j := by
  show (if n + j < n then t (n + j) else s (n + j - n)) = s j
  rw [if_neg (by omega), Nat.add_sub_cancel_left]
theorem sb_latPut {t s : Nat → Nat} {n w : Nat} {a a' : Nat → Int32} (h : sb_Lat t n a) (hk : ∀ j, j < n → a' j = a j) (hs : ∀ i, i < w → s i < 256 ∧ a' (n + i) = sb_b (s i)) : sb_Lat (sb_cat t n s) (n + w) a' := by
  intro j hj
  by_cases e : j < n
  · rw [sb_cat_lo e, hk j e]
    exact h j e
  · obtain ⟨i, rfl⟩ : ∃ i, j = n + i := ⟨j - n, by omega⟩
    rw [sb_cat_hi]
    exact hs i (by omega)
theorem sb_latKeep {t : Nat → Nat} {n : Nat} {a a' : Nat → Int32} (h : sb_Lat t n a) (hk : ∀ j, j < n → a' j = a j) : sb_Lat t n a' := fun j hj => by
  rw [hk j hj]
  exact h j hj
def sb_cap (q m : Nat) : Nat := if q ≤ m then m else if 2 * m + 2 < q then q else 2 * m + 2
def sb_Room (q m mc ms : Nat) : Prop := q ≤ m ∨ (1 ≤ mc ∧ sb_cap q m ≤ ms ∧ sb_cap q m ≤ 65536)
theorem sb_cap_ge (q m : Nat) : q ≤ sb_cap q m := by
  unfold sb_cap
  split
  · omega
  · split <;> omega
theorem sb_cap_gem (q m : Nat) : m ≤ sb_cap q m := by
  unfold sb_cap
  split
  · omega
  · split <;> omega
theorem sb_cap_le {q m mc ms : Nat} (hm : m ≤ 65536) (hr : sb_Room q m mc ms) : sb_cap q m ≤ 65536 := by
  rcases hr with h | h
  · rw [sb_cap, if_pos h]
    exact hm
  · exact h.2.2
theorem sb_at {P : Int32 → Prop} {x y : Int32} (e : x = y) (h : P y) : P x := e ▸ h
def sb_dg (w : Nat) : Nat := if w < 10 then 1 else if w < 100 then 2 else if w < 1000 then 3 else if w < 10000 then 4 else if w < 100000 then 5 else if w < 1000000 then 6 else if w < 10000000 then 7 else if w < 100000000 then 8 else if w < 1000000000 then 9 else 10
def sb_dec (v : Nat) : Nat → Nat := fun i => 48 + v / 10 ^ (sb_dg v - 1 - i) % 10
theorem sb_dg_in (w : Nat) : 1 ≤ sb_dg w ∧ sb_dg w ≤ 10 := by
  unfold sb_dg
  constructor <;> (repeat' split) <;> omega
theorem sb_dg100 {w : Nat} (h : 100 ≤ w) (hw : w < 2 ^ 31) : sb_dg w = sb_dg (w / 100) + 2 := by
  rw [sb_dg, sb_dg, if_neg (show ¬ w < 10 by omega), if_neg (show ¬ w < 100 by omega)]
  by_cases h3 : w < 1000
  · rw [if_pos h3, if_pos (show w / 100 < 10 by omega)]
  rw [if_neg h3, if_neg (show ¬ w / 100 < 10 by omega)]
  by_cases h4 : w < 10000
  · rw [if_pos h4, if_pos (show w / 100 < 100 by omega)]
  rw [if_neg h4, if_neg (show ¬ w / 100 < 100 by omega)]
  by_cases h5 : w < 100000
  · rw [if_pos h5, if_pos (show w / 100 < 1000 by omega)]
  rw [if_neg h5, if_neg (show ¬ w / 100 < 1000 by omega)]
  by_cases h6 : w < 1000000
  · rw [if_pos h6, if_pos (show w / 100 < 10000 by omega)]
  rw [if_neg h6, if_neg (show ¬ w / 100 < 10000 by omega)]
  by_cases h7 : w < 10000000
  · rw [if_pos h7, if_pos (show w / 100 < 100000 by omega)]
  rw [if_neg h7, if_neg (show ¬ w / 100 < 100000 by omega)]
  by_cases h8 : w < 100000000
  · rw [if_pos h8, if_pos (show w / 100 < 1000000 by omega)]
  rw [if_neg h8, if_neg (show ¬ w / 100 < 1000000 by omega)]
  by_cases h9 : w < 1000000000
  · rw [if_pos h9, if_pos (show w / 100 < 10000000 by omega)]
  rw [if_neg h9, if_neg (show ¬ w / 100 < 10000000 by omega)]
  rw [if_pos (show w / 100 < 100000000 by omega)]
theorem sb_negT {w : Nat} (h : w < 2 ^ 31) : (-nI w).toInt = -(w : Int) := by
  rw [Int32.toInt_neg, nI_toInt h]
  exact Int.bmod_eq_of_le (by omega) (by omega)
theorem sb_nle {a b : Nat} (ha : a < 2 ^ 31) (hb : b < 2 ^ 31) : -nI a ≤ -nI b ↔ b ≤ a := by
  rw [Int32.le_iff_toInt_le, sb_negT ha, sb_negT hb]
  omega
theorem sb_nlt {a b : Nat} (ha : a < 2 ^ 31) (hb : b < 2 ^ 31) : -nI a < -nI b ↔ b < a := by
  rw [Int32.lt_iff_toInt_lt, sb_negT ha, sb_negT hb]
  omega
theorem sb_cmp {A B : Prop} {x : Int32} (v c : Nat) (f : c ≤ v → A) (g : v < c → B) (hv : v < 2 ^ 31) (hx : x = -nI c := by rfl) (hc : c < 2 ^ 31 := by omega) : (-nI v ≤ x → A) ∧ (¬ -nI v ≤ x → B) := by
  subst hx
  rw [sb_nle hv hc]
  exact ⟨f, fun z => g (by omega)⟩
theorem sb_ndiv {w : Nat} (hw : w < 2 ^ 31) : (-nI w) / 100 = -nI (w / 100) := by
  apply Int32.toInt_inj.mp
  have h100 : (100 : Int32).toInt = 100 := by decide
  rw [Int32.toInt_div, sb_negT hw, h100, sb_negT (by omega), Int.neg_tdiv, Int.tdiv_eq_ediv_of_nonneg (by omega), Int.bmod_eq_of_le (by omega) (by omega)]
  omega
theorem sb_nrem {w : Nat} (hw : w < 2 ^ 31) : (-nI (w / 100)) * 100 - (-nI w) = nI (w % 100) := by
  have h := pk_rem (a := w) (d := 100) hw (by decide) (by decide)
  rw [pk_div hw (by decide) (by decide)] at h
  rw [← h]
  show (-nI (w / 100)) * nI 100 - (-nI w) = nI w - nI (w / 100) * nI 100
  rw [Int32.neg_mul, Int32.sub_neg, Int32.add_comm, ← Int32.sub_eq_add_neg]
end
section
/-! rows on bits, shifts and unsigned numbers, to paste: each family out of a closed proof of our own, whole with what it rests on; each by itself clean at Lean in its own claim (generation 39, form 5). Take a family whole -/
/-! ===== Int32 by its bits: bt x i ===== -/
def bt (x : Int32) (i : Nat) : Bool := x.toBitVec.getLsbD i
theorem b_ext {x y : Int32} (h : ∀ i, i < 32 → bt x i = bt y i) : x = y := Int32.toBitVec_inj.mp (BitVec.eq_of_getLsbD_eq (fun i hi => h i hi))
theorem b_or (x y : Int32) (i : Nat) : bt (x ||| y) i = (bt x i || bt y i) := by unfold bt; rw [Int32.toBitVec_or, BitVec.getLsbD_or]
theorem b_and (x y : Int32) (i : Nat) : bt (x &&& y) i = (bt x i && bt y i) := by unfold bt; rw [Int32.toBitVec_and, BitVec.getLsbD_and]
theorem b_xor (x y : Int32) (i : Nat) : bt (x ^^^ y) i = (bt x i ^^ bt y i) := by unfold bt; rw [Int32.toBitVec_xor, BitVec.getLsbD_xor]
theorem b_big {x : Int32} {i : Nat} (h : 32 ≤ i) : bt x i = false := BitVec.getLsbD_of_ge _ _ h
theorem b_255 (i : Nat) : bt 255 i = decide (i < 8) := by
  rcases Nat.lt_or_ge i 32 with h | h
  · exact (by decide +kernel : ∀ i, i < 32 → bt 255 i = decide (i < 8)) i h
  · rw [b_big h, decide_eq_false (by omega)]
theorem b_65535 (i : Nat) : bt 65535 i = decide (i < 16) := by
  rcases Nat.lt_or_ge i 32 with h | h
  · exact (by decide +kernel : ∀ i, i < 32 → bt 65535 i = decide (i < 16)) i h
  · rw [b_big h, decide_eq_false (by omega)]
theorem b_m1 : ∀ i, i < 32 → bt (-1) i = true := by decide +kernel
theorem b_0 (i : Nat) : bt 0 i = false := BitVec.getLsbD_zero
theorem s_l : ∀ n, n < 32 → ((nI n &&& 31).toBitVec.smod 32).toNat = n := by decide +kernel
theorem s_u : ∀ n, n < 32 → (((nI n).toUInt32 &&& Int32.toUInt32 31).toBitVec % 32).toNat = n := by decide +kernel
theorem b_shl (n : Nat) (hn : n < 32) (x : Int32) {i : Nat} (hi : i < 32) : bt (x <<< (nI n &&& 31)) i = (decide (n ≤ i) && bt x (i - n)) := by
  unfold bt
  rw [Int32.toBitVec_shiftLeft]
  show (x.toBitVec <<< ((nI n &&& 31).toBitVec.smod 32).toNat).getLsbD i = _
  rw [s_l n hn, BitVec.getLsbD_shiftLeft]
  rcases Nat.lt_or_ge i n with h | h
  · simp [h, Nat.not_le.mpr h]
  · simp [hi, h, Nat.not_lt.mpr h]
theorem b_ushr (n : Nat) (hn : n < 32) (x : Int32) (i : Nat) : bt ((x.toUInt32 >>> ((nI n).toUInt32 &&& Int32.toUInt32 31)).toInt32) i = bt x (n + i) := by
  show (x.toUInt32 >>> ((nI n).toUInt32 &&& Int32.toUInt32 31)).toBitVec.getLsbD i = x.toUInt32.toBitVec.getLsbD (n + i)
  rw [UInt32.toBitVec_shiftRight]
  show (x.toUInt32.toBitVec >>> (((nI n).toUInt32 &&& Int32.toUInt32 31).toBitVec % 32).toNat).getLsbD i = _
  rw [s_u n hn, BitVec.getLsbD_ushiftRight]
theorem b_sshr (n : Nat) (hn : n < 32) (x : Int32) {i : Nat} (hi : i < 32) : bt (x >>> (nI n &&& 31)) i = if n + i < 32 then bt x (n + i) else bt x 31 := by
  unfold bt
  rw [Int32.toBitVec_shiftRight]
  show (x.toBitVec.sshiftRight ((nI n &&& 31).toBitVec.smod 32).toNat).getLsbD i = _
  rw [s_l n hn, BitVec.getLsbD_sshiftRight, BitVec.msb_eq_getLsbD_last]
  simp [hi]
theorem b_shl8 (x : Int32) {i : Nat} (hi : i < 32) : bt (x <<< ((8 : Int32) &&& 31)) i = (decide (8 ≤ i) && bt x (i - 8)) := b_shl 8 (by omega) x hi
theorem b_shl16 (x : Int32) {i : Nat} (hi : i < 32) : bt (x <<< ((16 : Int32) &&& 31)) i = (decide (16 ≤ i) && bt x (i - 16)) := b_shl 16 (by omega) x hi
theorem b_shl24 (x : Int32) {i : Nat} (hi : i < 32) : bt (x <<< ((24 : Int32) &&& 31)) i = (decide (24 ≤ i) && bt x (i - 24)) := b_shl 24 (by omega) x hi
theorem b_sshr8 (x : Int32) {i : Nat} (hi : i < 32) : bt (x >>> ((8 : Int32) &&& 31)) i = if 8 + i < 32 then bt x (8 + i) else bt x 31 := b_sshr 8 (by omega) x hi
/-! ===== nI under and, xor, >>>, one bit, 65535 ===== -/
theorem nx_and (a b : Nat) : nI a &&& nI b = nI (a &&& b) := by
  apply Int32.toBitVec_inj.1
  show BitVec.ofNat 32 a &&& BitVec.ofNat 32 b = BitVec.ofNat 32 (a &&& b)
  apply BitVec.eq_of_getLsbD_eq
  intro i hi
  simp [hi]
theorem nx_xor (a b : Nat) : nI a ^^^ nI b = nI (a ^^^ b) := by
  apply Int32.toBitVec_inj.1
  show BitVec.ofNat 32 a ^^^ BitVec.ofNat 32 b = BitVec.ofNat 32 (a ^^^ b)
  apply BitVec.eq_of_getLsbD_eq
  intro i hi
  simp [hi]
theorem nx_cnt : ∀ j : Fin 32, (UInt32.ofNat j.val &&& Int32.toUInt32 31).toNat % 32 = j.val := by decide +kernel
theorem nx_ush {k j : Nat} (hk : k < 65536) (hj : j < 32) : ((nI k).toUInt32 >>> ((nI j).toUInt32 &&& Int32.toUInt32 31)).toInt32 = nI (k >>> j) := by
  have hs : k >>> j ≤ k := by
    rw [Nat.shiftRight_eq_div_pow]
    exact Nat.div_le_self _ _
  have e2 : UInt32.ofNat k >>> (UInt32.ofNat j &&& Int32.toUInt32 31) = UInt32.ofNat (k >>> j) := by
    apply UInt32.toNat_inj.1
    have h1 : (UInt32.ofNat k).toNat = k := Nat.mod_eq_of_lt (by omega)
    have h2 : (UInt32.ofNat (k >>> j)).toNat = k >>> j := Nat.mod_eq_of_lt (by omega)
    rw [UInt32.toNat_shiftRight, nx_cnt ⟨j, hj⟩, h1, h2]
  show (UInt32.ofNat k >>> (UInt32.ofNat j &&& Int32.toUInt32 31)).toInt32 = _
  rw [e2]
  rfl
theorem nx_bit {k j : Nat} (hk : k < 65536) (hj : j < 16) : (((nI k).toUInt32 >>> ((nI j).toUInt32 &&& Int32.toUInt32 31)).toInt32 &&& 1) = 0 ↔ k.testBit j = false := by
  rw [nx_ush hk (by omega)]
  show nI (k >>> j) &&& nI 1 = 0 ↔ _
  rw [nx_and, Nat.and_one_is_mod, ← nI_0, nI_eq (by omega) (by omega), Nat.testBit_eq_decide_div_mod_eq, Nat.shiftRight_eq_div_pow, decide_eq_false_iff_not]
  generalize k / 2 ^ j = z
  omega
theorem nx_mod (k : Nat) : nI k &&& 65535 = nI (k % 65536) := by
  show nI k &&& nI 65535 = _
  rw [nx_and, show (65535 : Nat) = 2 ^ 16 - 1 from rfl, Nat.and_two_pow_sub_one_eq_mod]
theorem nx_m16 {k : Nat} (h : k < 65536) : nI k &&& 65535 = nI k := by rw [nx_mod, Nat.mod_eq_of_lt h]
theorem nx_mask (x : Int32) : ∃ k, k < 65536 ∧ x &&& 65535 = nI k := by
  have e : x = nI x.toBitVec.toNat := by
    apply Int32.toBitVec_inj.1
    show x.toBitVec = BitVec.ofNat 32 x.toBitVec.toNat
    simp
  refine ⟨x.toBitVec.toNat % 65536, Nat.mod_lt _ (by omega), ?_⟩
  rw [← nx_mod, ← e]
/-! ===== Int32 as a set of bits: test, set ===== -/
def nf_M (m : Int32) : Nat := 4294967296 - m.toBitVec.toNat
theorem nf_sh : ∀ l, l < 32 → ((1 : Int32) <<< (nI l &&& 31)).toBitVec = BitVec.twoPow 32 l := by decide +kernel
theorem nf_sl : ∀ l, l < 32 → (((nI l).toUInt32 &&& Int32.toUInt32 31).toBitVec % 32).toNat = l := by decide +kernel
theorem nf_tp : ∀ l, l < 32 → BitVec.twoPow 32 l ≠ 0#32 := by decide +kernel
theorem nf_bit (m : Int32) (l : Nat) (hl : l < 32) : ((m.toUInt32 >>> ((nI l).toUInt32 &&& Int32.toUInt32 31)).toInt32 &&& 1) = 0 ↔ (m &&& ((1 : Int32) <<< (nI l &&& 31))) = 0 := by
  have e : ((m.toUInt32 >>> ((nI l).toUInt32 &&& Int32.toUInt32 31)).toInt32).toBitVec = m.toBitVec >>> l := by
    show m.toBitVec >>> (((nI l).toUInt32 &&& Int32.toUInt32 31).toBitVec % 32) = m.toBitVec >>> l
    rw [BitVec.ushiftRight_eq', nf_sl l hl]
  rw [← Int32.toBitVec_inj, ← Int32.toBitVec_inj, Int32.toBitVec_and, Int32.toBitVec_and, nf_sh l hl, e, BitVec.and_twoPow]
  show (m.toBitVec >>> l &&& 1#32) = 0#32 ↔ _ = 0#32
  rw [BitVec.and_one_eq_setWidth_ofBool_getLsbD, BitVec.getLsbD_ushiftRight, Nat.add_zero]
  cases hb : m.toBitVec.getLsbD l
  · exact ⟨fun _ => by simp, fun _ => by decide⟩
  · exact ⟨fun z => absurd z (by decide), fun z => absurd ((if_pos rfl).symm.trans z) (nf_tp l hl)⟩
theorem nf_gr (m k : Int32) (h : m &&& k = 0) (hk : k ≠ 0) : nf_M (m ||| k) < nf_M m := by
  have hm := m.toBitVec.isLt
  have hm' := (m ||| k).toBitVec.isLt
  have h1 : m.toBitVec.toNat ≤ (m ||| k).toBitVec.toNat := by
    rw [Int32.toBitVec_or, BitVec.toNat_or]
    exact Nat.left_le_or
  have h2 : m.toBitVec.toNat ≠ (m ||| k).toBitVec.toNat := by
    intro e
    have e2 : m = m ||| k := Int32.toBitVec_inj.mp (BitVec.eq_of_toNat_eq e)
    apply hk
    apply Int32.toBitVec_inj.mp
    show k.toBitVec = 0#32
    apply BitVec.eq_of_getLsbD_eq
    intro i hi
    have a : m.toBitVec.getLsbD i = (m.toBitVec.getLsbD i || k.toBitVec.getLsbD i) := by rw [← BitVec.getLsbD_or, ← Int32.toBitVec_or, ← e2]
    have b : (m.toBitVec.getLsbD i && k.toBitVec.getLsbD i) = false := by
      rw [← BitVec.getLsbD_and, ← Int32.toBitVec_and, h]
      exact BitVec.getLsbD_zero
    rw [BitVec.getLsbD_zero]
    revert a b
    cases m.toBitVec.getLsbD i <;> cases k.toBitVec.getLsbD i <;> simp
  unfold nf_M
  omega
/-! ===== a byte read unsigned ===== -/
theorem bp_b (x : Int32) : x.toInt8.toInt32 &&& 255 = x &&& 255 := by
  apply Int32.toBitVec_inj.mp
  rw [Int32.toBitVec_and, Int32.toBitVec_and, Int8.toBitVec_toInt32, Int32.toBitVec_toInt8]
  apply BitVec.eq_of_getLsbD_eq
  intro i hi
  rw [BitVec.getLsbD_and, BitVec.getLsbD_and]
  have hm : ∀ i < 32, 8 ≤ i → (255 : Int32).toBitVec.getLsbD i = false := by decide
  rcases Nat.lt_or_ge i 8 with z | z
  · rw [BitVec.getLsbD_signExtend, BitVec.getLsbD_signExtend, if_pos z, if_pos hi]
    simp only [z, hi, decide_true, Bool.true_and]
  · rw [hm i hi z]; simp
/-! ===== the char cast and 65535 ===== -/
theorem em_w (v : Int32) : ∃ w : Nat, w < 65536 ∧ (v.toUInt32 % 65536).toInt32 = nI w ∧ v &&& 65535 = nI w := by
  have hr := lw_u16_r v
  have h0 : (0 : Int32).toInt = 0 := by decide
  obtain ⟨w, h1, h2⟩ := nI_of (x := lw_u16 v) (by rw [Int32.lt_iff_toInt_lt]; omega)
  have h3 : (v.toUInt32 % 65536).toInt32 = nI w := h2
  rw [h2, nI_toInt h1] at hr
  exact ⟨w, by omega, h3, by rw [← lg_i2c_mask, ← lg_i2c_nf, h3]⟩
/-! ===== Int64 as a set of bits: test, set, clear ===== -/
theorem ts_nf {x : Bool} (h : ¬ x = false) : x = true := by cases x <;> first | rfl | exact absurd rfl h
theorem ts_nt {x : Bool} (h : ¬ x = true) : x = false := by cases x <;> first | rfl | exact absurd rfl h
theorem ts_bit {w : Int64} {s : UInt64} {j : Nat} (hj : j < 64) (hs : s.toNat = j) : ((w.toUInt64 >>> s).toInt64 &&& 1) = 0 ↔ w.toBitVec.getLsbD j = false := by
  have e : (w.toUInt64 >>> s).toInt64.toBitVec = w.toBitVec >>> j := by
    apply BitVec.eq_of_toNat_eq
    show (w.toUInt64 >>> s).toNat = _
    rw [UInt64.toNat_shiftRight, hs, Nat.mod_eq_of_lt hj, BitVec.toNat_ushiftRight]
    rfl
  rw [← Int64.toBitVec_inj, Int64.toBitVec_and, e]
  show w.toBitVec >>> j &&& 1#64 = 0#64 ↔ _
  constructor
  · intro h
    have t := congrArg (fun x => x.getLsbD 0) h
    simpa using t
  · intro h
    apply BitVec.eq_of_getLsbD_eq
    intro i hi
    cases i with
    | zero => simp [h]
    | succ i => simp
theorem ts_or {w m : Int64} {j : Nat} (hj : j < 64) (hm : m.toBitVec = BitVec.twoPow 64 j) : (w ||| m) = w ↔ w.toBitVec.getLsbD j = true := by
  rw [← Int64.toBitVec_inj, Int64.toBitVec_or, hm]
  constructor
  · intro h
    have t := congrArg (fun x => x.getLsbD j) h
    simp only [BitVec.getLsbD_or, BitVec.getLsbD_twoPow] at t
    simpa [hj] using t.symm
  · intro h
    apply BitVec.eq_of_getLsbD_eq
    intro i hi
    rw [BitVec.getLsbD_or, BitVec.getLsbD_twoPow]
    by_cases e : j = i
    · subst e; rw [h, Bool.true_or]
    · simp [e]
theorem ts_and {w m : Int64} {j : Nat} (hj : j < 64) (hm : m.toBitVec = BitVec.twoPow 64 j) : (w &&& (m ^^^ (-1))) = w ↔ w.toBitVec.getLsbD j = false := by
  have ha : (-1 : Int64).toBitVec = BitVec.allOnes 64 := by decide
  rw [← Int64.toBitVec_inj, Int64.toBitVec_and, Int64.toBitVec_xor, hm, ha]
  constructor
  · intro h
    have t := congrArg (fun x => x.getLsbD j) h
    simp only [BitVec.getLsbD_and, BitVec.getLsbD_xor, BitVec.getLsbD_twoPow, BitVec.getLsbD_allOnes] at t
    simpa [hj] using t.symm
  · intro h
    apply BitVec.eq_of_getLsbD_eq
    intro i hi
    rw [BitVec.getLsbD_and, BitVec.getLsbD_xor, BitVec.getLsbD_twoPow, BitVec.getLsbD_allOnes]
    by_cases e : j = i
    · subst e; rw [h, Bool.false_and]
    · simp [e, hi]
/-! ===== lN n to 2^64: shifts, and, or, masks, one bit ===== -/
theorem wb_tb (n : Nat) : (lN n).toBitVec = BitVec.ofNat 64 n := rfl
theorem wb_inj {a b : Int64} (h : a.toBitVec = b.toBitVec) : a = b := Int64.toBitVec_inj.mp h
theorem wb_tn {n : Nat} (h : n < 2 ^ 64) : (lN n).toBitVec.toNat = n := by rw [wb_tb, BitVec.toNat_ofNat, Nat.mod_eq_of_lt h]
theorem wb_of (x : Int64) : ∃ n, n < 2 ^ 64 ∧ x = lN n := ⟨x.toBitVec.toNat, x.toBitVec.isLt, wb_inj (by rw [wb_tb]; simp)⟩
theorem wb_of32 (x : Int32) : ∃ n, n < 2 ^ 32 ∧ x = nI n := ⟨x.toBitVec.toNat, x.toBitVec.isLt, Int32.toBitVec_inj.mp (by show _ = BitVec.ofNat 32 _; simp)⟩
theorem wb_c : ∀ k, k < 64 → ((nI k).toInt64 &&& 63) = lN k := by decide +kernel
theorem wb_cu : ∀ k, k < 64 → ((nI k).toInt64.toUInt64 &&& Int64.toUInt64 63) = UInt64.ofNat k := by decide +kernel
theorem wb_sm : ∀ k, k < 64 → (BitVec.ofNat 64 k).smod 64 = BitVec.ofNat 64 k := by decide +kernel
theorem wb_pw {a b : Nat} (h : a ≤ b) : 2 ^ b = 2 ^ a * 2 ^ (b - a) := by rw [← Nat.pow_add]; congr 1; omega
theorem wb_lt2 {a b : Nat} (h : a < b) : 2 ^ a < 2 ^ b := Nat.pow_lt_pow_right (by decide) h
theorem wb_mod (n : Nat) : lN n = lN (n % 2 ^ 64) := wb_inj (by rw [wb_tb, wb_tb]; apply BitVec.eq_of_toNat_eq; rw [BitVec.toNat_ofNat, BitVec.toNat_ofNat, Nat.mod_mod])
theorem wb_shr {n k : Nat} (hn : n < 2 ^ 64) (hk : k < 64) : ((lN n).toUInt64 >>> ((nI k).toInt64.toUInt64 &&& Int64.toUInt64 63)).toInt64 = lN (n / 2 ^ k) := by
  rw [wb_cu k hk]
  apply wb_inj
  apply BitVec.eq_of_toNat_eq
  show ((lN n).toUInt64 >>> UInt64.ofNat k).toNat = (BitVec.ofNat 64 _).toNat
  have h1 : (UInt64.ofNat k).toNat = k := by
    show (BitVec.ofNat 64 k).toNat = k
    rw [BitVec.toNat_ofNat, Nat.mod_eq_of_lt (by omega)]
  have h2 : (lN n).toUInt64.toNat = n := wb_tn hn
  rw [UInt64.toNat_shiftRight, h1, h2, Nat.mod_eq_of_lt hk, Nat.shiftRight_eq_div_pow, BitVec.toNat_ofNat, Nat.mod_eq_of_lt (Nat.lt_of_le_of_lt (Nat.div_le_self _ _) hn)]
theorem wb_shl (n : Nat) {k : Nat} (hk : k < 64) : lN n <<< ((nI k).toInt64 &&& 63) = lN (n * 2 ^ k) := by
  rw [wb_c k hk]
  apply wb_inj
  rw [Int64.toBitVec_shiftLeft, wb_tb, wb_tb, wb_tb, wb_sm k hk]
  apply BitVec.eq_of_toNat_eq
  rw [BitVec.shiftLeft_eq', BitVec.toNat_shiftLeft, BitVec.toNat_ofNat, BitVec.toNat_ofNat, BitVec.toNat_ofNat, Nat.mod_eq_of_lt (show k < 2 ^ 64 by omega), Nat.shiftLeft_eq, Nat.mul_mod, Nat.mod_mod, ← Nat.mul_mod]
theorem wb_and {a b : Nat} (ha : a < 2 ^ 64) (hb : b < 2 ^ 64) : lN a &&& lN b = lN (a &&& b) := by
  apply wb_inj
  rw [Int64.toBitVec_and, wb_tb, wb_tb, wb_tb]
  apply BitVec.eq_of_toNat_eq
  rw [BitVec.toNat_and, BitVec.toNat_ofNat, BitVec.toNat_ofNat, BitVec.toNat_ofNat, Nat.mod_eq_of_lt ha, Nat.mod_eq_of_lt hb, Nat.mod_eq_of_lt (Nat.and_lt_two_pow _ hb)]
theorem wb_or {a b : Nat} (ha : a < 2 ^ 64) (hb : b < 2 ^ 64) : lN a ||| lN b = lN (a ||| b) := by
  apply wb_inj
  rw [Int64.toBitVec_or, wb_tb, wb_tb, wb_tb]
  apply BitVec.eq_of_toNat_eq
  rw [BitVec.toNat_or, BitVec.toNat_ofNat, BitVec.toNat_ofNat, BitVec.toNat_ofNat, Nat.mod_eq_of_lt ha, Nat.mod_eq_of_lt hb, Nat.mod_eq_of_lt (Nat.or_lt_two_pow ha hb)]
theorem wb_mask {n k : Nat} (hn : n < 2 ^ 64) (hk : k < 64) : lN n &&& lN (2 ^ k - 1) = lN (n % 2 ^ k) := by
  rw [wb_and hn (by have := wb_lt2 hk; omega), Nat.and_two_pow_sub_one_eq_mod]
theorem wb_a1 {n : Nat} (hn : n < 2 ^ 64) : lN n &&& 1 = lN (n % 2) := wb_mask (k := 1) hn (by decide)
theorem wb_bit {n k : Nat} (hn : n < 2 ^ 64) (hk : k < 64) : ((lN n).toUInt64 >>> ((nI k).toInt64.toUInt64 &&& Int64.toUInt64 63)).toInt64 &&& 1 = lN (n / 2 ^ k % 2) := by
  rw [wb_shr hn hk, wb_a1 (Nat.lt_of_le_of_lt (Nat.div_le_self _ _) hn)]
theorem wb_xor {q k : Nat} (hk : k < 63) (h : 2 ^ k ≤ q) (h2 : q < 2 ^ (k + 1)) : lN q ^^^ lN (2 ^ k) = lN (q - 2 ^ k) := by
  obtain ⟨r, rfl⟩ : ∃ r, q = 2 ^ k + r := ⟨q - 2 ^ k, by omega⟩
  have hr : r < 2 ^ k := by rw [Nat.pow_succ] at h2; omega
  have hx : (2 ^ k + r) ^^^ 2 ^ k = r := by
    apply Nat.eq_of_testBit_eq
    intro i
    rw [Nat.testBit_xor, Nat.testBit_two_pow]
    rcases Nat.lt_trichotomy i k with h | h | h
    · rw [Nat.testBit_two_pow_add_gt h]
      simp [show ¬ k = i by omega]
    · subst h
      rw [Nat.testBit_two_pow_add_eq]
      simp
    · have a1 : 2 ^ (k + 1) ≤ 2 ^ i := Nat.pow_le_pow_right (by decide) h
      rw [Nat.testBit_lt_two_pow (show 2 ^ k + r < 2 ^ i by omega), Nat.testBit_lt_two_pow (show r < 2 ^ i by omega)]
      simp [show ¬ k = i by omega]
  have b1 := wb_lt2 (show k + 1 < 64 by omega)
  have b2 := wb_lt2 (show k < 64 by omega)
  apply wb_inj
  rw [Int64.toBitVec_xor, wb_tb, wb_tb, wb_tb]
  apply BitVec.eq_of_toNat_eq
  rw [BitVec.toNat_xor, BitVec.toNat_ofNat, BitVec.toNat_ofNat, BitVec.toNat_ofNat, Nat.mod_eq_of_lt (by omega : 2 ^ k + r < 2 ^ 64), Nat.mod_eq_of_lt b2, hx, Nat.add_sub_cancel_left, Nat.mod_eq_of_lt (by omega)]
/-! ===== lN: masks, 'or' of parts that don't overlap is a sum ===== -/
theorem u_tn {n : Nat} (h : n < 2 ^ 64) : (UInt64.ofNat n).toNat = n := Nat.mod_eq_of_lt h
theorem g_and {a b c : Nat} (ha : a < 2 ^ 64) (hb : b < 2 ^ 64) (hc : a &&& b = c) : lN a &&& lN b = lN c := by
  subst hc
  have h : UInt64.ofNat a &&& UInt64.ofNat b = UInt64.ofNat (a &&& b) := UInt64.toNat_inj.mp (by rw [UInt64.toNat_and, u_tn ha, u_tn hb, u_tn (Nat.and_lt_two_pow a hb)])
  have h2 := congrArg UInt64.toInt64 h
  exact h2
theorem g_and1 {a : Nat} (ha : a < 2 ^ 64) : lN a &&& 1 = lN (a % 2) := g_and (b := 1) ha (by decide) (Nat.and_two_pow_sub_one_eq_mod a 1)
theorem g_mask {a s p : Nat} (hp : 2 ^ s = p) (hs : s < 64) (ha : a < 2 ^ 64) : lN a &&& lN (p - 1) = lN (a % p) := by
  subst hp
  have := Nat.pow_lt_pow_right (show 1 < 2 by decide) hs
  exact g_and ha (by omega) (Nat.and_two_pow_sub_one_eq_mod a s)
theorem g_or {k p a b : Nat} (hp : 2 ^ k = p) (ha : a < p) (h : b * p + a < 2 ^ 64) : lN (b * p) ||| lN a = lN (b * p + a) := by
  subst hp
  have h1 : b * 2 ^ k ||| a = b * 2 ^ k + a := by rw [← Nat.shiftLeft_eq, Nat.shiftLeft_add_eq_or_of_lt ha]
  have h3 : UInt64.ofNat (b * 2 ^ k) ||| UInt64.ofNat a = UInt64.ofNat (b * 2 ^ k + a) := UInt64.toNat_inj.mp (by rw [UInt64.toNat_or, u_tn (by omega), u_tn (by omega), u_tn h, h1])
  have h2 := congrArg UInt64.toInt64 h3
  exact h2
theorem g_or' {k p a b : Nat} (hp : 2 ^ k = p) (ha : a < p) (h : a + b * p < 2 ^ 64) : lN a ||| lN (b * p) = lN (a + b * p) := by
  rw [Int64.or_comm, g_or hp ha (by omega), Nat.add_comm]
theorem g_ushr {a k p : Nat} {y : UInt64} (hy : y = UInt64.ofNat k) (hk : k < 64) (hp : 2 ^ k = p) (ha : a < 2 ^ 64) : ((lN a).toUInt64 >>> y).toInt64 = lN (a / p) := by
  subst hy hp
  have h : UInt64.ofNat a >>> UInt64.ofNat k = UInt64.ofNat (a / 2 ^ k) := UInt64.toNat_inj.mp (by rw [UInt64.toNat_shiftRight, u_tn ha, u_tn (by omega), u_tn (Nat.lt_of_le_of_lt (Nat.div_le_self _ _) ha), Nat.mod_eq_of_lt hk, Nat.shiftRight_eq_div_pow])
  have h2 := congrArg UInt64.toInt64 h
  exact h2
theorem g_shl {a k p : Nat} {y : Int64} (hy : y.toBitVec.smod 64 = BitVec.ofNat 64 k) (hk : k < 64) (hp : 2 ^ k = p) (ha : a < 2 ^ 64) : lN a <<< y = lN (a * p) := by
  subst hp
  apply Int64.toBitVec_inj.mp
  rw [Int64.toBitVec_shiftLeft, hy]
  apply BitVec.eq_of_toNat_eq
  have hb : (lN a).toBitVec.toNat = a := Nat.mod_eq_of_lt ha
  have hk' : (BitVec.ofNat 64 k).toNat = k := Nat.mod_eq_of_lt (by omega)
  have h : ((lN a).toBitVec <<< BitVec.ofNat 64 k).toNat = (a * 2 ^ k) % 2 ^ 64 := by simp only [BitVec.shiftLeft_eq', BitVec.toNat_shiftLeft, hb, hk', Nat.shiftLeft_eq]
  exact h
/-! ===== lN to 2^62 under >> and >>> ===== -/
theorem pf_lI {a : Nat} (h : a < 2 ^ 63) : (lN a).toInt = (a : Int) := lg_ofNat_toInt h
theorem pf_shr {a d : Nat} {D : Int64} (hD : (D.toBitVec.smod 64).toNat = d) (h : a < 2 ^ 62) : lN a >>> D = lN (a / 2 ^ d) := by
  have hd : a / 2 ^ d ≤ a := Nat.div_le_self _ _
  apply Int64.toInt_inj.mp
  have e : (lN a >>> D).toInt = (lN a).toInt >>> d := by
    rw [← hD]
    exact BitVec.toInt_sshiftRight ..
  rw [e, Int.shiftRight_eq_div_pow, pf_lI (by omega), pf_lI (by omega)]
  rfl
theorem pf_ushr {a d : Nat} {D : UInt64} (hD : D.toNat % 64 = d) (h : a < 2 ^ 62) : ((lN a).toUInt64 >>> D).toInt64 = lN (a / 2 ^ d) := by
  have hd : a / 2 ^ d ≤ a := Nat.div_le_self _ _
  have e : (lN a).toUInt64 >>> D = UInt64.ofNat (a / 2 ^ d) := UInt64.toNat_inj.mp (by
    rw [UInt64.toNat_shiftRight, hD, Nat.shiftRight_eq_div_pow, UInt64.toNat_ofNat']
    show (UInt64.ofNat a).toNat / 2 ^ d = _
    rw [UInt64.toNat_ofNat', Nat.mod_eq_of_lt (by omega), Nat.mod_eq_of_lt (by omega)])
  rw [e]
  rfl
theorem pf_andw (x : Int64) : ∃ m, m < 2 ^ 32 ∧ x &&& 4294967295 = lN m := ⟨x.toBitVec.toNat % 2 ^ 32, Nat.mod_lt _ (by decide), Int64.toBitVec_inj.mp (BitVec.eq_of_toNat_eq (by
  show (x.toBitVec &&& 4294967295#64).toNat = (BitVec.ofNat 64 (x.toBitVec.toNat % 2 ^ 32)).toNat
  rw [BitVec.toNat_and, show (4294967295#64).toNat = 2 ^ 32 - 1 from by decide, Nat.and_two_pow_sub_one_eq_mod, BitVec.toNat_ofNat]
  omega))⟩
/-! ===== Int64 as an unsigned number: uN x ===== -/
def uN (x : Int64) : Nat := x.toUInt64.toNat
theorem uN_lt (x : Int64) : uN x < 18446744073709551616 := x.toUInt64.toNat_lt
theorem uN_inj {x y : Int64} (h : uN x = uN y) : x = y := congrArg UInt64.toInt64 (UInt64.toNat_inj.mp h)
theorem uN_add (x y : Int64) : uN (x + y) = (uN x + uN y) % 18446744073709551616 := by
  show (x.toUInt64 + y.toUInt64).toNat = _
  exact UInt64.toNat_add _ _
theorem uN_mul (x y : Int64) : uN (x * y) = (uN x * uN y) % 18446744073709551616 := by
  show (x.toUInt64 * y.toUInt64).toNat = _
  exact UInt64.toNat_mul _ _
theorem uN_shl (x : Int64) : uN (x <<< ((1 : Int32).toInt64 &&& 63)) = (2 * uN x) % 18446744073709551616 := by
  have h : (((1 : Int32).toInt64 &&& 63).toBitVec.smod 64).toNat = 1 := by decide
  show (x.toBitVec <<< (((1 : Int32).toInt64 &&& 63).toBitVec.smod 64).toNat).toNat = _
  rw [h, BitVec.toNat_shiftLeft, Nat.shiftLeft_eq, Nat.mul_comm]
  rfl
theorem uN_shr (x : Int64) (s : UInt64) : uN (x.toUInt64 >>> s).toInt64 = uN x / 2 ^ (s.toNat % 64) := by
  show (x.toUInt64 >>> s).toNat = _
  rw [UInt64.toNat_shiftRight, Nat.shiftRight_eq_div_pow]
  rfl
theorem uN_s32 (x : Int64) : uN (x.toUInt64 >>> ((32 : Int32).toInt64.toUInt64 &&& Int64.toUInt64 63)).toInt64 = uN x / 4294967296 := by
  have h : ((32 : Int32).toInt64.toUInt64 &&& Int64.toUInt64 63).toNat % 64 = 32 := by decide
  rw [uN_shr, h]
theorem uN_s63 (x : Int64) : uN (x.toUInt64 >>> ((63 : Int32).toInt64.toUInt64 &&& Int64.toUInt64 63)).toInt64 = uN x / 9223372036854775808 := by
  have h : ((63 : Int32).toInt64.toUInt64 &&& Int64.toUInt64 63).toNat % 64 = 63 := by decide
  rw [uN_shr, h]
theorem uN_lo (x : Int64) : uN (x &&& 4294967295) = uN x % 4294967296 := by
  show (x.toUInt64 &&& Int64.toUInt64 4294967295).toNat = _
  rw [UInt64.toNat_and]
  exact Nat.and_two_pow_sub_one_eq_mod _ 32
theorem uN_bit (x : Int64) : (x &&& 1) = 0 ↔ uN x % 2 = 0 := by
  have h : uN (x &&& 1) = uN x % 2 := by
    show (x.toUInt64 &&& Int64.toUInt64 1).toNat = _
    rw [UInt64.toNat_and]
    exact Nat.and_two_pow_sub_one_eq_mod _ 1
  rw [← h]
  exact ⟨fun z => by rw [z]; rfl, fun z => uN_inj (z.trans rfl)⟩
theorem uN_or {x y : Int64} (hy : uN y < 2) : uN ((x <<< ((1 : Int32).toInt64 &&& 63)) ||| y) = (2 * uN x) % 18446744073709551616 + uN y := by
  have h1 : uN ((x <<< ((1 : Int32).toInt64 &&& 63)) ||| y) = uN (x <<< ((1 : Int32).toInt64 &&& 63)) ||| uN y := UInt64.toNat_or _ _
  have h2 : (2 * uN x) % 18446744073709551616 = 2 ^ 1 * (uN x % 9223372036854775808) := by omega
  rw [h1, uN_shl, h2]
  exact (Nat.two_pow_add_eq_or_of_lt (i := 1) hy _).symm
theorem nat_xor {a : Nat} (h : a < 18446744073709551616) : a ^^^ 2 ^ 63 = (a + 9223372036854775808) % 18446744073709551616 := by
  have h1 : (a ^^^ 2 ^ 63) % 2 ^ 63 = a % 2 ^ 63 := by rw [Nat.xor_mod_two_pow, Nat.mod_self, Nat.xor_zero]
  have h2 : (a ^^^ 2 ^ 63) / 2 ^ 63 = (a / 2 ^ 63) ^^^ 1 := by rw [Nat.xor_div_two_pow, Nat.div_self (Nat.two_pow_pos 63)]
  have h3 : a / 2 ^ 63 = 0 ∨ a / 2 ^ 63 = 1 := by omega
  generalize a ^^^ 2 ^ 63 = t at h1 h2
  rcases h3 with h3 | h3
  · rw [h3] at h2
    have h2 : t / 2 ^ 63 = 1 := h2
    omega
  · rw [h3] at h2
    have h2 : t / 2 ^ 63 = 0 := h2
    omega
theorem uN_xor (x : Int64) : uN (x ^^^ (-9223372036854775808)) = (uN x + 9223372036854775808) % 18446744073709551616 := by
  rw [← nat_xor (uN_lt x)]
  exact UInt64.toNat_xor _ _
theorem uN_int (x : Int64) : x.toInt = if 2 * uN x < 18446744073709551616 then (uN x : Int) else (uN x : Int) - 18446744073709551616 := BitVec.toInt_eq_toNat_cond _
theorem uN_le (x y : Int64) : (x ^^^ (-9223372036854775808)) ≤ (y ^^^ (-9223372036854775808)) ↔ uN x ≤ uN y := by
  have hx := uN_lt x
  have hy := uN_lt y
  rw [Int64.le_iff_toInt_le, uN_int, uN_int, uN_xor, uN_xor]
  omega
theorem uN_sk (x : Int64) {k : Nat} (hk : k < 64) : uN (x.toUInt64 >>> ((nI k).toInt64.toUInt64 &&& Int64.toUInt64 63)).toInt64 = uN x / 2 ^ k := by
  have h : ((nI k).toInt64.toUInt64 &&& Int64.toUInt64 63).toNat % 64 = k := by
    rw [nI_l (by omega), UInt64.toNat_and]
    have e : (lN k).toUInt64.toNat = k % 2 ^ 64 := rfl
    have e2 : (Int64.toUInt64 63).toNat = 2 ^ 6 - 1 := by decide
    rw [e, e2, Nat.and_two_pow_sub_one_eq_mod]
    omega
  rw [uN_shr, h]
/-! ===== unsigned comparison by xor with the least ===== -/
theorem lN_bv (n : Nat) : (lN n).toBitVec = BitVec.ofNat 64 n := rfl
theorem lN_nat {n : Nat} (h : n < 2 ^ 64) : (lN n).toBitVec.toNat = n := by rw [lN_bv, BitVec.toNat_ofNat]; exact Nat.mod_eq_of_lt h
theorem lN_xor (a b : Nat) : lN a ^^^ lN b = lN (a ^^^ b) := by
  apply Int64.toBitVec_inj.mp; rw [Int64.toBitVec_xor, lN_bv, lN_bv, lN_bv]; apply BitVec.eq_of_getLsbD_eq; intro i hi; simp [BitVec.getLsbD_ofNat, Nat.testBit_xor, hi]
theorem lN_ti {m : Nat} (h : m < 2 ^ 64) : (lN m).toInt = if m < 2 ^ 63 then (m : Int) else (m : Int) - 2 ^ 64 := by
  have c := BitVec.toInt_eq_toNat_cond (lN m).toBitVec
  rw [lN_nat h] at c
  show (lN m).toBitVec.toInt = _
  rw [c]
  split <;> split <;> omega
theorem xor63 {x : Nat} (h : x < 2 ^ 63) : x ^^^ 2 ^ 63 = 2 ^ 63 + x := by
  apply Nat.eq_of_testBit_eq
  intro i
  rw [Nat.testBit_xor, Nat.testBit_two_pow]
  rcases Nat.lt_trichotomy i 63 with z | z | z
  · rw [Nat.testBit_two_pow_add_gt z, decide_eq_false (by omega)]; simp
  · subst z; rw [Nat.testBit_two_pow_add_eq]; simp
  · have hp : 2 ^ 64 ≤ 2 ^ i := Nat.pow_le_pow_right (by decide) z
    rw [Nat.testBit_lt_two_pow (show x < 2 ^ i by omega), Nat.testBit_lt_two_pow (show 2 ^ 63 + x < 2 ^ i by omega), decide_eq_false (by omega)]; rfl
theorem xorS {a : Nat} (h : a < 2 ^ 64) : (lN a ^^^ (-9223372036854775808)).toInt = (a : Int) - 2 ^ 63 := by
  rw [show (-9223372036854775808 : Int64) = lN (2 ^ 63) from by decide +kernel, lN_xor]
  rcases Nat.lt_or_ge a (2 ^ 63) with z | z
  · rw [xor63 z, lN_ti (by omega), if_neg (by omega)]; omega
  · obtain ⟨x, rfl⟩ : ∃ x, a = 2 ^ 63 + x := ⟨a - 2 ^ 63, by omega⟩
    rw [← xor63 (by omega), Nat.xor_assoc, Nat.xor_self, Nat.xor_zero, lN_ti (by omega), if_pos (by omega), xor63 (by omega)]; omega
theorem ultL {a b : Nat} (ha : a < 2 ^ 64) (hb : b < 2 ^ 64) : ((lN b ^^^ (-9223372036854775808)) ≤ (lN a ^^^ (-9223372036854775808))) ↔ b ≤ a := by
  rw [Int64.le_iff_toInt_le, xorS ha, xorS hb]; omega
/-! ===== Int64 masks of n low bits ===== -/
theorem cr_bits (W U M : BitVec 64) : ((W &&& U) &&& (U &&& (M ^^^ BitVec.allOnes 64))) = 0#64 ↔ (W &&& U) &&& M = W &&& U := by
  constructor
  · intro h
    apply BitVec.eq_of_getLsbD_eq
    intro i hi
    have e := congrArg (fun x => BitVec.getLsbD x i) h
    simp only [BitVec.getLsbD_and, BitVec.getLsbD_xor, BitVec.getLsbD_allOnes, BitVec.getLsbD_zero, hi, decide_true] at e ⊢
    revert e
    cases W.getLsbD i <;> cases U.getLsbD i <;> cases M.getLsbD i <;> decide
  · intro h
    apply BitVec.eq_of_getLsbD_eq
    intro i hi
    have e := congrArg (fun x => BitVec.getLsbD x i) h
    simp only [BitVec.getLsbD_and, BitVec.getLsbD_xor, BitVec.getLsbD_allOnes, BitVec.getLsbD_zero, hi, decide_true] at e ⊢
    revert e
    cases W.getLsbD i <;> cases U.getLsbD i <;> cases M.getLsbD i <;> decide
theorem cr_mask (w U m : Int64) (n : Nat) (hm : m.toBitVec.toNat = 2 ^ n - 1) : ((w &&& U) &&& (U &&& (m ^^^ (-1)))) = 0 ↔ (w &&& U).toBitVec.toNat < 2 ^ n := by
  have e0 : (-1 : Int64).toBitVec = BitVec.allOnes 64 := by decide
  have z0 : (0 : Int64).toBitVec = 0#64 := by decide
  rw [← Int64.toBitVec_inj, z0, Int64.toBitVec_and, Int64.toBitVec_and, Int64.toBitVec_and, Int64.toBitVec_xor, e0, cr_bits]
  generalize w.toBitVec &&& U.toBitVec = T
  rw [← BitVec.toNat_inj, BitVec.toNat_and, hm, Nat.and_two_pow_sub_one_eq_mod]
  constructor
  · intro h
    have t := Nat.mod_lt T.toNat (Nat.two_pow_pos n)
    rw [h] at t
    exact t
  · exact Nat.mod_eq_of_lt
theorem cr_shr (t : Int64) (x : UInt64) (n : Nat) (hx : x.toNat % 64 = n) : (t.toUInt64 >>> x).toInt64 = 0 ↔ t.toBitVec.toNat < 2 ^ n := by
  rw [← Int64.toBitVec_inj, ← BitVec.toNat_inj]
  show (t.toUInt64 >>> x).toNat = 0 ↔ t.toUInt64.toNat < 2 ^ n
  rw [UInt64.toNat_shiftRight, hx, Nat.shiftRight_eq_div_pow]
  constructor
  · intro h
    have d : t.toUInt64.toNat / 2 ^ n < 1 := by
      rw [h]
      decide
    have e := (Nat.div_lt_iff_lt_mul (Nat.two_pow_pos n)).mp d
    rw [Nat.one_mul] at e
    exact e
  · exact Nat.div_eq_of_lt
theorem cr_amt (s : Int64) : ∃ n, n < 64 ∧ s &&& 63 = lN n ∧ (s.toUInt64 &&& Int64.toUInt64 63).toNat % 64 = n := by
  have e : (s.toUInt64 &&& Int64.toUInt64 63).toNat = s.toUInt64.toNat % 2 ^ 6 := by
    rw [UInt64.toNat_and, show (Int64.toUInt64 63).toNat = 2 ^ 6 - 1 from by decide, Nat.and_two_pow_sub_one_eq_mod]
  refine ⟨s.toUInt64.toNat % 2 ^ 6, by omega, ?_, by omega⟩
  rw [← Int64.toBitVec_inj, ← BitVec.toNat_inj]
  show (s.toUInt64 &&& Int64.toUInt64 63).toNat = (BitVec.ofNat 64 (s.toUInt64.toNat % 2 ^ 6)).toNat
  rw [e, BitVec.toNat_ofNat]
  omega
end
section
def tb_CT : Nat := 0x5380a6c14d029905300a4c149029105200a2c145028905100a0c14102810500094c129025104a00928124824804840904120021304240844108020a0412082010102010400014c029005100a00128024804800840104020000a001200200008000
def tb_JT : Nat := 0xcb1bb0aa2be660ecadb68a218e35cdb71b60a6056554ca20b30a202e458b8d5acb9dfbe354bb6dbac79ead144ab6db5d75d3cf3c975db2c75d2104083cfac871cacf3c8a297a8a9e9c750776975da5d486486a1d768a1d1454c51527059dc9c54858e54641db8e64473e53da19a3e53c615a42415a1644058cf3c51598e33c58607a07a27db10485d75d7616590c376076076009a08264270271f7d908275d79d79e70104175d75d75d00000000070071c70000065a05a05b65b04101a01a01a01a0006400000196590005d54565045516045cf3d34c33cf5c34c24164c20905823d53c248254f5424d20535014815014c00134c00004c00120004804804803cf4500413d14410004100000104003cf3c00003cf3c034c28b1c42c710e3492451431450cd24c24218208608c14220b1422c508b24928804120104a2492400000000090002080002000081460451c11470470060001800060061400051401450050c20420440811040c00000030000c3002002002080082000040041001041000000000000000
/-- code of a way; the joined table; a node's part in a way -/
def tb_cd (w : Nat) : Nat := (tb_CT >>> (15 * w)) % 32768
def tb_jn (j : Nat) : Nat := (tb_JT >>> (6 * j)) % 64
def tb_lb (w v : Nat) : Nat := (tb_cd w / 2 ^ (3 * (4 - v))) % 8
def tb_pr (a b : Nat) : Nat := if a < b then a * (9 - a) / 2 + b - a - 1 else b * (9 - b) / 2 + a - b - 1
def tb_jo (w a b : Nat) : Nat := tb_jn (w * 10 + tb_pr a b)
def tb_all (f : Nat → Bool) : Nat → Bool
  | 0 => true
  | n + 1 => tb_all f n && f n
theorem tb_all_s {f : Nat → Bool} : ∀ {n : Nat}, tb_all f n = true → ∀ j, j < n → f j = true
  | 0, _, j, hj => absurd hj (Nat.not_lt_zero j)
  | n + 1, h, j, hj => by
    have h' : (tb_all f n && f n) = true := h
    rw [Bool.and_eq_true] at h'
    rcases Nat.lt_or_ge j n with z | z
    · exact tb_all_s h'.1 j z
    · have : j = n := by omega
      subst this
      exact h'.2
theorem tb_all2 {f : Nat → Nat → Bool} {n k : Nat} (h : tb_all (fun i => tb_all (f i) k) n = true) : ∀ i, i < n → ∀ j, j < k → f i j = true :=
  fun i hi j hj => tb_all_s (tb_all_s h i hi) j hj
theorem tb_all3 {f : Nat → Nat → Nat → Bool} {n k l : Nat} (h : tb_all (fun i => tb_all (fun j => tb_all (f i j) l) k) n = true) : ∀ i, i < n → ∀ j, j < k → ∀ p, p < l → f i j p = true :=
  fun i hi j hj p hp => tb_all_s (tb_all2 h i hi j hj) p hp
/-- least node of a node's part -/
def tb_mn (w v : Nat) : Nat := if tb_lb w 0 = tb_lb w v then 0 else if tb_lb w 1 = tb_lb w v then 1 else if tb_lb w 2 = tb_lb w v then 2 else if tb_lb w 3 = tb_lb w v then 3 else 4
/-- number of parts -/
def tb_mx (f : Nat → Nat) : Nat → Nat
  | 0 => 0
  | j + 1 => if f j ≤ tb_mx f j then tb_mx f j else f j
def tb_pt (w : Nat) : Nat := tb_mx (tb_lb w) 5 + 1
/-- the walk over a mask's nodes, f giving a node's part; p: 0 for none yet, else the part and one -/
def tb_cl (f : Nat → Nat) (M : Nat) : Nat → Nat → Nat → Bool
  | 0, _, _ => true
  | d + 1, j, p => if M.testBit j = true then (if p = 0 then tb_cl f M d (j + 1) (f j + 1) else if f j + 1 = p then tb_cl f M d (j + 1) p else false) else tb_cl f M d (j + 1) p
def tb_cn (w M : Nat) : Bool := tb_cl (tb_lb w) M 5 0 0
/-- pairs in one part -/
def tb_pi (f : Nat → Nat) (v : Nat) : Nat → Nat
  | 0 => 0
  | u + 1 => if f u = f v then tb_pi f v u + 1 else tb_pi f v u
def tb_po (f : Nat → Nat) : Nat → Nat
  | 0 => 0
  | v + 1 => tb_po f v + tb_pi f v v
def tb_pp (w : Nat) : Nat := tb_po (tb_lb w) 5
def tb_pc (f : Nat → Nat) : Nat → Nat
  | 0 => 0
  | v + 1 => if f v = v then tb_pc f v + 1 else tb_pc f v
/-! the checks -/
theorem tb_k1 : tb_all (fun w => tb_all (fun p => decide (tb_jn (w * 10 + p) < 52)) 10) 52 = true := by decide +kernel
theorem tb_k2 : tb_all (fun a => tb_all (fun b => decide (a = b ∨ (tb_pr a b < 10 ∧ tb_pr b a = tb_pr a b))) 5) 5 = true := by decide +kernel
theorem tb_k3 : tb_all (fun w => tb_all (fun v => decide (tb_lb w v < 5 ∧ tb_mn w v < 5 ∧ tb_mn w v ≤ v)) 5) 52 = true := by decide +kernel
theorem tb_k4 : tb_all (fun w => tb_all (fun p => tb_all (fun q => decide (tb_jn (tb_jn (w * 10 + p) * 10 + q) = tb_jn (tb_jn (w * 10 + q) * 10 + p))) 10) 10) 52 = true := by decide +kernel
theorem tb_k5 : tb_all (fun w => tb_all (fun p => decide (tb_jn (tb_jn (w * 10 + p) * 10 + p) = tb_jn (w * 10 + p))) 10) 52 = true := by decide +kernel
theorem tb_k6 : tb_all (fun w => tb_all (fun p => tb_all (fun q => (decide (tb_jn (w * 10 + p) = w) || decide (tb_jn (tb_jn (w * 10 + p) * 10 + q) = tb_jn (w * 10 + p))) == (decide (tb_jn (w * 10 + q) = w) || decide (tb_jn (tb_jn (w * 10 + q) * 10 + p) = tb_jn (w * 10 + q)))) 10) 10) 52 = true := by decide +kernel
theorem tb_k7 : tb_all (fun w => tb_all (fun a => tb_all (fun b => decide (a = b) || (decide (tb_jo w a b = w) == decide (tb_lb w a = tb_lb w b))) 5) 5) 52 = true := by decide +kernel
theorem tb_k8 : tb_all (fun w => tb_all (fun p => decide (tb_jn (w * 10 + p) = w ∨ tb_pt (tb_jn (w * 10 + p)) + 1 = tb_pt w)) 10) 52 = true := by decide +kernel
theorem tb_k9 : tb_all (fun w => tb_all (fun M => tb_cl (tb_mn w) M 5 0 0 == tb_cl (tb_lb w) M 5 0 0) 32) 52 = true := by decide +kernel
theorem tb_k10 : tb_all (fun w => decide (tb_pc (tb_mn w) 5 = tb_pt w ∧ tb_po (tb_mn w) 5 = tb_pp w ∧ 1 ≤ tb_pt w ∧ tb_pt w ≤ 5 ∧ tb_pp w ≤ 10 ∧ (tb_pt w = 1 → w = 0))) 52 = true := by decide +kernel
theorem tb_k11 : tb_all (fun w => tb_all (fun a => tb_all (fun b => decide (a = b) || tb_all (fun v => decide (tb_mn (tb_jo w a b) v = if tb_mn w v = tb_mn w a ∨ tb_mn w v = tb_mn w b then (if tb_mn w b ≤ tb_mn w a then tb_mn w b else tb_mn w a) else tb_mn w v)) 5) 5) 5) 52 = true := by decide +kernel
theorem tb_k12 : tb_all (fun w => tb_all (fun a => tb_all (fun b => decide (a = b) || tb_all (fun u => tb_all (fun v => decide (tb_lb (tb_jo w a b) u = tb_lb (tb_jo w a b) v) == (decide (tb_lb w u = tb_lb w v) || (decide (tb_lb w u = tb_lb w a) && decide (tb_lb w v = tb_lb w b)) || (decide (tb_lb w u = tb_lb w b) && decide (tb_lb w v = tb_lb w a)))) 5) 5) 5) 5) 52 = true := by decide +kernel
theorem tb_k13 : tb_all (fun v => decide (tb_lb 51 v = v ∧ tb_mn 51 v = v)) 5 = true := by decide +kernel
theorem tb_k14 : tb_all (fun w => tb_all (fun M => tb_cl (tb_lb w) M 5 0 0 == tb_all (fun u => tb_all (fun v => !(M.testBit u) || !(M.testBit v) || decide (tb_lb w u = tb_lb w v)) 5) 5) 32) 52 = true := by decide +kernel
theorem tb_k15 : tb_all (fun w => decide (tb_cl (tb_lb w) 31 5 0 0 = true ↔ w = 0)) 52 = true := by decide +kernel
end
section
def s3_s (f : Nat → Int32) : Nat → Int32
  | 0 => 0
  | n + 1 => s3_s f n + f n
theorem s3_congr {f g : Nat → Int32} : ∀ {n : Nat}, (∀ j, j < n → f j = g j) → s3_s f n = s3_s g n
  | 0, _ => rfl
  | n + 1, h => by
    show s3_s f n + f n = s3_s g n + g n
    rw [s3_congr (fun j hj => h j (Nat.lt_succ_of_lt hj)), h n (Nat.lt_succ_self n)]
theorem s3_add (f g : Nat → Int32) : ∀ n : Nat, s3_s (fun j => f j + g j) n = s3_s f n + s3_s g n
  | 0 => rfl
  | n + 1 => by
    show s3_s (fun j => f j + g j) n + (f n + g n) = (s3_s f n + f n) + (s3_s g n + g n)
    rw [s3_add f g n]
    grind
theorem s3_mulr (f : Nat → Int32) (c : Int32) : ∀ n : Nat, s3_s (fun j => f j * c) n = s3_s f n * c
  | 0 => by show (0 : Int32) = 0 * c; grind
  | n + 1 => by
    show s3_s (fun j => f j * c) n + f n * c = (s3_s f n + f n) * c
    rw [s3_mulr f c n]
    grind
theorem s3_zero : ∀ n : Nat, s3_s (fun _ => 0) n = 0
  | 0 => rfl
  | n + 1 => by
    show s3_s (fun _ => 0) n + 0 = 0
    rw [s3_zero n]
    rfl
theorem s3_app (f : Nat → Int32) (a : Nat) : ∀ b : Nat, s3_s f (a + b) = s3_s f a + s3_s (fun j => f (a + j)) b
  | 0 => by show s3_s f a = s3_s f a + 0; grind
  | b + 1 => by
    show s3_s f (a + b) + f (a + b) = s3_s f a + (s3_s (fun j => f (a + j)) b + f (a + b))
    rw [s3_app f a b]
    grind
theorem s3_pow (f : Nat → Int32) (i : Nat) : s3_s f (2 ^ (i + 1)) = s3_s f (2 ^ i) + s3_s (fun S => f (2 ^ i + S)) (2 ^ i) := by
  rw [Nat.pow_succ, Nat.mul_two, s3_app]
theorem s3_swap (f : Nat → Nat → Int32) (k : Nat) : ∀ n : Nat, s3_s (fun i => s3_s (fun j => f i j) n) k = s3_s (fun j => s3_s (fun i => f i j) k) n
  | 0 => s3_zero k
  | n + 1 => by
    show s3_s (fun i => s3_s (fun j => f i j) n + f i n) k = s3_s (fun j => s3_s (fun i => f i j) k) n + s3_s (fun i => f i n) k
    rw [s3_add, s3_swap f k n]
theorem s3_one (x : Int32) (k : Nat) : ∀ n : Nat, s3_s (fun j => if j = k then x else 0) n = if k < n then x else 0
  | 0 => rfl
  | n + 1 => by
    show s3_s (fun j => if j = k then x else 0) n + (if n = k then x else 0) = _
    rw [s3_one x k n]
    by_cases h : n = k
    · subst h
      rw [if_neg (Nat.lt_irrefl n), if_pos rfl, if_pos (Nat.lt_succ_self n)]
      grind
    · rw [if_neg h]
      by_cases h2 : k < n
      · rw [if_pos h2, if_pos (by omega)]; grind
      · rw [if_neg h2, if_neg (by omega)]; grind
/-- a cell gets d more -/
theorem s3_put {a b g : Nat → Int32} {k : Nat} {d : Int32} (hk : b k = a k + d) (ho : ∀ j, j ≠ k → b j = a j) : ∀ n : Nat, s3_s (fun j => b j * g j) n = s3_s (fun j => a j * g j) n + (if k < n then d * g k else 0)
  | 0 => by show (0 : Int32) = 0 + 0; grind
  | n + 1 => by
    show s3_s (fun j => b j * g j) n + b n * g n = (s3_s (fun j => a j * g j) n + a n * g n) + _
    rw [s3_put hk ho n]
    by_cases h : n = k
    · subst h
      rw [if_neg (Nat.lt_irrefl n), if_pos (Nat.lt_succ_self n), hk]
      grind
    · rw [ho n h]
      by_cases h2 : k < n
      · rw [if_pos h2, if_pos (by omega)]; grind
      · rw [if_neg h2, if_neg (by omega)]; grind
/-- one edge more: sums by ways against sums over sets -/
theorem s3_dp {i N : Nat} {W W' : Nat → Int32} {wt : Nat → Nat → Int32} {pos : Nat → Nat → Nat}
    (h0 : ∀ g : Nat → Int32, s3_s (fun w => W w * g w) N = s3_s (fun S => wt S i * g (pos S i)) (2 ^ i))
    (G : (Nat → Int32) → Nat → Int32) (h1 : ∀ g : Nat → Int32, s3_s (fun w => W' w * g w) N = s3_s (fun w => W w * G g w) N)
    (hG : ∀ (g : Nat → Int32) (S : Nat), S < 2 ^ i → wt S i * G g (pos S i) = wt S (i + 1) * g (pos S (i + 1)) + wt (2 ^ i + S) (i + 1) * g (pos (2 ^ i + S) (i + 1))) :
    ∀ g : Nat → Int32, s3_s (fun w => W' w * g w) N = s3_s (fun S => wt S (i + 1) * g (pos S (i + 1))) (2 ^ (i + 1)) := by
  intro g
  rw [h1, h0, s3_pow, ← s3_add]
  exact s3_congr (fun S hS => hG g S hS)
/-- the weight of a set: a factor an edge -/
def s3_wt (c : Int32) (fu fd : Nat → Int32) (S : Nat) : Nat → Int32
  | 0 => c
  | i + 1 => s3_wt c fu fd S i * (if S.testBit i = true then fu i else fd i)
def s6_s (f : Nat → Int64) : Nat → Int64
  | 0 => 0
  | n + 1 => s6_s f n + f n
theorem s6_congr {f g : Nat → Int64} : ∀ {n : Nat}, (∀ j, j < n → f j = g j) → s6_s f n = s6_s g n
  | 0, _ => rfl
  | n + 1, h => by
    show s6_s f n + f n = s6_s g n + g n
    rw [s6_congr (fun j hj => h j (Nat.lt_succ_of_lt hj)), h n (Nat.lt_succ_self n)]
theorem s6_add (f g : Nat → Int64) : ∀ n : Nat, s6_s (fun j => f j + g j) n = s6_s f n + s6_s g n
  | 0 => rfl
  | n + 1 => by
    show s6_s (fun j => f j + g j) n + (f n + g n) = (s6_s f n + f n) + (s6_s g n + g n)
    rw [s6_add f g n]
    grind
theorem s6_mulr (f : Nat → Int64) (c : Int64) : ∀ n : Nat, s6_s (fun j => f j * c) n = s6_s f n * c
  | 0 => by show (0 : Int64) = 0 * c; grind
  | n + 1 => by
    show s6_s (fun j => f j * c) n + f n * c = (s6_s f n + f n) * c
    rw [s6_mulr f c n]
    grind
theorem s6_zero : ∀ n : Nat, s6_s (fun _ => 0) n = 0
  | 0 => rfl
  | n + 1 => by
    show s6_s (fun _ => 0) n + 0 = 0
    rw [s6_zero n]
    rfl
theorem s6_app (f : Nat → Int64) (a : Nat) : ∀ b : Nat, s6_s f (a + b) = s6_s f a + s6_s (fun j => f (a + j)) b
  | 0 => by show s6_s f a = s6_s f a + 0; grind
  | b + 1 => by
    show s6_s f (a + b) + f (a + b) = s6_s f a + (s6_s (fun j => f (a + j)) b + f (a + b))
    rw [s6_app f a b]
    grind
theorem s6_pow (f : Nat → Int64) (i : Nat) : s6_s f (2 ^ (i + 1)) = s6_s f (2 ^ i) + s6_s (fun S => f (2 ^ i + S)) (2 ^ i) := by
  rw [Nat.pow_succ, Nat.mul_two, s6_app]
theorem s6_swap (f : Nat → Nat → Int64) (k : Nat) : ∀ n : Nat, s6_s (fun i => s6_s (fun j => f i j) n) k = s6_s (fun j => s6_s (fun i => f i j) k) n
  | 0 => s6_zero k
  | n + 1 => by
    show s6_s (fun i => s6_s (fun j => f i j) n + f i n) k = s6_s (fun j => s6_s (fun i => f i j) k) n + s6_s (fun i => f i n) k
    rw [s6_add, s6_swap f k n]
theorem s6_one (x : Int64) (k : Nat) : ∀ n : Nat, s6_s (fun j => if j = k then x else 0) n = if k < n then x else 0
  | 0 => rfl
  | n + 1 => by
    show s6_s (fun j => if j = k then x else 0) n + (if n = k then x else 0) = _
    rw [s6_one x k n]
    by_cases h : n = k
    · subst h
      rw [if_neg (Nat.lt_irrefl n), if_pos rfl, if_pos (Nat.lt_succ_self n)]
      grind
    · rw [if_neg h]
      by_cases h2 : k < n
      · rw [if_pos h2, if_pos (by omega)]; grind
      · rw [if_neg h2, if_neg (by omega)]; grind
/-- a cell gets d more -/
theorem s6_put {a b g : Nat → Int64} {k : Nat} {d : Int64} (hk : b k = a k + d) (ho : ∀ j, j ≠ k → b j = a j) : ∀ n : Nat, s6_s (fun j => b j * g j) n = s6_s (fun j => a j * g j) n + (if k < n then d * g k else 0)
  | 0 => by show (0 : Int64) = 0 + 0; grind
  | n + 1 => by
    show s6_s (fun j => b j * g j) n + b n * g n = (s6_s (fun j => a j * g j) n + a n * g n) + _
    rw [s6_put hk ho n]
    by_cases h : n = k
    · subst h
      rw [if_neg (Nat.lt_irrefl n), if_pos (Nat.lt_succ_self n), hk]
      grind
    · rw [ho n h]
      by_cases h2 : k < n
      · rw [if_pos h2, if_pos (by omega)]; grind
      · rw [if_neg h2, if_neg (by omega)]; grind
/-- one edge more: sums by ways against sums over sets -/
theorem s6_dp {i N : Nat} {W W' : Nat → Int64} {wt : Nat → Nat → Int64} {pos : Nat → Nat → Nat}
    (h0 : ∀ g : Nat → Int64, s6_s (fun w => W w * g w) N = s6_s (fun S => wt S i * g (pos S i)) (2 ^ i))
    (G : (Nat → Int64) → Nat → Int64) (h1 : ∀ g : Nat → Int64, s6_s (fun w => W' w * g w) N = s6_s (fun w => W w * G g w) N)
    (hG : ∀ (g : Nat → Int64) (S : Nat), S < 2 ^ i → wt S i * G g (pos S i) = wt S (i + 1) * g (pos S (i + 1)) + wt (2 ^ i + S) (i + 1) * g (pos (2 ^ i + S) (i + 1))) :
    ∀ g : Nat → Int64, s6_s (fun w => W' w * g w) N = s6_s (fun S => wt S (i + 1) * g (pos S (i + 1))) (2 ^ (i + 1)) := by
  intro g
  rw [h1, h0, s6_pow, ← s6_add]
  exact s6_congr (fun S hS => hG g S hS)
/-- the weight of a set: a factor an edge -/
def s6_wt (c : Int64) (fu fd : Nat → Int64) (S : Nat) : Nat → Int64
  | 0 => c
  | i + 1 => s6_wt c fu fd S i * (if S.testBit i = true then fu i else fd i)
def si_s (f : Nat → Int) : Nat → Int
  | 0 => 0
  | n + 1 => si_s f n + f n
theorem si_congr {f g : Nat → Int} : ∀ {n : Nat}, (∀ j, j < n → f j = g j) → si_s f n = si_s g n
  | 0, _ => rfl
  | n + 1, h => by
    show si_s f n + f n = si_s g n + g n
    rw [si_congr (fun j hj => h j (Nat.lt_succ_of_lt hj)), h n (Nat.lt_succ_self n)]
theorem si_add (f g : Nat → Int) : ∀ n : Nat, si_s (fun j => f j + g j) n = si_s f n + si_s g n
  | 0 => rfl
  | n + 1 => by
    show si_s (fun j => f j + g j) n + (f n + g n) = (si_s f n + f n) + (si_s g n + g n)
    rw [si_add f g n]
    grind
theorem si_mulr (f : Nat → Int) (c : Int) : ∀ n : Nat, si_s (fun j => f j * c) n = si_s f n * c
  | 0 => by show (0 : Int) = 0 * c; grind
  | n + 1 => by
    show si_s (fun j => f j * c) n + f n * c = (si_s f n + f n) * c
    rw [si_mulr f c n]
    grind
theorem si_zero : ∀ n : Nat, si_s (fun _ => 0) n = 0
  | 0 => rfl
  | n + 1 => by
    show si_s (fun _ => 0) n + 0 = 0
    rw [si_zero n]
    rfl
theorem si_app (f : Nat → Int) (a : Nat) : ∀ b : Nat, si_s f (a + b) = si_s f a + si_s (fun j => f (a + j)) b
  | 0 => by show si_s f a = si_s f a + 0; grind
  | b + 1 => by
    show si_s f (a + b) + f (a + b) = si_s f a + (si_s (fun j => f (a + j)) b + f (a + b))
    rw [si_app f a b]
    grind
theorem si_pow (f : Nat → Int) (i : Nat) : si_s f (2 ^ (i + 1)) = si_s f (2 ^ i) + si_s (fun S => f (2 ^ i + S)) (2 ^ i) := by
  rw [Nat.pow_succ, Nat.mul_two, si_app]
theorem si_swap (f : Nat → Nat → Int) (k : Nat) : ∀ n : Nat, si_s (fun i => si_s (fun j => f i j) n) k = si_s (fun j => si_s (fun i => f i j) k) n
  | 0 => si_zero k
  | n + 1 => by
    show si_s (fun i => si_s (fun j => f i j) n + f i n) k = si_s (fun j => si_s (fun i => f i j) k) n + si_s (fun i => f i n) k
    rw [si_add, si_swap f k n]
theorem si_one (x : Int) (k : Nat) : ∀ n : Nat, si_s (fun j => if j = k then x else 0) n = if k < n then x else 0
  | 0 => rfl
  | n + 1 => by
    show si_s (fun j => if j = k then x else 0) n + (if n = k then x else 0) = _
    rw [si_one x k n]
    by_cases h : n = k
    · subst h
      rw [if_neg (Nat.lt_irrefl n), if_pos rfl, if_pos (Nat.lt_succ_self n)]
      grind
    · rw [if_neg h]
      by_cases h2 : k < n
      · rw [if_pos h2, if_pos (by omega)]; grind
      · rw [if_neg h2, if_neg (by omega)]; grind
/-- a cell gets d more -/
theorem si_put {a b g : Nat → Int} {k : Nat} {d : Int} (hk : b k = a k + d) (ho : ∀ j, j ≠ k → b j = a j) : ∀ n : Nat, si_s (fun j => b j * g j) n = si_s (fun j => a j * g j) n + (if k < n then d * g k else 0)
  | 0 => by show (0 : Int) = 0 + 0; grind
  | n + 1 => by
    show si_s (fun j => b j * g j) n + b n * g n = (si_s (fun j => a j * g j) n + a n * g n) + _
    rw [si_put hk ho n]
    by_cases h : n = k
    · subst h
      rw [if_neg (Nat.lt_irrefl n), if_pos (Nat.lt_succ_self n), hk]
      grind
    · rw [ho n h]
      by_cases h2 : k < n
      · rw [if_pos h2, if_pos (by omega)]; grind
      · rw [if_neg h2, if_neg (by omega)]; grind
/-- one edge more: sums by ways against sums over sets -/
theorem si_dp {i N : Nat} {W W' : Nat → Int} {wt : Nat → Nat → Int} {pos : Nat → Nat → Nat}
    (h0 : ∀ g : Nat → Int, si_s (fun w => W w * g w) N = si_s (fun S => wt S i * g (pos S i)) (2 ^ i))
    (G : (Nat → Int) → Nat → Int) (h1 : ∀ g : Nat → Int, si_s (fun w => W' w * g w) N = si_s (fun w => W w * G g w) N)
    (hG : ∀ (g : Nat → Int) (S : Nat), S < 2 ^ i → wt S i * G g (pos S i) = wt S (i + 1) * g (pos S (i + 1)) + wt (2 ^ i + S) (i + 1) * g (pos (2 ^ i + S) (i + 1))) :
    ∀ g : Nat → Int, si_s (fun w => W' w * g w) N = si_s (fun S => wt S (i + 1) * g (pos S (i + 1))) (2 ^ (i + 1)) := by
  intro g
  rw [h1, h0, si_pow, ← si_add]
  exact si_congr (fun S hS => hG g S hS)
/-- the weight of a set: a factor an edge -/
def si_wt (c : Int) (fu fd : Nat → Int) (S : Nat) : Nat → Int
  | 0 => c
  | i + 1 => si_wt c fu fd S i * (if S.testBit i = true then fu i else fd i)
end
section
theorem tb_pr_lt {a b : Nat} (ha : a < 5) (hb : b < 5) (h : a ≠ b) : tb_pr a b < 10 := by
  have := of_decide_eq_true (tb_all2 tb_k2 a ha b hb)
  rcases this with z | z
  · exact absurd z h
  · exact z.1
theorem tb_jo_lt {w a b : Nat} (hw : w < 52) (ha : a < 5) (hb : b < 5) (h : a ≠ b) : tb_jo w a b < 52 :=
  of_decide_eq_true (tb_all2 tb_k1 w hw _ (tb_pr_lt ha hb h))
theorem tb_jo_comm {w a b c d : Nat} (hw : w < 52) (ha : a < 5) (hb : b < 5) (h : a ≠ b) (hc : c < 5) (hd : d < 5) (h' : c ≠ d) : tb_jo (tb_jo w a b) c d = tb_jo (tb_jo w c d) a b :=
  of_decide_eq_true (tb_all3 tb_k4 w hw _ (tb_pr_lt ha hb h) _ (tb_pr_lt hc hd h'))
theorem tb_jo_idem {w a b : Nat} (hw : w < 52) (ha : a < 5) (hb : b < 5) (h : a ≠ b) : tb_jo (tb_jo w a b) a b = tb_jo w a b :=
  of_decide_eq_true (tb_all2 tb_k5 w hw _ (tb_pr_lt ha hb h))
theorem tb_bf {p q : Prop} [Decidable p] [Decidable q] (h : (decide p == decide q) = true) : p ↔ q := by
  have h' : decide p = decide q := eq_of_beq h
  by_cases hp : p
  · rw [decide_eq_true hp] at h'; exact ⟨fun _ => of_decide_eq_true h'.symm, fun _ => hp⟩
  · rw [decide_eq_false hp] at h'; exact ⟨fun z => absurd z hp, fun z => absurd z (of_decide_eq_false h'.symm)⟩
theorem tb_or {p : Prop} [Decidable p] {b : Bool} (h : (decide p || b) = true) (hn : ¬ p) : b = true := by
  rw [decide_eq_false hn] at h; exact h
theorem tb_jo_w {w a b : Nat} (hw : w < 52) (ha : a < 5) (hb : b < 5) (h : a ≠ b) : tb_jo w a b = w ↔ tb_lb w a = tb_lb w b :=
  tb_bf (tb_or (tb_all3 tb_k7 w hw a ha b hb) h)
theorem tb_jo_pt {w a b : Nat} (hw : w < 52) (ha : a < 5) (hb : b < 5) (h : a ≠ b) : tb_jo w a b = w ∨ tb_pt (tb_jo w a b) + 1 = tb_pt w :=
  of_decide_eq_true (tb_all2 tb_k8 w hw _ (tb_pr_lt ha hb h))
theorem tb_same {w a b u v : Nat} (hw : w < 52) (ha : a < 5) (hb : b < 5) (h : a ≠ b) (hu : u < 5) (hv : v < 5) :
    tb_lb (tb_jo w a b) u = tb_lb (tb_jo w a b) v ↔ (tb_lb w u = tb_lb w v ∨ (tb_lb w u = tb_lb w a ∧ tb_lb w v = tb_lb w b) ∨ (tb_lb w u = tb_lb w b ∧ tb_lb w v = tb_lb w a)) := by
  have := tb_all2 (tb_or (tb_all3 tb_k12 w hw a ha b hb) h) u hu v hv
  rw [← Bool.decide_and, ← Bool.decide_and, ← Bool.decide_or, ← Bool.decide_or] at this
  rw [tb_bf this, or_assoc]
theorem tb_mn_jo {w a b v : Nat} (hw : w < 52) (ha : a < 5) (hb : b < 5) (h : a ≠ b) (hv : v < 5) :
    tb_mn (tb_jo w a b) v = if tb_mn w v = tb_mn w a ∨ tb_mn w v = tb_mn w b then (if tb_mn w b ≤ tb_mn w a then tb_mn w b else tb_mn w a) else tb_mn w v :=
  of_decide_eq_true (tb_all_s (tb_or (tb_all3 tb_k11 w hw a ha b hb) h) v hv)
theorem tb_mn_lt {w v : Nat} (hw : w < 52) (hv : v < 5) : tb_mn w v < 5 := (of_decide_eq_true (tb_all2 tb_k3 w hw v hv)).2.1
theorem tb_lb_lt {w v : Nat} (hw : w < 52) (hv : v < 5) : tb_lb w v < 5 := (of_decide_eq_true (tb_all2 tb_k3 w hw v hv)).1
theorem tb_cn_mn {w M : Nat} (hw : w < 52) (hM : M < 32) : tb_cl (tb_mn w) M 5 0 0 = tb_cn w M := eq_of_beq (tb_all2 tb_k9 w hw M hM)
theorem tb_pt_mn {w : Nat} (hw : w < 52) : tb_pc (tb_mn w) 5 = tb_pt w := (of_decide_eq_true (tb_all_s tb_k10 w hw)).1
theorem tb_pp_mn {w : Nat} (hw : w < 52) : tb_po (tb_mn w) 5 = tb_pp w := (of_decide_eq_true (tb_all_s tb_k10 w hw)).2.1
theorem tb_pt_1 {w : Nat} (hw : w < 52) : 1 ≤ tb_pt w := (of_decide_eq_true (tb_all_s tb_k10 w hw)).2.2.1
theorem tb_pt_5 {w : Nat} (hw : w < 52) : tb_pt w ≤ 5 := (of_decide_eq_true (tb_all_s tb_k10 w hw)).2.2.2.1
theorem tb_pp_10 {w : Nat} (hw : w < 52) : tb_pp w ≤ 10 := (of_decide_eq_true (tb_all_s tb_k10 w hw)).2.2.2.2.1
theorem tb_pt_0 {w : Nat} (hw : w < 52) (h : tb_pt w = 1) : w = 0 := (of_decide_eq_true (tb_all_s tb_k10 w hw)).2.2.2.2.2 h
theorem tb_cn31 {w : Nat} (hw : w < 52) : tb_cn w 31 = true ↔ w = 0 := of_decide_eq_true (tb_all_s tb_k15 w hw)
theorem tb_all_i {f : Nat → Bool} : ∀ {n : Nat}, (∀ j, j < n → f j = true) → tb_all f n = true
  | 0, _ => rfl
  | n + 1, h => by
    show (tb_all f n && f n) = true
    rw [tb_all_i (fun j hj => h j (Nat.lt_succ_of_lt hj)), h n (Nat.lt_succ_self n)]
    rfl
theorem tb_cn_iff {w M : Nat} (hw : w < 52) (hM : M < 32) : tb_cn w M = true ↔ ∀ u v, u < 5 → v < 5 → M.testBit u = true → M.testBit v = true → tb_lb w u = tb_lb w v := by
  have e : tb_cn w M = _ := eq_of_beq (tb_all2 tb_k14 w hw M hM)
  rw [e]
  constructor
  · intro h u v hu hv h1 h2
    have := tb_all2 h u hu v hv
    rw [h1, h2] at this
    exact of_decide_eq_true this
  · intro h
    refine tb_all_i (fun u hu => tb_all_i (fun v hv => ?_))
    cases h1 : M.testBit u
    · rfl
    · cases h2 : M.testBit v
      · rfl
      · exact decide_eq_true (h u v hu hv h1 h2)
/-! a network: its edges' ends; a set of edges: a number's bits -/
def gw_ok (fr to : Nat → Nat) (m : Nat) : Prop := ∀ i, i < m → fr i < 5 ∧ to i < 5 ∧ fr i ≠ to i
def gw_wy (fr to : Nat → Nat) (S : Nat) : Nat → Nat
  | 0 => 51
  | i + 1 => if S.testBit i = true then tb_jo (gw_wy fr to S i) (fr i) (to i) else gw_wy fr to S i
def gw_on (S : Nat) : Nat → Nat
  | 0 => 0
  | i + 1 => if S.testBit i = true then gw_on S i + 1 else gw_on S i
def gw_fo (fr to : Nat → Nat) (S : Nat) : Nat → Bool
  | 0 => true
  | i + 1 => gw_fo fr to S i && (!(S.testBit i) || decide (tb_jo (gw_wy fr to S i) (fr i) (to i) ≠ gw_wy fr to S i))
theorem gw_wy_lt {fr to : Nat → Nat} {m S : Nat} (h : gw_ok fr to m) : ∀ i, i ≤ m → gw_wy fr to S i < 52
  | 0, _ => by show 51 < 52; omega
  | i + 1, hi => by
    have ih := gw_wy_lt (S := S) h i (by omega)
    obtain ⟨h1, h2, h3⟩ := h i (by omega)
    show (if S.testBit i = true then tb_jo (gw_wy fr to S i) (fr i) (to i) else gw_wy fr to S i) < 52
    split
    · exact tb_jo_lt ih h1 h2 h3
    · exact ih
theorem gw_wy_c {fr to : Nat → Nat} {S S' : Nat} : ∀ {i : Nat}, (∀ j, j < i → S.testBit j = S'.testBit j) → gw_wy fr to S i = gw_wy fr to S' i
  | 0, _ => rfl
  | i + 1, h => by
    show (if S.testBit i = true then tb_jo (gw_wy fr to S i) (fr i) (to i) else gw_wy fr to S i) = (if S'.testBit i = true then tb_jo (gw_wy fr to S' i) (fr i) (to i) else gw_wy fr to S' i)
    rw [gw_wy_c (fun j hj => h j (by omega)), h i (by omega)]
theorem gw_on_c {S S' : Nat} : ∀ {i : Nat}, (∀ j, j < i → S.testBit j = S'.testBit j) → gw_on S i = gw_on S' i
  | 0, _ => rfl
  | i + 1, h => by
    show (if S.testBit i = true then gw_on S i + 1 else gw_on S i) = (if S'.testBit i = true then gw_on S' i + 1 else gw_on S' i)
    rw [gw_on_c (fun j hj => h j (by omega)), h i (by omega)]
theorem gw_fo_c {fr to : Nat → Nat} {S S' : Nat} : ∀ {i : Nat}, (∀ j, j < i → S.testBit j = S'.testBit j) → gw_fo fr to S i = gw_fo fr to S' i
  | 0, _ => rfl
  | i + 1, h => by
    show (gw_fo fr to S i && (!(S.testBit i) || decide (tb_jo (gw_wy fr to S i) (fr i) (to i) ≠ gw_wy fr to S i))) = (gw_fo fr to S' i && (!(S'.testBit i) || decide (tb_jo (gw_wy fr to S' i) (fr i) (to i) ≠ gw_wy fr to S' i)))
    rw [gw_fo_c (fun j hj => h j (by omega)), h i (by omega), gw_wy_c (S' := S') (fun j hj => h j (by omega))]
theorem gw_lo {S i : Nat} (h : S < 2 ^ i) : S.testBit i = false := Nat.testBit_lt_two_pow h
theorem gw_hi {S i : Nat} (h : S < 2 ^ i) : (2 ^ i + S).testBit i = true := by
  rw [Nat.testBit_two_pow_add_eq, gw_lo h]; rfl
theorem gw_hj {S i j : Nat} (h : j < i) : (2 ^ i + S).testBit j = S.testBit j := Nat.testBit_two_pow_add_gt h S
theorem gw_wy_lo {fr to : Nat → Nat} {S i : Nat} (h : S < 2 ^ i) : gw_wy fr to S (i + 1) = gw_wy fr to S i := by
  show (if S.testBit i = true then _ else _) = _
  rw [gw_lo h]; exact if_neg (by decide)
theorem gw_wy_hi {fr to : Nat → Nat} {S i : Nat} (h : S < 2 ^ i) : gw_wy fr to (2 ^ i + S) (i + 1) = tb_jo (gw_wy fr to S i) (fr i) (to i) := by
  show (if (2 ^ i + S).testBit i = true then _ else _) = _
  rw [if_pos (gw_hi h), gw_wy_c (S' := S) (fun j hj => gw_hj hj)]
theorem gw_on_lo {S i : Nat} (h : S < 2 ^ i) : gw_on S (i + 1) = gw_on S i := by
  show (if S.testBit i = true then _ else _) = _
  rw [gw_lo h]; exact if_neg (by decide)
theorem gw_on_hi {S i : Nat} (h : S < 2 ^ i) : gw_on (2 ^ i + S) (i + 1) = gw_on S i + 1 := by
  show (if (2 ^ i + S).testBit i = true then _ else _) = _
  rw [if_pos (gw_hi h), gw_on_c (S' := S) (fun j hj => gw_hj hj)]
theorem gw_on_le {S : Nat} : ∀ i : Nat, gw_on S i ≤ i
  | 0 => Nat.le_refl 0
  | i + 1 => by
    have := gw_on_le (S := S) i
    show (if S.testBit i = true then gw_on S i + 1 else gw_on S i) ≤ i + 1
    split <;> omega
theorem gw_fo_lo {fr to : Nat → Nat} {S i : Nat} (h : S < 2 ^ i) : gw_fo fr to S (i + 1) = gw_fo fr to S i := by
  show (gw_fo fr to S i && (!(S.testBit i) || _)) = _
  rw [gw_lo h]; exact Bool.and_true _
theorem gw_fo_hi {fr to : Nat → Nat} {S i : Nat} (h : S < 2 ^ i) : gw_fo fr to (2 ^ i + S) (i + 1) = (gw_fo fr to S i && decide (tb_jo (gw_wy fr to S i) (fr i) (to i) ≠ gw_wy fr to S i)) := by
  show (gw_fo fr to (2 ^ i + S) i && (!((2 ^ i + S).testBit i) || decide (tb_jo (gw_wy fr to (2 ^ i + S) i) (fr i) (to i) ≠ gw_wy fr to (2 ^ i + S) i))) = _
  rw [gw_hi h, gw_wy_c (S' := S) (fun j hj => gw_hj hj), gw_fo_c (S' := S) (fun j hj => gw_hj hj)]
  rfl
/-- an edge more in a set, wherever it stands -/
theorem gw_ins {fr to : Nat → Nat} {m S S' i : Nat} (h : gw_ok fr to m) (h0 : S.testBit i = false) (h1 : S'.testBit i = true) (ho : ∀ j, j < m → j ≠ i → S'.testBit j = S.testBit j) :
    ∀ k, i < k → k ≤ m → gw_wy fr to S' k = tb_jo (gw_wy fr to S k) (fr i) (to i) ∧ gw_on S' k = gw_on S k + 1
  | 0, hk, _ => absurd hk (Nat.not_lt_zero i)
  | k + 1, hk, hm => by
    have e0 : gw_wy fr to S' (k + 1) = if S'.testBit k = true then tb_jo (gw_wy fr to S' k) (fr k) (to k) else gw_wy fr to S' k := rfl
    have e1 : gw_wy fr to S (k + 1) = if S.testBit k = true then tb_jo (gw_wy fr to S k) (fr k) (to k) else gw_wy fr to S k := rfl
    have e2 : gw_on S' (k + 1) = if S'.testBit k = true then gw_on S' k + 1 else gw_on S' k := rfl
    have e3 : gw_on S (k + 1) = if S.testBit k = true then gw_on S k + 1 else gw_on S k := rfl
    by_cases hik : i = k
    · subst hik
      have c1 : gw_wy fr to S' i = gw_wy fr to S i := gw_wy_c (fun j hj => ho j (by omega) (by omega))
      have c2 : gw_on S' i = gw_on S i := gw_on_c (fun j hj => ho j (by omega) (by omega))
      rw [e0, e1, e2, e3, h0, h1, c1, c2]
      exact ⟨rfl, rfl⟩
    · obtain ⟨i1, i2⟩ := gw_ins h h0 h1 ho k (by omega) (by omega)
      rw [e0, e1, e2, e3, ho k (by omega) (by omega), i1, i2]
      cases hb : S.testBit k
      · exact ⟨rfl, rfl⟩
      · obtain ⟨a1, a2, a3⟩ := h i (by omega)
        obtain ⟨b1, b2, b3⟩ := h k (by omega)
        exact ⟨tb_jo_comm (gw_wy_lt h k (by omega)) a1 a2 a3 b1 b2 b3, rfl⟩
/-- edges up and parts: at least five together; five just for a forest -/
theorem gw_pt {fr to : Nat → Nat} {m S : Nat} (h : gw_ok fr to m) : ∀ i, i ≤ m → 5 ≤ gw_on S i + tb_pt (gw_wy fr to S i) ∧ (gw_fo fr to S i = true ↔ gw_on S i + tb_pt (gw_wy fr to S i) = 5)
  | 0, _ => by
    have : tb_pt 51 = 5 := by decide +kernel
    show 5 ≤ 0 + tb_pt 51 ∧ (true = true ↔ 0 + tb_pt 51 = 5)
    rw [this]
    decide
  | i + 1, hi => by
    obtain ⟨i1, i2⟩ := gw_pt (S := S) h i (by omega)
    obtain ⟨a1, a2, a3⟩ := h i (by omega)
    have hw := gw_wy_lt (S := S) h i (by omega)
    have e1 : gw_wy fr to S (i + 1) = if S.testBit i = true then tb_jo (gw_wy fr to S i) (fr i) (to i) else gw_wy fr to S i := rfl
    have e3 : gw_on S (i + 1) = if S.testBit i = true then gw_on S i + 1 else gw_on S i := rfl
    have e4 : gw_fo fr to S (i + 1) = (gw_fo fr to S i && (!(S.testBit i) || decide (tb_jo (gw_wy fr to S i) (fr i) (to i) ≠ gw_wy fr to S i))) := rfl
    rw [e1, e3, e4]
    cases hb : S.testBit i
    · rw [if_neg (by decide), if_neg (by decide)]
      refine ⟨i1, ?_⟩
      rw [← i2]
      simp
    · rw [if_pos rfl, if_pos rfl]
      have hpt := tb_jo_pt hw a1 a2 a3
      by_cases hj : tb_jo (gw_wy fr to S i) (fr i) (to i) = gw_wy fr to S i
      · rw [hj]
        refine ⟨by omega, ?_⟩
        simp
        omega
      · have hpt' : tb_pt (tb_jo (gw_wy fr to S i) (fr i) (to i)) + 1 = tb_pt (gw_wy fr to S i) := by
          rcases hpt with z | z
          · exact absurd z hj
          · exact z
        refine ⟨by omega, ?_⟩
        have : (gw_fo fr to S i && (!true || decide (tb_jo (gw_wy fr to S i) (fr i) (to i) ≠ gw_wy fr to S i))) = gw_fo fr to S i := by
          rw [decide_eq_true hj]; simp
        rw [this, i2]
        omega
end
section
/-! branches by numbers whose outcome is known -/
theorem rl_le_t {x y : Int32} {A B : Prop} (a b : Nat) (h : a ≤ b) (f : A) (hx : x = nI a := by rfl) (hy : y = nI b := by rfl) (hb : b < 2 ^ 31 := by omega) : (x ≤ y → A) ∧ (¬ x ≤ y → B) := by
  subst hx hy; exact br_t (nI_le h hb) f
theorem rl_le_f {x y : Int32} {A B : Prop} (a b : Nat) (h : b < a) (f : B) (hx : x = nI a := by rfl) (hy : y = nI b := by rfl) (ha : a < 2 ^ 31 := by omega) : (x ≤ y → A) ∧ (¬ x ≤ y → B) := by
  subst hx hy; exact br_f (nI_ge h ha) f
theorem rl_lt_t {x y : Int32} {A B : Prop} (a b : Nat) (h : a < b) (f : A) (hx : x = nI a := by rfl) (hy : y = nI b := by rfl) (hb : b < 2 ^ 31 := by omega) : (x < y → A) ∧ (¬ x < y → B) := by
  subst hx hy; exact br_t (nI_lt h hb) f
theorem rl_lt_f {x y : Int32} {A B : Prop} (a b : Nat) (h : b ≤ a) (f : B) (hx : x = nI a := by rfl) (hy : y = nI b := by rfl) (ha : a < 2 ^ 31 := by omega) : (x < y → A) ∧ (¬ x < y → B) := by
  subst hx hy; exact br_f (nI_nlt h ha) f
theorem rl_eq_t {x y : Int32} {A B : Prop} (f : A) (h : x = y := by rfl) : (x = y → A) ∧ (¬ x = y → B) := br_t h f
theorem rl_eq_f {x y : Int32} {A B : Prop} (a b : Nat) (h : a ≠ b) (f : B) (hx : x = nI a := by rfl) (hy : y = nI b := by rfl) (ha : a < 2 ^ 31 := by omega) (hb : b < 2 ^ 31 := by omega) : (x = y → A) ∧ (¬ x = y → B) := by
  subst hx hy; exact br_f (fun z => h ((nI_eq ha hb).mp z)) f
/-! products with the code's own numbers -/
theorem rl_m8 (a : Nat) : nI a * 8 = nI (a * 8) := pk_mul a 8
theorem rl_m10 (a : Nat) : nI a * 10 = nI (a * 10) := pk_mul a 10
theorem rl_m52 (a : Nat) : nI a * 52 = nI (a * 52) := pk_mul a 52
theorem rl_4m (a : Nat) : 4 * nI a = nI (4 * a) := pk_mul 4 a
theorem rl_5m (a : Nat) : 5 * nI a = nI (5 * a) := pk_mul 5 a
theorem rl_sub {a b c : Nat} (h : a = c + b) : nI a - nI b = nI c := by
  rw [pk_sub (by omega)]; exact congrArg nI (by omega)
/-! bits -/
theorem rl_bit {S i : Nat} (hS : S < 2 ^ 31) (hi : i < 32) : (nI S >>> (nI i &&& 31)) &&& 1 = nI (S / 2 ^ i % 2) := by
  rw [pk_shrN hS _ i (s_l i hi), pk_andN (Nat.lt_of_le_of_lt (Nat.div_le_self _ _) (by omega)) 1 (by decide)]
theorem rl_bit_t {S i : Nat} (hS : S < 2 ^ 31) (hi : i < 32) : ((nI S >>> (nI i &&& 31)) &&& 1 = 1) ↔ S.testBit i = true := by
  rw [rl_bit hS hi, Nat.testBit_eq_decide_div_mod_eq, decide_eq_true_iff]
  have h := Nat.mod_lt (S / 2 ^ i) (show 0 < 2 by omega)
  exact nI_eq (b := 1) (by omega) (by omega)
theorem rl_shl {i : Nat} (hi : i < 31) : (1 : Int32) <<< (nI i &&& 31) = nI (2 ^ i) := by
  have h : (2 : Nat) ^ i < 2 ^ 31 := Nat.pow_lt_pow_right (by omega) hi
  have := pk_shlN (n := 1) (nI i &&& 31) i (s_l i (by omega)) (by omega)
  rw [Nat.one_mul] at this
  exact this
theorem rl_or (a b : Nat) : nI a ||| nI b = nI (a ||| b) := by
  apply Int32.toBitVec_inj.mp
  rw [Int32.toBitVec_or]
  show BitVec.ofNat 32 a ||| BitVec.ofNat 32 b = BitVec.ofNat 32 (a ||| b)
  apply BitVec.eq_of_getLsbD_eq
  intro i hi
  simp [hi]
theorem rl_m1 : (-1 : Int32) = nI 4294967295 := by decide
/-- a and not b -/
def rl_nd (a b : Nat) : Nat := a &&& (b ^^^ 4294967295)
theorem rl_andn (a b : Nat) : nI a &&& (nI b ^^^ (-1)) = nI (rl_nd a b) := by
  rw [rl_m1, nx_xor, nx_and]; rfl
theorem rl_nd_t {a b i : Nat} (ha : a < 2 ^ 31) : (rl_nd a b).testBit i = (a.testBit i && !(b.testBit i)) := by
  unfold rl_nd
  rw [Nat.testBit_and, Nat.testBit_xor]
  by_cases hi : i < 32
  · have : (4294967295 : Nat).testBit i = true := by
      have := Nat.testBit_two_pow_sub_one 32 i
      rw [decide_eq_true hi] at this
      exact this
    rw [this]; simp
  · have : a.testBit i = false := Nat.testBit_lt_two_pow (Nat.lt_of_lt_of_le ha (Nat.pow_le_pow_right (by omega) (by omega)))
    rw [this]; simp
theorem rl_nd_le (a b : Nat) : rl_nd a b ≤ a := Nat.and_le_left
theorem rl_ext {a b : Nat} (h : ∀ i, a.testBit i = b.testBit i) : a = b := Nat.eq_of_testBit_eq h
theorem rl_cl {n : Nat} (h : n < 2 ^ 31 := by omega) : (nI n).toNatClampNeg = n := nI_clamp h
/-- a counting loop from any start -/
theorem rl_lp {σ : Type} (W : Nat → Nat → σ → Prop) (I : Nat → σ → Prop) (e i0 : Nat) (s : σ) (hi : i0 ≤ e) (h0 : I i0 s) (hx : ∀ n s, I e s → W (n + 1) e s)
    (hs : ∀ n i s, i0 ≤ i → i < e → I i s → (∀ s', I (i + 1) s' → W n (i + 1) s') → W (n + 1) i s) : ∃ n, W n i0 s := by
  have key : ∀ n i s, i0 ≤ i → i ≤ e → e - i < n → I i s → W n i s := by
    intro n
    induction n with
    | zero => intro i s _ _ h; omega
    | succ n ih =>
      intro i s h1 h2 h3 hI
      by_cases h : i = e
      · subst h; exact hx n s hI
      · exact hs n i s h1 (by omega) hI (fun s' h' => ih (i + 1) s' (by omega) (by omega) (by omega) h')
  exact ⟨e - i0 + 1, key _ i0 s (Nat.le_refl _) hi (by omega) h0⟩
def rl_b (b : Bool) : Int32 := if b = true then 1 else 0
theorem rl_b1 {A B : Prop} {b : Bool} (h : b = true) (f : B) : (rl_b b = 0 → A) ∧ (¬ rl_b b = 0 → B) := by
  subst h; exact br_f (by decide) f
theorem rl_b0 {A B : Prop} {b : Bool} (h : b = false) (f : A) : (rl_b b = 0 → A) ∧ (¬ rl_b b = 0 → B) := by
  subst h; exact br_t (by decide) f
theorem rl_bc {A B : Prop} (b : Bool) (f : b = false → A) (g : b = true → B) : (rl_b b = 0 → A) ∧ (¬ rl_b b = 0 → B) := by
  cases b
  · exact rl_b0 rfl (f rfl)
  · exact rl_b1 rfl (g rfl)
end
section
theorem s3_wt_c {c : Int32} {fu fd : Nat → Int32} {S S' : Nat} : ∀ {i : Nat}, (∀ j, j < i → S.testBit j = S'.testBit j) → s3_wt c fu fd S i = s3_wt c fu fd S' i
  | 0, _ => rfl
  | i + 1, h => by
    show s3_wt c fu fd S i * (if S.testBit i = true then fu i else fd i) = s3_wt c fu fd S' i * (if S'.testBit i = true then fu i else fd i)
    rw [s3_wt_c (fun j hj => h j (by omega)), h i (by omega)]
theorem s3_wt_lo {c : Int32} {fu fd : Nat → Int32} {S i : Nat} (h : S < 2 ^ i) : s3_wt c fu fd S (i + 1) = s3_wt c fu fd S i * fd i := by
  show s3_wt c fu fd S i * (if S.testBit i = true then fu i else fd i) = _
  rw [gw_lo h]; rfl
theorem s3_wt_hi {c : Int32} {fu fd : Nat → Int32} {S i : Nat} (h : S < 2 ^ i) : s3_wt c fu fd (2 ^ i + S) (i + 1) = s3_wt c fu fd S i * fu i := by
  show s3_wt c fu fd (2 ^ i + S) i * (if (2 ^ i + S).testBit i = true then fu i else fd i) = _
  rw [gw_hi h, s3_wt_c (S' := S) (fun j hj => gw_hj hj)]; rfl
theorem s6_wt_c {c : Int64} {fu fd : Nat → Int64} {S S' : Nat} : ∀ {i : Nat}, (∀ j, j < i → S.testBit j = S'.testBit j) → s6_wt c fu fd S i = s6_wt c fu fd S' i
  | 0, _ => rfl
  | i + 1, h => by
    show s6_wt c fu fd S i * (if S.testBit i = true then fu i else fd i) = s6_wt c fu fd S' i * (if S'.testBit i = true then fu i else fd i)
    rw [s6_wt_c (fun j hj => h j (by omega)), h i (by omega)]
theorem s6_wt_lo {c : Int64} {fu fd : Nat → Int64} {S i : Nat} (h : S < 2 ^ i) : s6_wt c fu fd S (i + 1) = s6_wt c fu fd S i * fd i := by
  show s6_wt c fu fd S i * (if S.testBit i = true then fu i else fd i) = _
  rw [gw_lo h]; rfl
theorem s6_wt_hi {c : Int64} {fu fd : Nat → Int64} {S i : Nat} (h : S < 2 ^ i) : s6_wt c fu fd (2 ^ i + S) (i + 1) = s6_wt c fu fd S i * fu i := by
  show s6_wt c fu fd (2 ^ i + S) i * (if (2 ^ i + S).testBit i = true then fu i else fd i) = _
  rw [gw_hi h, s6_wt_c (S' := S) (fun j hj => gw_hj hj)]; rfl
/-! cells that hand on what they hold, one after another -/
def s3_G (dn up : Nat → Int32) (nx : Nat → Nat) (P : Nat → Bool) (g : Nat → Int32) (c : Nat) : Int32 := if P c = true then dn c * g c + up c * g (nx c) else g c
theorem s3_chg {A g g' : Nat → Int32} {c : Nat} (h : ∀ x, x ≠ c → g' x = g x) : ∀ N, s3_s (fun x => A x * g' x) N = s3_s (fun x => A x * g x) N + (if c < N then A c * (g' c - g c) else 0)
  | 0 => by show (0 : Int32) = 0 + 0; grind
  | n + 1 => by
    show s3_s (fun x => A x * g' x) n + A n * g' n = (s3_s (fun x => A x * g x) n + A n * g n) + _
    rw [s3_chg h n]
    by_cases hn : n = c
    · subst hn
      rw [if_neg (Nat.lt_irrefl n), if_pos (Nat.lt_succ_self n)]
      grind
    · rw [h n hn]
      by_cases h2 : c < n
      · rw [if_pos h2, if_pos (by omega)]; grind
      · rw [if_neg h2, if_neg (by omega)]; grind
theorem s3_cell {N : Nat} {A0 A A' : Nat → Int32} {dn up : Nat → Int32} {nx : Nat → Nat} {P P' : Nat → Bool} {c : Nat} (hc : c < N)
    (h0 : ∀ g : Nat → Int32, s3_s (fun x => A x * g x) N = s3_s (fun x => A0 x * s3_G dn up nx P g x) N)
    (hA : ∀ g : Nat → Int32, s3_s (fun x => A' x * g x) N = s3_s (fun x => A x * g x) N + A c * (dn c * g c + up c * g (nx c) - g c))
    (hPc : P c = false) (hP : ∀ x, P' x = (P x || decide (x = c))) (hn : ∀ x, P x = true → nx x ≠ c) :
    ∀ g : Nat → Int32, s3_s (fun x => A' x * g x) N = s3_s (fun x => A0 x * s3_G dn up nx P' g x) N := by
  intro g
  have e1 := s3_chg (A := A) (g := g) (g' := fun x => if x = c then dn c * g c + up c * g (nx c) else g x) (c := c) (fun x hx => if_neg hx) N
  rw [if_pos hc] at e1
  rw [hA g]
  have e2 : (if c = c then dn c * g c + up c * g (nx c) else g c) = dn c * g c + up c * g (nx c) := if_pos rfl
  rw [e2] at e1
  rw [← e1, h0]
  refine s3_congr (fun x _ => ?_)
  congr 1
  unfold s3_G
  rw [hP x]
  by_cases hx : x = c
  · subst hx
    rw [hPc]
    simp
  · rw [decide_eq_false hx, Bool.or_false]
    cases hp : P x
    · simp [hx]
    · have := hn x hp
      simp [hx, this]
end
section
def tb_C (xc : Nat → Int32) : Prop := ∀ w, w < 52 → xc w = nI (tb_cd w)
def tb_J (xj : Nat → Int32) : Prop := ∀ j, j < 520 → xj j = nI (tb_jn j)
theorem tb_cd_lt (w : Nat) : tb_cd w < 32768 := Nat.mod_lt _ (by omega)
theorem tb_jn_lt (j : Nat) : tb_jn j < 64 := Nat.mod_lt _ (by omega)
theorem xw_partIn {post : Int32 → Prop} {w v : Nat} {c : Int32} (hc : c = nI (tb_cd w)) (hv : v < 5) (h : post (nI (tb_lb w v))) : wpX_partIn post c (nI v) := by
  subst hc
  unfold wpX_partIn
  have e1 : (3 : Int32) * (4 - nI v) = nI (3 * (4 - v)) := by
    show nI 3 * (nI 4 - nI v) = _
    rw [pk_sub (by omega), pk_mul]
  have hl := tb_cd_lt w
  rw [e1, pk_shrN (by omega) _ (3 * (4 - v)) (s_l _ (by omega)), pk_andN (Nat.lt_of_le_of_lt (Nat.div_le_self _ _) (by omega)) 3 (by decide)]
  exact h
def tb_pk (l : Nat → Nat) : Nat → Nat
  | 0 => 0
  | j + 1 => tb_pk l j * 8 + l j
def tb_ad (l : Nat → Nat) : Nat → Nat → Nat
  | 0 => l
  | v + 1 => if tb_mx l (v + 1) < l (v + 1) then tb_ad l v else fun u => if v + 1 < u then 0 else if u = v + 1 then l (v + 1) + 1 else l u
theorem tb_mx_lt {l : Nat → Nat} {b : Nat} (hb : 0 < b) (h : ∀ v, v < 5 → l v < b) : ∀ j, j ≤ 5 → tb_mx l j < b
  | 0, _ => hb
  | j + 1, hj => by
    have := tb_mx_lt hb h j (by omega)
    have h2 := h j (by omega)
    show (if l j ≤ tb_mx l j then tb_mx l j else l j) < b
    split <;> omega
def tb_lw (p : Nat) : Nat → Nat × Nat
  | 0 => (0, 0)
  | j + 1 => (if p < (tb_lw p j).2 then (tb_lw p j).1 else j, (tb_lw p j).2 + (4 - j))
theorem tb_lw_b {p : Nat} : ∀ j, (tb_lw p j).1 ≤ j ∧ (tb_lw p j).2 ≤ 4 * j
  | 0 => ⟨Nat.le_refl _, Nat.le_refl _⟩
  | j + 1 => by
    obtain ⟨h1, h2⟩ := tb_lw_b (p := p) j
    show (if p < (tb_lw p j).2 then (tb_lw p j).1 else j) ≤ j + 1 ∧ (tb_lw p j).2 + (4 - j) ≤ 4 * (j + 1)
    constructor
    · split <;> omega
    · omega
def tb_lo (p : Nat) : Nat := (tb_lw p 4).1
def tb_hi (p : Nat) : Nat := p - tb_lo p * (9 - tb_lo p) / 2 + tb_lo p + 1
def tb_fd (due : Nat) : Nat → Nat → Nat → Nat
  | 0, lo, _ => lo
  | d + 1, lo, hi => if hi ≤ lo then lo else if due ≤ tb_cd ((lo + hi) / 2) then tb_fd due d lo ((lo + hi) / 2) else tb_fd due d ((lo + hi) / 2 + 1) hi
def tb_rb (w ke go v : Nat) : Nat := if tb_lb w v = go then ke else if tb_lb w v ≤ go then tb_lb w v else tb_lb w v - 1
def tb_jf (w p : Nat) : Nat := if tb_lb w (tb_lo p) = tb_lb w (tb_hi p) then w else
  tb_fd (tb_pk (tb_rb w (if tb_lb w (tb_hi p) ≤ tb_lb w (tb_lo p) then tb_lb w (tb_hi p) else tb_lb w (tb_lo p)) (if tb_lb w (tb_hi p) ≤ tb_lb w (tb_lo p) then tb_lb w (tb_lo p) else tb_lb w (tb_hi p))) 5) 7 0 51
theorem tb_i1 : tb_all (fun w => tb_all (fun u => decide (tb_ad (tb_lb w) 4 u = tb_lb (w + 1) u)) 5) 51 = true := by decide +kernel
theorem tb_i2 : tb_all (fun w => tb_all (fun p => decide (tb_jf w p = tb_jn (w * 10 + p))) 10) 52 = true := by decide +kernel
theorem tb_i3 : tb_all (fun p => decide (tb_lo p < 5 ∧ tb_hi p < 5 ∧ tb_lo p * (9 - tb_lo p) / 2 ≤ p)) 10 = true := by decide +kernel
theorem tb_i4 : tb_all (fun w => decide (tb_pk (tb_lb w) 5 = tb_cd w)) 52 = true := by decide +kernel
theorem tb_i5 : tb_all (fun v => decide (tb_lb 0 v = 0)) 5 = true := by decide +kernel
section
variable {xe : Int32} {xk : Int32} {xc : Nat → Int32} {xj : Nat → Int32} {xl : Nat → Int32} {xf : Nat → Int32} {xt : Nat → Int32} {xs : Nat → Int32} {xh : Nat → Int32} {xw : Nat → Int64} {xp : Nat → Int64} {xn : Nat → Int32} {xz : Nat → Int32} {xo : Nat → Int32} {xm : Nat → Int64} {xq : Nat → Int64}
theorem xw_packed {post : Int32 → Prop} {l : Nat → Nat} (hl : ∀ v, v < 5 → xl v = nI (l v)) (h : post (nI (tb_pk l 5))) : wpX_packed post (xe, xk, xc, xj, xl, xf, xt, xs, xh, xw, xp, xn, xz, xo, xm, xq) := by
  show ∃ n4 : Nat, wX_packed_4 post xe xk xc xj xl xf xt xs xh xw xp xn xz xo xm xq n4 0 0
  refine loop_0 (fun n j (r : Int32) => wX_packed_4 post xe xk xc xj xl xf xt xs xh xw xp xn xz xo xm xq n r (nI j)) (fun j r => r = nI (tb_pk l j)) 5 0 rfl ?_ ?_
  · intro n s e; subst e
    exact rl_le_t 5 5 (by omega) h
  · intro n j s hj e k; subst e
    refine rl_le_f 5 j hj ⟨vp_in_nI hj (by omega), nm_r (e' := nI (tb_pk l (j + 1))) ?_ (nm_r (nI_1 j) (k _ rfl))⟩
    rw [rl_cl, hl j hj, rl_m8, nI_add]; rfl
theorem xw_greatestBefore {post : Int32 → Prop} {l : Nat → Nat} {v : Nat} (hl : ∀ v, v < 5 → xl v = nI (l v)) (hb : ∀ v, v < 5 → l v < 8) (hv : v ≤ 5) (h : post (nI (tb_mx l v))) : wpX_greatestBefore post (xe, xk, xc, xj, xl, xf, xt, xs, xh, xw, xp, xn, xz, xo, xm, xq) (nI v) := by
  show ∃ n4 : Nat, wX_greatestBefore_4 post (nI v) xe xk xc xj xl xf xt xs xh xw xp xn xz xo xm xq n4 0 0
  refine loop_0 (fun n j (r : Int32) => wX_greatestBefore_4 post (nI v) xe xk xc xj xl xf xt xs xh xw xp xn xz xo xm xq n r (nI j)) (fun j r => r = nI (tb_mx l j)) v 0 rfl ?_ ?_
  · intro n s e; subst e
    exact rl_le_t v v (by omega) h
  · intro n j s hj e k; subst e
    have e : xl (nI j).toNatClampNeg = nI (l j) := by rw [rl_cl]; exact hl j (by omega)
    have k' := k (nI (tb_mx l (j + 1))) rfl
    have u : tb_mx l (j + 1) = if l j ≤ tb_mx l j then tb_mx l j else l j := rfl
    have b1 := tb_mx_lt (by omega) hb j (by omega)
    have b2 := hb j (by omega)
    have hi : vp_in (nI j) 5 := vp_in_nI (by omega) (by omega)
    refine rl_le_f v j hj ⟨hi, ?_⟩
    rw [e]
    refine pk_le (l j) (tb_mx l j) (fun z => nm_r (nI_1 j) ?_) (fun z => ⟨hi, nm_e (nm_r (nI_1 j) ?_)⟩)
    · rw [u, if_pos z] at k'; exact k'
    · rw [u, if_neg (by omega)] at k'; exact k'
theorem xw_clearBehind {post : SX → Prop} {v : Nat} (hv : v < 5) (h : ∀ l' : Nat → Int32, (∀ u, l' u = if v < u ∧ u < 5 then 0 else xl u) → post (xe, xk, xc, xj, l', xf, xt, xs, xh, xw, xp, xn, xz, xo, xm, xq)) : wpX_clearBehind post (xe, xk, xc, xj, xl, xf, xt, xs, xh, xw, xp, xn, xz, xo, xm, xq) (nI v) := by
  show ∀ x2_1 : Int32, x2_1 = nI v + 1 → (∃ n4 : Nat, wX_clearBehind_4 post xe xk n4 x2_1 xc xj xl xf xt xs xh xw xp xn xz xo xm xq)
  refine nm_r (nI_1 v) ?_
  refine rl_lp (fun n j (l' : Nat → Int32) => wX_clearBehind_4 post xe xk n (nI j) xc xj l' xf xt xs xh xw xp xn xz xo xm xq) (fun j l' => ∀ u, l' u = if v < u ∧ u < j then 0 else xl u) 5 (v + 1) xl (by omega) ?_ ?_ ?_
  · intro u; rw [if_neg (by omega)]
  · intro n s e
    exact rl_le_t 5 5 (by omega) (h s e)
  · intro n j s h1 hj e k
    refine rl_le_f 5 j hj ⟨vp_in_nI hj (by omega), nm_e (nm_r (nI_1 j) (k _ ?_))⟩
    intro u
    rw [rl_cl]
    by_cases hu : u = j
    · subst hu; rw [pk_us, if_pos (by omega)]
    · rw [pk_un hu, e u]
      by_cases h2 : v < u ∧ u < j
      · rw [if_pos h2, if_pos (by omega)]
      · rw [if_neg h2, if_neg (by omega)]
theorem xw_advance {post : SX → Prop} {l : Nat → Nat} (hl : ∀ v, v < 5 → xl v = nI (l v)) (hb : ∀ v, v < 5 → l v < 7) (h : ∀ l' : Nat → Int32, (∀ u, u < 5 → l' u = nI (tb_ad l 4 u)) → post (xe, xk, xc, xj, l', xf, xt, xs, xh, xw, xp, xn, xz, xo, xm, xq)) : wpX_advance post (xe, xk, xc, xj, xl, xf, xt, xs, xh, xw, xp, xn, xz, xo, xm, xq) := by
  show ∃ n2 : Nat, wX_advance_2 post xe xk xc xj xl xf xt xs xh xw xp xn xz xo xm xq n2 4
  refine ⟨4 + 1, pk_loopD (fun n j (_ : Unit) => wX_advance_2 post xe xk xc xj xl xf xt xs xh xw xp xn xz xo xm xq n (nI j)) (fun j _ => j ≤ 4 ∧ ∀ l' : Nat → Int32, (∀ u, u < 5 → l' u = nI (tb_ad l j u)) → post (xe, xk, xc, xj, l', xf, xt, xs, xh, xw, xp, xn, xz, xo, xm, xq)) ?_ ?_ 4 () ⟨Nat.le_refl 4, h⟩⟩
  · intro n _ hI
    exact rl_le_t 0 0 (by omega) (hI.2 xl hl)
  · intro n j _ hI k
    obtain ⟨hj, hI⟩ := hI
    have hi : vp_in (nI (j + 1)) 5 := vp_in_nI (by omega) (by omega)
    have e : xl (nI (j + 1)).toNatClampNeg = nI (l (j + 1)) := by rw [rl_cl]; exact hl _ (by omega)
    have b1 := tb_mx_lt (b := 8) (by omega) (fun v hv => Nat.lt_succ_of_lt (hb v hv)) (j + 1) (by omega)
    have b2 := hb (j + 1) (by omega)
    have u : tb_ad l (j + 1) = if tb_mx l (j + 1) < l (j + 1) then tb_ad l j else fun u => if j + 1 < u then 0 else if u = j + 1 then l (j + 1) + 1 else l u := rfl
    refine rl_le_f (j + 1) 0 (by omega) (xw_greatestBefore hl (fun v hv => Nat.lt_succ_of_lt (hb v hv)) (by omega) ⟨hi, ?_⟩)
    rw [e]
    refine pk_lt (tb_mx l (j + 1)) (l (j + 1)) (fun z => ?_) (fun z => ⟨hi, hi, ?_⟩)
    · refine nm_r (pk_m1 j) (k () ⟨by omega, ?_⟩)
      rw [u, if_pos z] at hI
      exact hI
    · refine nm_e (xw_clearBehind (by omega) ?_)
      intro l' hl'
      refine hI l' ?_
      intro w hw
      have nz : ¬ tb_mx l (j + 1) < l (j + 1) := by omega
      rw [hl' w, u, if_neg nz, rl_cl]
      by_cases h1 : j + 1 < w
      · have h5 : j + 1 < w ∧ w < 5 := ⟨h1, hw⟩
        rw [if_pos h5, if_pos h1]; rfl
      · have h5 : ¬ (j + 1 < w ∧ w < 5) := fun q => h1 q.1
        rw [if_neg h5, if_neg h1]
        by_cases h2 : w = j + 1
        · subst h2; rw [pk_us, if_pos rfl, nI_1]
        · rw [pk_un h2, if_neg h2]; exact hl w hw
theorem xw_lowOf {post : Int32 → Prop} {p : Nat} (hp : p < 10) (h : post (nI (tb_lo p))) : wpX_lowOf post (nI p) := by
  show ∃ n6 : Nat, wX_lowOf_6 post (nI p) n6 0 0 0
  refine loop_0 (fun n j (s : Int32 × Int32) => wX_lowOf_6 post (nI p) n s.1 s.2 (nI j)) (fun j s => s = (nI (tb_lw p j).1, nI (tb_lw p j).2)) 4 (0, 0) rfl ?_ ?_
  · intro n s e; subst e
    exact rl_le_t 4 4 (by omega) h
  · intro n j s hj e k; subst e
    have k' := k _ rfl
    obtain ⟨b1, b2⟩ := tb_lw_b (p := p) j
    have u : tb_lw p (j + 1) = (if p < (tb_lw p j).2 then (tb_lw p j).1 else j, (tb_lw p j).2 + (4 - j)) := rfl
    have e2 : nI (tb_lw p j).2 + (4 - nI j) = nI ((tb_lw p j).2 + (4 - j)) := by
      show _ + (nI 4 - nI j) = _
      rw [pk_sub (by omega), nI_add]
    refine rl_le_f 4 j hj (pk_lt p (tb_lw p j).2 (fun z => ?_) (fun z => ?_))
    · refine nm_r e2 (nm_r (nI_1 j) ?_)
      rw [u, if_pos z] at k'; exact k'
    · refine nm_r e2 (nm_r (nI_1 j) ?_)
      rw [u, if_neg (by omega)] at k'; exact k'
theorem xw_highOf {post : Int32 → Prop} {p : Nat} (hp : p < 10) (h : post (nI (tb_hi p))) : wpX_highOf post (nI p) (nI (tb_lo p)) := by
  unfold wpX_highOf
  obtain ⟨h1, h2, h3⟩ := of_decide_eq_true (tb_all_s tb_i3 p hp)
  refine ⟨by decide, ?_⟩
  have hm : tb_lo p * (9 - tb_lo p) ≤ 4 * 9 := Nat.mul_le_mul (by omega) (by omega)
  have e : nI p - nI (tb_lo p) * (9 - nI (tb_lo p)) / 2 + nI (tb_lo p) + 1 = nI (tb_hi p) := by
    show nI p - nI (tb_lo p) * (nI 9 - nI (tb_lo p)) / nI 2 + nI (tb_lo p) + 1 = _
    rw [pk_sub (by omega), pk_mul, pk_div (by omega) (by omega) (by omega), pk_sub h3, nI_add, nI_1]
    rfl
  rw [e]; exact h
theorem xw_find {post : Int32 → Prop} {due : Nat} (hC : tb_C xc) (hd : due < 2 ^ 31) (h : post (nI (tb_fd due 7 0 51))) : wpX_find post (xe, xk, xc, xj, xl, xf, xt, xs, xh, xw, xp, xn, xz, xo, xm, xq) (nI due) := by
  show ∃ n8 : Nat, wX_find_8 post (nI due) xe xk xc xj xl xf xt xs xh xw xp xn xz xo xm xq n8 0 51 0
  have key : ∀ d lo hi : Nat, d ≤ 7 → hi ≤ 51 → lo ≤ 52 → post (nI (tb_fd due d lo hi)) → wX_find_8 post (nI due) xe xk xc xj xl xf xt xs xh xw xp xn xz xo xm xq (d + 1) (nI lo) (nI hi) (nI (7 - d)) := by
    intro d
    induction d with
    | zero => intro lo hi _ _ _ hp; exact rl_le_t 7 7 (by omega) hp
    | succ d ih =>
      intro lo hi hd7 hh hl hp
      have u : tb_fd due (d + 1) lo hi = if hi ≤ lo then lo else if due ≤ tb_cd ((lo + hi) / 2) then tb_fd due d lo ((lo + hi) / 2) else tb_fd due d ((lo + hi) / 2 + 1) hi := rfl
      rw [u] at hp
      refine rl_le_f 7 (7 - (d + 1)) (by omega) (pk_le hi lo (fun z => ?_) (fun z => ⟨by decide, ?_⟩))
      · rw [if_pos z] at hp; exact hp
      · rw [if_neg (by omega)] at hp
        have e : (nI lo + nI hi) / 2 = nI ((lo + hi) / 2) := by
          show (nI lo + nI hi) / nI 2 = _
          rw [nI_add, pk_div (by omega) (by omega) (by omega)]
        have e7 : nI (7 - (d + 1)) + 1 = nI (7 - d) := by rw [nI_1]; exact congrArg nI (by omega)
        have ec : xc (nI ((lo + hi) / 2)).toNatClampNeg = nI (tb_cd ((lo + hi) / 2)) := by rw [rl_cl]; exact hC _ (by omega)
        have hcl := tb_cd_lt ((lo + hi) / 2)
        refine nm_r e ⟨vp_in_nI (by omega) (by omega), ?_⟩
        rw [ec]
        refine pk_le due (tb_cd ((lo + hi) / 2)) (fun z2 => nm_r e7 ?_) (fun z2 => nm_r (nI_1 _) (nm_r e7 ?_))
        · rw [if_pos z2] at hp; exact ih _ _ (by omega) (by omega) (by omega) hp
        · rw [if_neg (by omega)] at hp; exact ih _ _ (by omega) (by omega) (by omega) hp
  exact ⟨8, key 7 0 51 (by omega) (by omega) (by omega) h⟩
theorem tb_pk_lt {l : Nat → Nat} (h : ∀ v, v < 5 → l v < 8) : tb_pk l 5 < 32768 := by
  have := h 0 (by omega); have := h 1 (by omega); have := h 2 (by omega); have := h 3 (by omega); have := h 4 (by omega)
  show ((((0 * 8 + l 0) * 8 + l 1) * 8 + l 2) * 8 + l 3) * 8 + l 4 < 32768
  omega
theorem tb_rb_lt {w ke go v : Nat} (hw : w < 52) (hk : ke < 5) (hv : v < 5) : tb_rb w ke go v < 8 := by
  have := tb_lb_lt hw hv
  unfold tb_rb
  split
  · omega
  · split <;> omega
theorem xw_joinOf_81 {post : Int32 → SX → Prop} {w ke go : Nat} (hC : tb_C xc) (hw : w < 52) (hk : ke < 5) (hg : go < 5) (h : ∀ l' : Nat → Int32, post (nI (tb_fd (tb_pk (tb_rb w ke go) 5) 7 0 51)) (xe, xk, xc, xj, l', xf, xt, xs, xh, xw, xp, xn, xz, xo, xm, xq)) :
    ∃ n81 : Nat, wX_joinOf_81 post (nI w) (nI ke) (nI go) xe xk n81 0 xc xj xl xf xt xs xh xw xp xn xz xo xm xq := by
  refine loop_0 (fun n j (l' : Nat → Int32) => wX_joinOf_81 post (nI w) (nI ke) (nI go) xe xk n (nI j) xc xj l' xf xt xs xh xw xp xn xz xo xm xq) (fun j l' => ∀ u, u < j → l' u = nI (tb_rb w ke go u)) 5 xl (fun u hu => absurd hu (Nat.not_lt_zero u)) ?_ ?_
  · intro n l' e
    refine rl_le_t 5 5 (by omega) (xw_packed e (xw_find hC ?_ (h l')))
    exact Nat.lt_trans (tb_pk_lt (fun v hv => tb_rb_lt hw hk hv)) (by omega)
  · intro n j l' hj e k
    have hi : vp_in (nI j) 5 := vp_in_nI hj (by omega)
    have hl := tb_lb_lt hw hj
    have nx : ∀ x : Int32, x = nI (tb_rb w ke go j) → wX_joinOf_81 post (nI w) (nI ke) (nI go) xe xk n (nI (j + 1)) xc xj (upd l' (nI j).toNatClampNeg x) xf xt xs xh xw xp xn xz xo xm xq := by
      intro x ex
      refine k _ ?_
      intro u hu
      rw [rl_cl]
      by_cases h2 : u = j
      · subst h2; rw [pk_us, ex]
      · rw [pk_un h2]; exact e u (by omega)
    refine rl_le_f 5 j hj ⟨vp_in_nI hw (by omega), ?_⟩
    refine xw_partIn (by rw [rl_cl]; exact hC w hw) hj ?_
    refine pk_eq (tb_lb w j) go (fun z => ⟨hi, nm_e (nm_r (nI_1 j) (nx _ ?_))⟩) (fun z => pk_le (tb_lb w j) go (fun z2 => ⟨hi, nm_e (nm_r (nI_1 j) (nx _ ?_))⟩) (fun z2 => ⟨hi, nm_e (nm_r (nI_1 j) (nx _ ?_))⟩))
    · unfold tb_rb; rw [if_pos z]
    · unfold tb_rb; rw [if_neg z, if_pos z2]
    · unfold tb_rb; rw [if_neg z, if_neg (by omega)]
      exact pk_sub (b := 1) (by omega)
theorem xw_joinOf {post : Int32 → SX → Prop} {w p : Nat} (hC : tb_C xc) (hw : w < 52) (hp : p < 10) (h : ∀ l' : Nat → Int32, post (nI (tb_jn (w * 10 + p))) (xe, xk, xc, xj, l', xf, xt, xs, xh, xw, xp, xn, xz, xo, xm, xq)) : wpX_joinOf post (xe, xk, xc, xj, xl, xf, xt, xs, xh, xw, xp, xn, xz, xo, xm, xq) (nI w) (nI p) := by
  obtain ⟨h1, h2, h3⟩ := of_decide_eq_true (tb_all_s tb_i3 p hp)
  have hj : tb_jf w p = tb_jn (w * 10 + p) := of_decide_eq_true (tb_all2 tb_i2 w hw p hp)
  rw [← hj] at h
  unfold tb_jf at h
  have l1 := tb_lb_lt hw h1
  have l2 := tb_lb_lt hw h2
  have hi : vp_in (nI w) 52 := vp_in_nI hw (by omega)
  have ec : xc (nI w).toNatClampNeg = nI (tb_cd w) := by rw [rl_cl]; exact hC w hw
  unfold wpX_joinOf
  refine xw_lowOf hp (xw_highOf hp ⟨hi, xw_partIn ec h1 ⟨hi, xw_partIn ec h2 ?_⟩⟩)
  refine pk_le (tb_lb w (tb_hi p)) (tb_lb w (tb_lo p)) (fun z => ?_) (fun z => ?_)
  · rw [if_pos z, if_pos z] at h
    refine rl_le_t (tb_lb w (tb_hi p)) (tb_lb w (tb_lo p)) z (pk_eq (tb_lb w (tb_hi p)) (tb_lb w (tb_lo p)) (fun y => ?_) (fun y => ?_))
    · rw [if_pos y.symm] at h; exact h xl
    · rw [if_neg (fun q => y q.symm)] at h; exact xw_joinOf_81 hC hw (by omega) (by omega) h
  · have n1 : ¬ tb_lb w (tb_hi p) ≤ tb_lb w (tb_lo p) := by omega
    rw [if_neg n1, if_neg n1] at h
    refine rl_le_f (tb_lb w (tb_hi p)) (tb_lb w (tb_lo p)) z (pk_eq (tb_lb w (tb_lo p)) (tb_lb w (tb_hi p)) (fun y => ?_) (fun y => ?_))
    · rw [if_pos y] at h; exact h xl
    · rw [if_neg y] at h; exact xw_joinOf_81 hC hw (by omega) (by omega) h
end
end
section
theorem tb_sh : ∀ k : Fin 64, (nI k.val).toInt16.toInt32 = nI k.val := by decide +kernel
theorem tb_shv (j : Nat) : vp_nar .short (nI (tb_jn j)).toInt16.toInt32 = nI (tb_jn j) := by
  rw [pk_vs]; exact tb_sh ⟨tb_jn j, tb_jn_lt j⟩
section
variable {xe : Int32} {xk : Int32} {xc : Nat → Int32} {xj : Nat → Int32} {xl : Nat → Int32} {xf : Nat → Int32} {xt : Nat → Int32} {xs : Nat → Int32} {xh : Nat → Int32} {xw : Nat → Int64} {xp : Nat → Int64} {xn : Nat → Int32} {xz : Nat → Int32} {xo : Nat → Int32} {xm : Nat → Int64} {xq : Nat → Int64}
theorem xw_init_158 {post : SX → Prop} {J : Int32 → Int32 → Int32 → (Nat → Int32) → (Nat → Int32) → (Nat → Int32) → (Nat → Int32) → (Nat → Int32) → (Nat → Int32) → (Nat → Int32) → (Nat → Int64) → (Nat → Int64) → (Nat → Int32) → (Nat → Int32) → (Nat → Int32) → (Nat → Int64) → (Nat → Int64) → Prop} {w : Nat} (hC : tb_C xc) (hw : w < 52)
    (hJ : ∀ xj' xl' : Nat → Int32, (∀ j, j < (w + 1) * 10 → xj' j = nI (tb_jn j)) → J (nI (w + 1)) xe xk xc xj' xl' xf xt xs xh xw xp xn xz xo xm xq) (h0 : ∀ j, j < w * 10 → xj j = nI (tb_jn j)) :
    ∃ n158 : Nat, wX_init_158 post J (nI w) n158 0 xe xk xc xj xl xf xt xs xh xw xp xn xz xo xm xq := by
  refine loop_0 (fun n p (s : (Nat → Int32) × (Nat → Int32)) => wX_init_158 post J (nI w) n (nI p) xe xk xc (s.1) (s.2) xf xt xs xh xw xp xn xz xo xm xq) (fun p s => ∀ j, j < w * 10 + p → s.1 j = nI (tb_jn j)) 10 (xj, xl) h0 ?_ ?_
  · intro n s e
    exact rl_le_t 10 10 (by omega) (nm_r (nI_1 w) (hJ s.1 s.2 (fun j hj => e j (by omega))))
  · intro n p s hp e k
    refine rl_le_f 10 p hp (xw_joinOf hC hw hp ?_)
    intro l'
    have e1 : nI w * 10 + nI p = nI (w * 10 + p) := by rw [rl_m10, nI_add]
    dsimp only
    rw [e1, tb_shv]
    refine ⟨vp_in_nI (by omega) (by omega), nm_e (nm_r (nI_1 p) (k (_, _) ?_))⟩
    intro j hj
    rw [rl_cl]
    by_cases h2 : j = w * 10 + p
    · subst h2; exact pk_us
    · show upd _ _ _ _ = _
      rw [pk_un h2]; exact e j (by omega)
theorem xw_init_150 {post : SX → Prop} (hC : tb_C xc) (h : ∀ xj' xl' : Nat → Int32, tb_J xj' → post (xe, xk, xc, xj', xl', xf, xt, xs, xh, xw, xp, xn, xz, xo, xm, xq)) : ∃ n150 : Nat, wX_init_150 post n150 0 xe xk xc xj xl xf xt xs xh xw xp xn xz xo xm xq := by
  refine loop_0 (fun n w (s : (Nat → Int32) × (Nat → Int32)) => wX_init_150 post n (nI w) xe xk xc (s.1) (s.2) xf xt xs xh xw xp xn xz xo xm xq) (fun w s => ∀ j, j < w * 10 → s.1 j = nI (tb_jn j)) 52 (xj, xl) (fun j hj => absurd hj (Nat.not_lt_zero j)) ?_ ?_
  · intro n s e
    exact rl_le_t 52 52 (by omega) (h s.1 s.2 e)
  · intro n w s hw e k
    exact rl_le_f 52 w hw (xw_init_158 hC hw (fun xj' xl' h' => k (xj', xl') h') e)
theorem xw_init_122 {post : SX → Prop} (h0 : ∀ v, v < 5 → xl v = 0) (h : ∀ xc' xj' xl' : Nat → Int32, tb_C xc' → tb_J xj' → post (xe, xk, xc', xj', xl', xf, xt, xs, xh, xw, xp, xn, xz, xo, xm, xq)) : ∃ n122 : Nat, wX_init_122 post n122 0 xe xk xc xj xl xf xt xs xh xw xp xn xz xo xm xq := by
  refine loop_0 (fun n w (s : (Nat → Int32) × (Nat → Int32)) => wX_init_122 post n (nI w) xe xk (s.1) xj (s.2) xf xt xs xh xw xp xn xz xo xm xq) (fun w s => (∀ j, j < w → s.1 j = nI (tb_cd j)) ∧ (w < 52 → ∀ v, v < 5 → s.2 v = nI (tb_lb w v))) 52 (xc, xl) ⟨fun j hj => absurd hj (Nat.not_lt_zero j), fun _ v hv => ?_⟩ ?_ ?_
  · show xl v = _
    rw [h0 v hv, of_decide_eq_true (tb_all_s tb_i5 v hv)]; rfl
  · intro n s e
    exact rl_le_t 52 52 (by omega) (xw_init_150 e.1 (fun xj' xl' hJ => h s.1 xj' xl' e.1 hJ))
  · intro n w s hw e k
    obtain ⟨e1, e2⟩ := e
    have e2 := e2 hw
    refine rl_le_f 52 w hw (xw_packed e2 ⟨vp_in_nI hw (by omega), nm_e ?_⟩)
    refine xw_advance e2 (fun v hv => Nat.lt_of_lt_of_le (tb_lb_lt hw hv) (by omega)) ?_
    intro l' hl'
    refine nm_r (nI_1 w) (k (_, _) ⟨?_, ?_⟩)
    · intro j hj
      show upd _ _ _ _ = _
      rw [rl_cl]
      by_cases h2 : j = w
      · subst h2; rw [pk_us, of_decide_eq_true (tb_all_s tb_i4 j hw)]
      · rw [pk_un h2]; exact e1 j (by omega)
    · intro h51 v hv
      show l' v = _
      rw [hl' v hv, of_decide_eq_true (tb_all2 tb_i1 w (by omega) v hv)]
end
theorem xw_init {post : SX → Prop} (h : ∀ xc xj xl : Nat → Int32, tb_C xc → tb_J xj → post (0, 0, xc, xj, xl, fun _ => 0, fun _ => 0, fun _ => 0, fun _ => 0, fun _ => 0, fun _ => 0, fun _ => 0, fun _ => 0, fun _ => 0, fun _ => 0, fun _ => 0)) : wpX_init post :=
  xw_init_122 (fun _ _ => rfl) (fun xc' xj' xl' a b => h xc' xj' xl' a b)
end
section
/-- an array's number -/
def gr_n (a : Nat → Int32) (i : Nat) : Nat := (a i).toNatClampNeg
/-- the edges' ends -/
def gr_F (m : Nat) (f t : Nat → Int32) : Prop := m ≤ 12 ∧ ∀ i, i < m → f i = nI (gr_n f i) ∧ t i = nI (gr_n t i) ∧ gr_n f i < 5 ∧ gr_n t i < 5 ∧ gr_n f i ≠ gr_n t i
/-- the edges' shares and how they are held -/
def gr_H (m : Nat) (s h : Nat → Int32) : Prop := ∀ i, i < m → s i = nI (gr_n s i) ∧ h i = nI (gr_n h i) ∧ gr_n s i ≤ 16 ∧ gr_n h i ≤ 2
theorem gr_ok {m : Nat} {f t : Nat → Int32} (h : gr_F m f t) : gw_ok (gr_n f) (gr_n t) m := fun i hi => (h.2 i hi).2.2
def gr_up (s h : Nat → Int32) (i : Nat) : Nat := if gr_n h i = 2 then gr_n s i else if gr_n h i = 1 then 16 else 0
def gr_dn (s h : Nat → Int32) (i : Nat) : Nat := if gr_n h i = 2 then 16 - gr_n s i else if gr_n h i = 1 then 0 else 16
theorem gr_up_le {m i : Nat} {s h : Nat → Int32} (H : gr_H m s h) (hi : i < m) : gr_up s h i ≤ 16 := by
  obtain ⟨h1, h2, h3, h4⟩ := H i hi
  unfold gr_up
  split
  · exact h3
  · split <;> omega
theorem gr_dn_le (i : Nat) (s h : Nat → Int32) : gr_dn s h i ≤ 16 := by
  unfold gr_dn
  split
  · omega
  · split <;> omega
theorem xw_pairOf {post : Int32 → Prop} {a b : Nat} (ha : a < 5) (hb : b < 5) (hab : a ≠ b) (h : post (nI (tb_pr a b))) : wpX_pairOf post (nI a) (nI b) := by
  have key : ∀ x z : Nat, x < z → z < 5 → nI x * (9 - nI x) / 2 + nI z - nI x - 1 = nI (x * (9 - x) / 2 + z - x - 1) := by
    intro x z hx hz
    have hm : x * (9 - x) ≤ 4 * 9 := Nat.mul_le_mul (by omega) (by omega)
    show nI x * (nI 9 - nI x) / nI 2 + nI z - nI x - nI 1 = _
    rw [pk_sub (by omega), pk_mul, pk_div (by omega) (by omega) (by omega), nI_add, pk_sub (by omega), pk_sub (by omega)]
  unfold wpX_pairOf wX_pairOf_10 wX_pairOf_21
  unfold tb_pr at h
  refine pk_le b a (fun z => rl_le_t b a z ⟨by decide, ?_⟩) (fun z => rl_le_f b a z ⟨by decide, ?_⟩)
  · rw [if_neg (by omega)] at h
    rw [key b a (by omega) ha]; exact h
  · rw [if_pos z] at h
    rw [key a b z hb]; exact h
section
variable {xe : Int32} {xk : Int32} {xc : Nat → Int32} {xj : Nat → Int32} {xl : Nat → Int32} {xf : Nat → Int32} {xt : Nat → Int32} {xs : Nat → Int32} {xh : Nat → Int32} {xw : Nat → Int64} {xp : Nat → Int64} {xn : Nat → Int32} {xz : Nat → Int32} {xo : Nat → Int32} {xm : Nat → Int64} {xq : Nat → Int64}
theorem xw_joinBy {post : Int32 → Prop} {m w i : Nat} (hJ : tb_J xj) (hG : gr_F m xf xt) (hw : w < 52) (hi : i < m) (h : post (nI (tb_jo w (gr_n xf i) (gr_n xt i)))) : wpX_joinBy post (xe, xk, xc, xj, xl, xf, xt, xs, xh, xw, xp, xn, xz, xo, xm, xq) (nI w) (nI i) := by
  obtain ⟨h12, hg⟩ := hG
  obtain ⟨ef, et, b1, b2, b3⟩ := hg i hi
  have hv : vp_in (nI i) 12 := vp_in_nI (by omega) (by omega)
  unfold wpX_joinBy
  refine ⟨hv, hv, ?_⟩
  rw [rl_cl, ef, et]
  have hp := tb_pr_lt b1 b2 b3
  refine xw_pairOf b1 b2 b3 ?_
  have e1 : nI w * 10 + nI (tb_pr (gr_n xf i) (gr_n xt i)) = nI (w * 10 + tb_pr (gr_n xf i) (gr_n xt i)) := by rw [rl_m10, nI_add]
  rw [e1]
  refine ⟨vp_in_nI (by omega) (by omega), ?_⟩
  rw [rl_cl, hJ _ (by omega)]
  exact h
theorem xw_partsIn {post : Int32 → Prop} {w : Nat} (hC : tb_C xc) (hw : w < 52) (h : post (nI (tb_pt w))) : wpX_partsIn post (xe, xk, xc, xj, xl, xf, xt, xs, xh, xw, xp, xn, xz, xo, xm, xq) (nI w) := by
  show ∃ n4 : Nat, wX_partsIn_4 post (nI w) xe xk xc xj xl xf xt xs xh xw xp xn xz xo xm xq n4 0 0
  refine loop_0 (fun n j (r : Int32) => wX_partsIn_4 post (nI w) xe xk xc xj xl xf xt xs xh xw xp xn xz xo xm xq n r (nI j)) (fun j r => r = nI (tb_mx (tb_lb w) j)) 5 0 rfl ?_ ?_
  · intro n s e; subst e
    refine rl_le_t 5 5 (by omega) ?_
    rw [nI_1]; exact h
  · intro n j s hj e k; subst e
    have k' := k (nI (tb_mx (tb_lb w) (j + 1))) rfl
    have u : tb_mx (tb_lb w) (j + 1) = if tb_lb w j ≤ tb_mx (tb_lb w) j then tb_mx (tb_lb w) j else tb_lb w j := rfl
    have b1 := tb_mx_lt (l := tb_lb w) (b := 5) (by omega) (fun v hv => tb_lb_lt hw hv) j (by omega)
    have b2 := tb_lb_lt hw hj
    refine rl_le_f 5 j hj ⟨vp_in_nI hw (by omega), xw_partIn (by rw [rl_cl]; exact hC w hw) hj ?_⟩
    refine pk_le (tb_lb w j) (tb_mx (tb_lb w) j) (fun z => nm_r (nI_1 j) ?_) (fun z => nm_r (nI_1 j) ?_)
    · rw [u, if_pos z] at k'; exact k'
    · rw [u, if_neg (by omega)] at k'; exact k'
def tb_x3 (p : Nat) : Int32 := if p = 0 then -1 else nI (p - 1)
theorem xw_connects {post : Int32 → Prop} {w M : Nat} (hC : tb_C xc) (hw : w < 52) (hM : M < 32) (h : post (rl_b (tb_cn w M))) : wpX_connects post (xe, xk, xc, xj, xl, xf, xt, xs, xh, xw, xp, xn, xz, xo, xm, xq) (nI w) (nI M) := by
  show ∃ n5 : Nat, wX_connects_5 post (nI w) (nI M) xe xk xc xj xl xf xt xs xh xw xp xn xz xo xm xq n5 (-1) 0
  have key : ∀ d j p : Nat, j + d = 5 → p ≤ 5 → post (rl_b (tb_cl (tb_lb w) M d j p)) → wX_connects_5 post (nI w) (nI M) xe xk xc xj xl xf xt xs xh xw xp xn xz xo xm xq (d + 1) (tb_x3 p) (nI j) := by
    intro d
    induction d with
    | zero =>
      intro j p hj _ hp
      have : j = 5 := by omega
      subst this
      exact rl_le_t 5 5 (by omega) hp
    | succ d ih =>
      intro j p hj hp5 hp
      have b2 := tb_lb_lt hw (show j < 5 by omega)
      have u : tb_cl (tb_lb w) M (d + 1) j p = if M.testBit j = true then (if p = 0 then tb_cl (tb_lb w) M d (j + 1) (tb_lb w j + 1) else if tb_lb w j + 1 = p then tb_cl (tb_lb w) M d (j + 1) p else false) else tb_cl (tb_lb w) M d (j + 1) p := rfl
      rw [u] at hp
      refine rl_le_f 5 j (by omega) ?_
      by_cases hb : M.testBit j = true
      · rw [if_pos hb] at hp
        refine br_t ((rl_bit_t (by omega) (by omega)).mpr hb) ⟨vp_in_nI hw (by omega), xw_partIn (by rw [rl_cl]; exact hC w hw) (by omega) ?_⟩
        by_cases h0 : p = 0
        · subst h0
          exact br_t (by decide) (nm_r (nI_1 j) (ih (j + 1) (tb_lb w j + 1) (by omega) (by omega) hp))
        · rw [if_neg h0] at hp
          have ex : tb_x3 p = nI (p - 1) := if_neg h0
          rw [ex]
          refine br_f (nI_pos (by omega)) (pk_eq (tb_lb w j) (p - 1) (fun z => nm_r (nI_1 j) ?_) (fun z => ?_))
          · rw [if_pos (by omega)] at hp
            have := ih (j + 1) p (by omega) hp5 hp
            rw [ex] at this
            rw [z]; exact this
          · rw [if_neg (by omega)] at hp; exact hp
      · rw [if_neg hb] at hp
        exact br_f (fun z => hb ((rl_bit_t (by omega) (by omega)).mp z)) (nm_r (nI_1 j) (ih (j + 1) p (by omega) hp5 hp))
  exact ⟨6, key 5 0 0 (by omega) (by omega) h⟩
theorem tb_pi_le (f : Nat → Nat) (v : Nat) : ∀ j, tb_pi f v j ≤ j
  | 0 => Nat.le_refl 0
  | j + 1 => by
    have := tb_pi_le f v j
    show (if f j = f v then tb_pi f v j + 1 else tb_pi f v j) ≤ j + 1
    split <;> omega
theorem xw_pairsIn {post : Int32 → Prop} {w : Nat} (hC : tb_C xc) (hw : w < 52) (h : post (nI (tb_pp w))) : wpX_pairsIn post (xe, xk, xc, xj, xl, xf, xt, xs, xh, xw, xp, xn, xz, xo, xm, xq) (nI w) := by
  show ∃ n4 : Nat, wX_pairsIn_4 post (nI w) xe xk xc xj xl xf xt xs xh xw xp xn xz xo xm xq n4 0 1
  refine rl_lp (fun n j (r : Int32) => wX_pairsIn_4 post (nI w) xe xk xc xj xl xf xt xs xh xw xp xn xz xo xm xq n r (nI j)) (fun j r => r = nI (tb_po (tb_lb w) j)) 5 1 0 (by omega) rfl ?_ ?_
  · intro n s e; subst e
    exact rl_le_t 5 5 (by omega) h
  · intro n v s _ hv e k; subst e
    refine rl_le_f 5 v hv ?_
    refine loop_0 (fun n' u (r : Int32) => wX_pairsIn_12 post (wX_pairsIn_4 post (nI w) xe xk xc xj xl xf xt xs xh xw xp xn xz xo xm xq n) (nI w) (nI v) xe xk xc xj xl xf xt xs xh xw xp xn xz xo xm xq n' r (nI u)) (fun u r => r = nI (tb_po (tb_lb w) v + tb_pi (tb_lb w) v u)) v (nI (tb_po (tb_lb w) v)) rfl ?_ ?_
    · intro n' s e; subst e
      exact rl_le_t v v (by omega) (nm_r (nI_1 v) (k _ rfl))
    · intro n' u s hu e k2; subst e
      have ec : xc (nI w).toNatClampNeg = nI (tb_cd w) := by rw [rl_cl]; exact hC w hw
      have b1 := tb_lb_lt hw (show u < 5 by omega)
      have b2 := tb_lb_lt hw hv
      have hi : vp_in (nI w) 52 := vp_in_nI hw (by omega)
      have k' := k2 _ rfl
      have e3 : tb_pi (tb_lb w) v (u + 1) = if tb_lb w u = tb_lb w v then tb_pi (tb_lb w) v u + 1 else tb_pi (tb_lb w) v u := rfl
      rw [e3] at k'
      refine rl_le_f v u hu ⟨hi, xw_partIn ec (by omega) ⟨hi, xw_partIn ec hv ?_⟩⟩
      refine pk_eq (tb_lb w u) (tb_lb w v) (fun z => nm_r (nI_1 _) (nm_r (nI_1 u) ?_)) (fun z => nm_r (e' := nI (tb_po (tb_lb w) v + tb_pi (tb_lb w) v u)) (nI_add _ 0) (nm_r (nI_1 u) ?_))
      · rw [if_pos z, ← Nat.add_assoc] at k'; exact k'
      · rw [if_neg z] at k'; exact k'
theorem xw_isNode {post : Int32 → Prop} {x : Int32} (h0 : x < 0 ∨ 5 ≤ x → post 0) (h1 : ∀ a, a < 5 → x = nI a → post 1) : wpX_isNode post x := by
  unfold wpX_isNode
  rcases pk_ix x (n := 5) (by omega) with h | h | ⟨a, ha, rfl⟩
  · exact br_t h (h0 (Or.inl h))
  · exact br_c (fun _ => h0 (Or.inr h)) (fun _ => br_t h (h0 (Or.inr h)))
  · exact br_f (nI_pos (by omega)) (rl_le_f 5 a ha (h1 a ha rfl))
theorem xw_isMask {post : Int32 → Prop} {x : Int32} (h0 : x < 0 ∨ 32 ≤ x → post 0) (h1 : ∀ a, a < 32 → x = nI a → post 1) : wpX_isMask post x := by
  unfold wpX_isMask
  rcases pk_ix x (n := 32) (by omega) with h | h | ⟨a, ha, rfl⟩
  · exact br_t h (h0 (Or.inl h))
  · exact br_c (fun _ => h0 (Or.inr h)) (fun _ => br_t h (h0 (Or.inr h)))
  · exact br_f (nI_pos (by omega)) (rl_le_f 32 a ha (h1 a ha rfl))
theorem xw_isEdge {post : Int32 → Prop} {x : Int32} {m : Nat} (hm : m ≤ 12) (he : xe = nI m) (h0 : x < 0 ∨ nI m ≤ x → post 0) (h1 : ∀ a, a < m → x = nI a → post 1) : wpX_isEdge post (xe, xk, xc, xj, xl, xf, xt, xs, xh, xw, xp, xn, xz, xo, xm, xq) x := by
  subst he
  unfold wpX_isEdge
  rcases pk_ix x (n := m) (by omega) with h | h | ⟨a, ha, rfl⟩
  · exact br_t h (h0 (Or.inl h))
  · exact br_c (fun _ => h0 (Or.inr h)) (fun _ => br_t h (h0 (Or.inr h)))
  · exact br_f (nI_pos (by omega)) (rl_le_f m a ha (h1 a ha rfl))
theorem xw_factor1 {post : Int32 → Prop} {m i : Nat} (hm : m ≤ 12) (H : gr_H m xs xh) (hi : i < m) (h : post (nI (gr_up xs xh i))) : wpX_factor post (xe, xk, xc, xj, xl, xf, xt, xs, xh, xw, xp, xn, xz, xo, xm, xq) (nI i) 1 := by
  obtain ⟨h1, h2, h3, h4⟩ := H i hi
  have hv : vp_in (nI i) 12 := vp_in_nI (by omega) (by omega)
  unfold gr_up at h
  unfold wpX_factor wX_factor_48
  dsimp only
  rw [rl_cl, h2]
  refine ⟨hv, pk_eq (gr_n xh i) 2 (fun z => ?_) (fun z => ⟨hv, pk_eq (gr_n xh i) 1 (fun z2 => ?_) (fun z2 => ?_)⟩)⟩
  · rw [if_pos z] at h
    refine br_f (by decide) ⟨hv, ?_⟩
    rw [h1]; exact h
  · rw [if_neg z, if_pos z2] at h
    exact br_t rfl h
  · rw [if_neg z, if_neg z2] at h
    exact br_f (by decide) h
theorem xw_factor0 {post : Int32 → Prop} {m i : Nat} (hm : m ≤ 12) (H : gr_H m xs xh) (hi : i < m) (h : post (nI (gr_dn xs xh i))) : wpX_factor post (xe, xk, xc, xj, xl, xf, xt, xs, xh, xw, xp, xn, xz, xo, xm, xq) (nI i) 0 := by
  obtain ⟨h1, h2, h3, h4⟩ := H i hi
  have hv : vp_in (nI i) 12 := vp_in_nI (by omega) (by omega)
  unfold gr_dn at h
  unfold wpX_factor wX_factor_48
  dsimp only
  rw [rl_cl, h2]
  refine ⟨hv, pk_eq (gr_n xh i) 2 (fun z => ?_) (fun z => ⟨hv, pk_eq (gr_n xh i) 1 (fun z2 => ?_) (fun z2 => ?_)⟩)⟩
  · rw [if_pos z] at h
    refine br_t rfl ⟨hv, ?_⟩
    have e : (16 : Int32) - xs i = nI (16 - gr_n xs i) := by
      rw [h1]; exact pk_sub (a := 16) h3
    rw [e]; exact h
  · rw [if_neg z, if_pos z2] at h
    exact br_f (by decide) h
  · rw [if_neg z, if_neg z2] at h
    exact br_t rfl h
theorem xw_missing {post : Int64 → Prop} {m : Nat} (hm : m ≤ 12) (he : xe = nI m) (h : post (lN (2 ^ (4 * (12 - m))))) : wpX_missing post (xe, xk, xc, xj, xl, xf, xt, xs, xh, xw, xp, xn, xz, xo, xm, xq) := by
  subst he
  unfold wpX_missing
  have e : (4 : Int32) * (12 - nI m) = nI (4 * (12 - m)) := by
    show nI 4 * (nI 12 - nI m) = _
    rw [pk_sub hm, pk_mul]
  have e2 : (1 : Int64) <<< ((4 * (12 - nI m)).toInt64 &&& 63) = lN (2 ^ (4 * (12 - m))) := by
    rw [e]
    have := wb_shl 1 (k := 4 * (12 - m)) (by omega)
    rw [Nat.one_mul] at this
    exact this
  show post _
  rw [e2]; exact h
end
end
section
def gr_fu (s h : Nat → Int32) (bu i : Nat) : Int64 := if i = bu then 0 else lN (gr_up s h i)
def gr_fd (s h : Nat → Int32) (bu i : Nat) : Int64 := if i = bu then 1 else lN (gr_dn s h i)
/-- the weight of a set of edges, as the component reckons it; one edge may be left out -/
def gr_wt (m : Nat) (s h : Nat → Int32) (bu S i : Nat) : Int64 := s6_wt (lN (2 ^ (4 * (12 - m)))) (gr_fu s h bu) (gr_fd s h bu) S i
def gr_wy (f t : Nat → Int32) (S i : Nat) : Nat := gw_wy (gr_n f) (gr_n t) S i
def gr_KW (m : Nat) (f t s h : Nat → Int32) (bu : Nat) (W : Nat → Int64) (i : Nat) : Prop := ∀ g : Nat → Int64, s6_s (fun w => W w * g w) 52 = s6_s (fun S => gr_wt m s h bu S i * g (gr_wy f t S i)) (2 ^ i)
section
variable {xe : Int32} {xk : Int32} {xc : Nat → Int32} {xj : Nat → Int32} {xl : Nat → Int32} {xf : Nat → Int32} {xt : Nat → Int32} {xs : Nat → Int32} {xh : Nat → Int32} {xw : Nat → Int64} {xp : Nat → Int64} {xn : Nat → Int32} {xz : Nat → Int32} {xo : Nat → Int32} {xm : Nat → Int64} {xq : Nat → Int64}
theorem xw_weighOne_106 {post : SX → Prop} (h : ∀ w' : Nat → Int64, (∀ j, j < 52 → w' j = xp j) → post (xe, xk, xc, xj, xl, xf, xt, xs, xh, w', xp, xn, xz, xo, xm, xq)) : ∃ n106 : Nat, wX_weighOne_106 post xe xk n106 0 xc xj xl xf xt xs xh xw xp xn xz xo xm xq := by
  refine loop_0 (fun n j (w' : Nat → Int64) => wX_weighOne_106 post xe xk n (nI j) xc xj xl xf xt xs xh w' xp xn xz xo xm xq) (fun j w' => ∀ u, u < j → w' u = xp u) 52 xw (fun u hu => absurd hu (Nat.not_lt_zero u)) ?_ ?_
  · intro n s e
    exact rl_le_t 52 52 (by omega) (h s e)
  · intro n j s hj e k
    have hv : vp_in (nI j) 52 := vp_in_nI hj (by omega)
    refine rl_le_f 52 j hj ⟨hv, hv, nm_e (nm_r (nI_1 j) (k _ ?_))⟩
    intro u hu
    rw [rl_cl]
    by_cases h2 : u = j
    · subst h2; rw [pk_uLs]
    · rw [pk_uLn h2]; exact e u (by omega)
theorem xw_weighOne {post : SX → Prop} {m i : Nat} (hJ : tb_J xj) (hG : gr_F m xf xt) (H : gr_H m xs xh) (hi : i < m)
    (h : ∀ w' p' : Nat → Int64, (∀ g : Nat → Int64, s6_s (fun w => w' w * g w) 52 = s6_s (fun w => xw w * (lN (gr_dn xs xh i) * g w + lN (gr_up xs xh i) * g (tb_jo w (gr_n xf i) (gr_n xt i)))) 52) → post (xe, xk, xc, xj, xl, xf, xt, xs, xh, w', p', xn, xz, xo, xm, xq)) : wpX_weighOne post (xe, xk, xc, xj, xl, xf, xt, xs, xh, xw, xp, xn, xz, xo, xm, xq) (nI i) := by
  have hm : m ≤ 12 := hG.1
  have b1 := gr_up_le H hi
  have b2 := gr_dn_le i xs xh
  unfold wpX_weighOne
  refine xw_factor1 hm H hi (xw_factor0 hm H hi ?_)
  refine loop_0 (fun n j (p' : Nat → Int64) => wX_weighOne_17 post (nI i) (nI (gr_up xs xh i)) (nI (gr_dn xs xh i)) xe xk n (nI j) xc xj xl xf xt xs xh xw p' xn xz xo xm xq) (fun j p' => ∀ u, u < j → p' u = 0) 52 xp (fun u hu => absurd hu (Nat.not_lt_zero u)) ?_ ?_
  · intro n p0 e0
    refine rl_le_t 52 52 (by omega) ?_
    refine loop_0 (fun n j (p' : Nat → Int64) => wX_weighOne_41 post (nI i) (nI (gr_up xs xh i)) (nI (gr_dn xs xh i)) xe xk n (nI j) xc xj xl xf xt xs xh xw p' xn xz xo xm xq) (fun j p' => ∀ g : Nat → Int64, s6_s (fun w => p' w * g w) 52 = s6_s (fun w => xw w * (lN (gr_dn xs xh i) * g w + lN (gr_up xs xh i) * g (tb_jo w (gr_n xf i) (gr_n xt i)))) j) 52 p0 ?_ ?_ ?_
    · intro g
      show _ = (0 : Int64)
      rw [s6_congr (g := fun _ => 0) (fun j hj => by show p0 j * g j = 0; rw [e0 j hj]; grind), s6_zero]
    · intro n p1 e1
      refine rl_le_t 52 52 (by omega) (xw_weighOne_106 (fun w' hw' => h w' p1 (fun g => ?_)))
      rw [← e1 g]
      exact s6_congr (fun j hj => by show w' j * g j = p1 j * g j; rw [hw' j hj])
    · intro n j p1 hj e1 k
      have hv : vp_in (nI j) 52 := vp_in_nI hj (by omega)
      obtain ⟨f1, f2, f3⟩ := gr_ok hG i hi
      have hr := tb_jo_lt hj f1 f2 f3
      have hv2 : vp_in (nI (tb_jo j (gr_n xf i) (gr_n xt i))) 52 := vp_in_nI hr (by omega)
      refine rl_le_f 52 j hj (xw_joinBy hJ hG hj hi ⟨hv, hv, hv, nm_e ⟨hv2, hv, hv2, nm_e (nm_r (nI_1 j) (k _ ?_))⟩⟩)
      intro g
      rw [rl_cl, rl_cl (n := tb_jo j (gr_n xf i) (gr_n xt i)), nI_l (by omega), nI_l (by omega)]
      rw [s6_put (a := vp_updL p1 j (p1 j + xw j * lN (gr_dn xs xh i))) (k := tb_jo j (gr_n xf i) (gr_n xt i)) (d := xw j * lN (gr_up xs xh i)) pk_uLs (fun u hu => pk_uLn hu), if_pos hr]
      rw [s6_put (a := p1) (k := j) (d := xw j * lN (gr_dn xs xh i)) pk_uLs (fun u hu => pk_uLn hu), if_pos hj, e1 g]
      show _ = s6_s _ j + _
      grind
  · intro n j p0 hj e0 k
    refine rl_le_f 52 j hj ⟨vp_in_nI hj (by omega), nm_e (nm_r (nI_1 j) (k _ ?_))⟩
    intro u hu
    rw [rl_cl]
    by_cases h2 : u = j
    · subst h2; rw [pk_uLs]
    · rw [pk_uLn h2]; exact e0 u (by omega)
theorem xw_weighAll {post : SX → Prop} {m bu : Nat} {x1 : Int32} (hJ : tb_J xj) (hG : gr_F m xf xt) (H : gr_H m xs xh) (he : xe = nI m) (hx : ∀ i, i < 12 → (nI i = x1 ↔ i = bu))
    (h : ∀ w' p' : Nat → Int64, gr_KW m xf xt xs xh bu w' m → post (xe, xk, xc, xj, xl, xf, xt, xs, xh, w', p', xn, xz, xo, xm, xq)) : wpX_weighAll post (xe, xk, xc, xj, xl, xf, xt, xs, xh, xw, xp, xn, xz, xo, xm, xq) x1 := by
  subst he
  have hm : m ≤ 12 := hG.1
  show ∃ n2 : Nat, wX_weighAll_2 post x1 (nI m) xk n2 0 xc xj xl xf xt xs xh xw xp xn xz xo xm xq
  refine loop_0 (fun n j (w' : Nat → Int64) => wX_weighAll_2 post x1 (nI m) xk n (nI j) xc xj xl xf xt xs xh w' xp xn xz xo xm xq) (fun j w' => ∀ u, u < j → w' u = if u = 51 then lN (2 ^ (4 * (12 - m))) else 0) 52 xw (fun u hu => absurd hu (Nat.not_lt_zero u)) ?_ ?_
  · intro n w0 e0
    refine rl_le_t 52 52 (by omega) ?_
    refine loop_0 (fun n i (s : (Nat → Int64) × (Nat → Int64)) => wX_weighAll_36 post x1 n (nI i) (nI m) xk xc xj xl xf xt xs xh (s.1) (s.2) xn xz xo xm xq) (fun i s => gr_KW m xf xt xs xh bu s.1 i) m (w0, xp) ?_ ?_ ?_
    · intro g
      show s6_s (fun w => w0 w * g w) 52 = 0 + lN (2 ^ (4 * (12 - m))) * g 51
      rw [s6_congr (g := fun w => if w = 51 then lN (2 ^ (4 * (12 - m))) * g 51 else 0) (fun j hj => ?_), s6_one, if_pos (by omega)]
      · grind
      · show w0 j * g j = _
        rw [e0 j hj]
        by_cases h51 : j = 51
        · subst h51; rw [if_pos rfl, if_pos rfl]
        · rw [if_neg h51, if_neg h51]; grind
    · intro n s e
      exact rl_le_t m m (by omega) (h s.1 s.2 e)
    · intro n i s hi e k
      obtain ⟨f1, f2, f3⟩ := gr_ok hG i hi
      refine rl_le_f m i hi (br_c (fun z => nm_r (nI_1 i) (k s ?_)) (fun z => xw_weighOne hJ hG H hi (fun w' p' hw' => nm_r (nI_1 i) (k (w', p') ?_))))
      · have z' : i = bu := (hx i (by omega)).mp z
        refine s6_dp (pos := gr_wy xf xt) (wt := gr_wt m xs xh bu) e (fun g => g) (fun g => rfl) ?_
        intro g S hS
        have q1 : gr_wt m xs xh bu S (i + 1) = gr_wt m xs xh bu S i * gr_fd xs xh bu i := s6_wt_lo hS
        have q2 : gr_wt m xs xh bu (2 ^ i + S) (i + 1) = gr_wt m xs xh bu S i * gr_fu xs xh bu i := s6_wt_hi hS
        have q3 : gr_wy xf xt S (i + 1) = gr_wy xf xt S i := gw_wy_lo hS
        have q4 : gr_fd xs xh bu i = 1 := if_pos z'
        have q5 : gr_fu xs xh bu i = 0 := if_pos z'
        rw [q1, q2, q3, q4, q5]
        grind
      · have z' : ¬ i = bu := fun y => z ((hx i (by omega)).mpr y)
        refine s6_dp (pos := gr_wy xf xt) (wt := gr_wt m xs xh bu) e (fun g w => lN (gr_dn xs xh i) * g w + lN (gr_up xs xh i) * g (tb_jo w (gr_n xf i) (gr_n xt i))) hw' ?_
        intro g S hS
        have q1 : gr_wt m xs xh bu S (i + 1) = gr_wt m xs xh bu S i * gr_fd xs xh bu i := s6_wt_lo hS
        have q2 : gr_wt m xs xh bu (2 ^ i + S) (i + 1) = gr_wt m xs xh bu S i * gr_fu xs xh bu i := s6_wt_hi hS
        have q3 : gr_wy xf xt S (i + 1) = gr_wy xf xt S i := gw_wy_lo hS
        have q6 : gr_wy xf xt (2 ^ i + S) (i + 1) = tb_jo (gr_wy xf xt S i) (gr_n xf i) (gr_n xt i) := gw_wy_hi hS
        have q4 : gr_fd xs xh bu i = lN (gr_dn xs xh i) := if_neg z'
        have q5 : gr_fu xs xh bu i = lN (gr_up xs xh i) := if_neg z'
        rw [q1, q2, q3, q4, q5, q6]
        grind
  · intro n j w0 hj e0 k
    have hv : vp_in (nI j) 52 := vp_in_nI hj (by omega)
    refine rl_le_f 52 j hj (pk_eq j 51 (fun z => xw_missing hm rfl ⟨hv, nm_e (nm_r (nI_1 j) (k _ ?_))⟩) (fun z => ⟨hv, nm_e (nm_r (nI_1 j) (k _ ?_))⟩))
    · intro u hu
      rw [rl_cl]
      by_cases h2 : u = j
      · rw [h2, pk_uLs, if_pos z]
      · rw [pk_uLn h2]; exact e0 u (by omega)
    · intro u hu
      rw [rl_cl]
      by_cases h2 : u = j
      · rw [h2, pk_uLs, if_neg z]
      · rw [pk_uLn h2]; exact e0 u (by omega)
end
end
section
def gr_cu (h : Nat → Int32) (i : Nat) : Int32 := if gr_n h i = 0 then 0 else 1
def gr_cd (h : Nat → Int32) (i : Nat) : Int32 := if gr_n h i = 1 then 0 else 1
def gr_nx (f t : Nat → Int32) (i c : Nat) : Nat := (c / 52 + 1) * 52 + tb_jo (c % 52) (gr_n f i) (gr_n t i)
def gr_P (r k w c : Nat) : Bool := decide (((k + 1) * 52 ≤ c ∧ c < r * 52) ∨ (k * 52 ≤ c ∧ c < k * 52 + w))
def gr_Q (r j c : Nat) : Bool := decide (j * 52 ≤ c ∧ c < r * 52)
theorem gr_PQ0 (r k : Nat) : gr_P r k 0 = gr_Q r (k + 1) := by
  funext c; unfold gr_P gr_Q; exact decide_eq_decide.mpr (by omega)
theorem gr_PQ1 {r k : Nat} (h : k < r) : gr_P r k 52 = gr_Q r k := by
  funext c; unfold gr_P gr_Q; exact decide_eq_decide.mpr (by omega)
theorem gr_Ps (r k w x : Nat) : gr_P r k (w + 1) x = (gr_P r k w x || decide (x = k * 52 + w)) := by
  unfold gr_P; rw [← Bool.decide_or]; exact decide_eq_decide.mpr (by omega)
theorem gr_Pc {r k w : Nat} (hw : w < 52) : gr_P r k w (k * 52 + w) = false := by
  unfold gr_P; exact decide_eq_false (by omega)
theorem gr_Pn {f t : Nat → Int32} {i r k w x : Nat} (hw : w < 52) (h : gr_P r k w x = true) : gr_nx f t i x ≠ k * 52 + w := by
  have h := of_decide_eq_true h
  unfold gr_nx
  omega
theorem gr_nxc {f t : Nat → Int32} {i k w : Nat} (hw : w < 52) : gr_nx f t i (k * 52 + w) = (k + 1) * 52 + tb_jo w (gr_n f i) (gr_n t i) := by
  unfold gr_nx
  rw [show (k * 52 + w) / 52 = k by omega, show (k * 52 + w) % 52 = w by omega]
def gr_ps (f t : Nat → Int32) (S i : Nat) : Nat := gw_on S i * 52 + gr_wy f t S i
def gr_KC (f t h : Nat → Int32) (A : Nat → Int32) (i : Nat) : Prop := ∀ g : Nat → Int32, s3_s (fun c => A c * g c) 676 = s3_s (fun S => s3_wt 1 (gr_cu h) (gr_cd h) S i * g (gr_ps f t S i)) (2 ^ i)
def gr_KS (f t : Nat → Int32) (A : Nat → Int32) (i : Nat) : Prop := ∀ g : Nat → Int32, s3_s (fun c => A c * g c) 676 = s3_s (fun S => s3_wt 1 (fun _ => 1) (fun _ => 1) S i * g (gr_ps f t S i)) (2 ^ i)
/-- one edge more for numbers by rows and ways -/
theorem gr_KN {f t : Nat → Int32} {m i : Nat} {A A' : Nat → Int32} {fu fd : Nat → Int32} (hG : gr_F m f t) (hi : i < m)
    (h0 : ∀ g : Nat → Int32, s3_s (fun c => A c * g c) 676 = s3_s (fun S => s3_wt 1 fu fd S i * g (gr_ps f t S i)) (2 ^ i))
    (h1 : ∀ g : Nat → Int32, s3_s (fun c => A' c * g c) 676 = s3_s (fun c => A c * s3_G (fun _ => fd i) (fun _ => fu i) (gr_nx f t i) (gr_Q (i + 1) 0) g c) 676) :
    ∀ g : Nat → Int32, s3_s (fun c => A' c * g c) 676 = s3_s (fun S => s3_wt 1 fu fd S (i + 1) * g (gr_ps f t S (i + 1))) (2 ^ (i + 1)) := by
  refine s3_dp (pos := gr_ps f t) (wt := s3_wt 1 fu fd) h0 (s3_G (fun _ => fd i) (fun _ => fu i) (gr_nx f t i) (gr_Q (i + 1) 0)) h1 ?_
  intro g S hS
  have hw : gr_wy f t S i < 52 := gw_wy_lt (gr_ok hG) i (by omega)
  have ho := gw_on_le (S := S) i
  have hp : gr_Q (i + 1) 0 (gr_ps f t S i) = true := decide_eq_true (by unfold gr_ps; omega)
  have q3 : gr_ps f t S (i + 1) = gr_ps f t S i := by
    unfold gr_ps gr_wy; rw [gw_wy_lo hS, gw_on_lo hS]
  have q4 : gr_ps f t (2 ^ i + S) (i + 1) = gr_nx f t i (gr_ps f t S i) := by
    unfold gr_ps; rw [gr_nxc hw]; unfold gr_wy; rw [gw_wy_hi hS, gw_on_hi hS]
  rw [s3_wt_lo hS, s3_wt_hi hS, q3, q4]
  unfold s3_G
  rw [if_pos hp]
  grind
section
variable {xe : Int32} {xk : Int32} {xc : Nat → Int32} {xj : Nat → Int32} {xl : Nat → Int32} {xf : Nat → Int32} {xt : Nat → Int32} {xs : Nat → Int32} {xh : Nat → Int32} {xw : Nat → Int64} {xp : Nat → Int64} {xn : Nat → Int32} {xz : Nat → Int32} {xo : Nat → Int32} {xm : Nat → Int64} {xq : Nat → Int64}
theorem xw_countRow {post : SX → Prop} {m i k : Nat} {A0 B0 : Nat → Int32} (hJ : tb_J xj) (hG : gr_F m xf xt) (H : gr_H m xs xh) (hi : i < m) (hk : k ≤ i)
    (hc0 : ∀ g : Nat → Int32, s3_s (fun c => xn c * g c) 676 = s3_s (fun c => A0 c * s3_G (fun _ => gr_cd xh i) (fun _ => gr_cu xh i) (gr_nx xf xt i) (gr_P (i + 1) k 0) g c) 676)
    (hz0 : ∀ g : Nat → Int32, s3_s (fun c => xz c * g c) 676 = s3_s (fun c => B0 c * s3_G (fun _ => 1) (fun _ => 1) (gr_nx xf xt i) (gr_P (i + 1) k 0) g c) 676)
    (h : ∀ n' z' : Nat → Int32, (∀ g : Nat → Int32, s3_s (fun c => n' c * g c) 676 = s3_s (fun c => A0 c * s3_G (fun _ => gr_cd xh i) (fun _ => gr_cu xh i) (gr_nx xf xt i) (gr_P (i + 1) k 52) g c) 676) →
      (∀ g : Nat → Int32, s3_s (fun c => z' c * g c) 676 = s3_s (fun c => B0 c * s3_G (fun _ => 1) (fun _ => 1) (gr_nx xf xt i) (gr_P (i + 1) k 52) g c) 676) → post (xe, xk, xc, xj, xl, xf, xt, xs, xh, xw, xp, n', z', xo, xm, xq)) :
    wpX_countRow post (xe, xk, xc, xj, xl, xf, xt, xs, xh, xw, xp, xn, xz, xo, xm, xq) (nI i) (nI k) := by
  have hm := hG.1
  show ∃ n2 : Nat, wX_countRow_2 post (nI i) (nI k) xe xk n2 0 xc xj xl xf xt xs xh xw xp xn xz xo xm xq
  refine loop_0 (fun n w (s : (Nat → Int32) × (Nat → Int32)) => wX_countRow_2 post (nI i) (nI k) xe xk n (nI w) xc xj xl xf xt xs xh xw xp (s.1) (s.2) xo xm xq)
    (fun w s => (∀ g : Nat → Int32, s3_s (fun c => s.1 c * g c) 676 = s3_s (fun c => A0 c * s3_G (fun _ => gr_cd xh i) (fun _ => gr_cu xh i) (gr_nx xf xt i) (gr_P (i + 1) k w) g c) 676) ∧
      (∀ g : Nat → Int32, s3_s (fun c => s.2 c * g c) 676 = s3_s (fun c => B0 c * s3_G (fun _ => 1) (fun _ => 1) (gr_nx xf xt i) (gr_P (i + 1) k w) g c) 676)) 52 (xn, xz) ⟨hc0, hz0⟩ ?_ ?_
  · intro n s e
    exact rl_le_t 52 52 (by omega) (h s.1 s.2 e.1 e.2)
  · intro n w s hw e kk
    obtain ⟨ct, st⟩ := s
    obtain ⟨e1, e2⟩ := e
    dsimp only at e1 e2
    obtain ⟨f1, f2, f3⟩ := gr_ok hG i hi
    obtain ⟨_, hh, _, hh2⟩ := H i hi
    have hr := tb_jo_lt hw f1 f2 f3
    have ea : nI k * 52 + nI w = nI (k * 52 + w) := by rw [rl_m52, nI_add]
    have eo : (nI k + 1) * 52 + nI (tb_jo w (gr_n xf i) (gr_n xt i)) = nI ((k + 1) * 52 + tb_jo w (gr_n xf i) (gr_n xt i)) := by rw [nI_1, rl_m52, nI_add]
    have va : vp_in (nI (k * 52 + w)) 676 := vp_in_nI (by omega) (by omega)
    have vo : vp_in (nI ((k + 1) * 52 + tb_jo w (gr_n xf i) (gr_n xt i))) 676 := vp_in_nI (by omega) (by omega)
    have vi : vp_in (nI i) 12 := vp_in_nI (by omega) (by omega)
    have ehd : xh (nI i).toNatClampNeg = nI (gr_n xh i) := by rw [rl_cl]; exact hh
    have ca : (nI (k * 52 + w)).toNatClampNeg = k * 52 + w := nI_clamp (by omega)
    have cO : (nI ((k + 1) * 52 + tb_jo w (gr_n xf i) (gr_n xt i))).toNatClampNeg = (k + 1) * 52 + tb_jo w (gr_n xf i) (gr_n xt i) := nI_clamp (by omega)
    have lo : (k + 1) * 52 + tb_jo w (gr_n xf i) (gr_n xt i) < 676 := by omega
    have la : k * 52 + w < 676 := by omega
    have nac : (k + 1) * 52 + tb_jo w (gr_n xf i) (gr_n xt i) ≠ k * 52 + w := by omega
    have hst : ∀ g : Nat → Int32, s3_s (fun c => upd st ((k + 1) * 52 + tb_jo w (gr_n xf i) (gr_n xt i)) (st ((k + 1) * 52 + tb_jo w (gr_n xf i) (gr_n xt i)) + st (k * 52 + w)) c * g c) 676 = s3_s (fun c => B0 c * s3_G (fun _ => 1) (fun _ => 1) (gr_nx xf xt i) (gr_P (i + 1) k (w + 1)) g c) 676 := by
      refine s3_cell (c := k * 52 + w) la e2 ?_ (gr_Pc hw) (gr_Ps (i + 1) k w) (fun x hx => gr_Pn hw hx)
      intro g
      rw [s3_put (a := st) (k := (k + 1) * 52 + tb_jo w (gr_n xf i) (gr_n xt i)) (d := st (k * 52 + w)) pk_us (fun u hu => pk_un hu), if_pos lo, gr_nxc hw]
      grind
    have hct : ∀ ct' : Nat → Int32, (∀ g : Nat → Int32, s3_s (fun c => ct' c * g c) 676 = s3_s (fun c => ct c * g c) 676 + ct (k * 52 + w) * (gr_cd xh i * g (k * 52 + w) + gr_cu xh i * g ((k + 1) * 52 + tb_jo w (gr_n xf i) (gr_n xt i)) - g (k * 52 + w))) →
        wX_countRow_2 post (nI i) (nI k) xe xk n (nI (w + 1)) xc xj xl xf xt xs xh xw xp ct' (upd st ((k + 1) * 52 + tb_jo w (gr_n xf i) (gr_n xt i)) (st ((k + 1) * 52 + tb_jo w (gr_n xf i) (gr_n xt i)) + st (k * 52 + w))) xo xm xq := by
      intro ct' h'
      refine kk (_, _) ⟨?_, hst⟩
      refine s3_cell (c := k * 52 + w) la e1 ?_ (gr_Pc hw) (gr_Ps (i + 1) k w) (fun x hx => gr_Pn hw hx)
      intro g
      rw [gr_nxc hw]; exact h' g
    refine rl_le_f 52 w hw (nm_r ea (xw_joinBy hJ hG hw hi (nm_r eo ⟨vo, va, vo, nm_e ⟨va, nm_e ⟨vi, ?_⟩⟩⟩)))
    unfold wX_countRow_78
    rw [ehd, ca, cO]
    refine pk_eq (gr_n xh i) 0 (fun z => ⟨vi, ?_⟩) (fun z => ⟨vo, vo, nm_e ⟨vi, ?_⟩⟩)
    · refine rl_eq_f (gr_n xh i) 1 (by omega) (nm_r (nI_1 w) (hct ct ?_))
      intro g
      have q1 : gr_cd xh i = 1 := if_neg (by omega)
      have q2 : gr_cu xh i = 0 := if_pos z
      rw [q1, q2]; grind
    · have q2 : gr_cu xh i = 1 := if_neg z
      refine pk_eq (gr_n xh i) 1 (fun z2 => ⟨va, va, nm_e (nm_r (nI_1 w) (hct _ ?_))⟩) (fun z2 => nm_r (nI_1 w) (hct _ ?_))
      · intro g
        have q1 : gr_cd xh i = 0 := if_pos z2
        rw [q1, q2]
        rw [s3_put (a := upd ct ((k + 1) * 52 + tb_jo w (gr_n xf i) (gr_n xt i)) (ct ((k + 1) * 52 + tb_jo w (gr_n xf i) (gr_n xt i)) + ct (k * 52 + w))) (k := k * 52 + w) (d := - ct (k * 52 + w)) (by rw [pk_us]; grind) (fun u hu => pk_un hu), if_pos la]
        rw [s3_put (a := ct) (k := (k + 1) * 52 + tb_jo w (gr_n xf i) (gr_n xt i)) (d := ct (k * 52 + w)) pk_us (fun u hu => pk_un hu), if_pos lo]
        grind
      · intro g
        have q1 : gr_cd xh i = 1 := if_neg z2
        rw [q1, q2]
        rw [s3_put (a := ct) (k := (k + 1) * 52 + tb_jo w (gr_n xf i) (gr_n xt i)) (d := ct (k * 52 + w)) pk_us (fun u hu => pk_un hu), if_pos lo]
        grind
theorem xw_countAll_51 {post : SX → Prop} {m : Nat} (hJ : tb_J xj) (hG : gr_F m xf xt) (H : gr_H m xs xh) (he : xe = nI m) (h1 : gr_KC xf xt xh xn 0) (h2 : gr_KS xf xt xz 0)
    (h : ∀ n' z' : Nat → Int32, gr_KC xf xt xh n' m → gr_KS xf xt z' m → post (xe, xk, xc, xj, xl, xf, xt, xs, xh, xw, xp, n', z', xo, xm, xq)) : ∃ n51 : Nat, wX_countAll_51 post n51 0 xe xk xc xj xl xf xt xs xh xw xp xn xz xo xm xq := by
  subst he
  have hm := hG.1
  refine loop_0 (fun n i (s : (Nat → Int32) × (Nat → Int32)) => wX_countAll_51 post n (nI i) (nI m) xk xc xj xl xf xt xs xh xw xp (s.1) (s.2) xo xm xq) (fun i s => gr_KC xf xt xh s.1 i ∧ gr_KS xf xt s.2 i) m (xn, xz) ⟨h1, h2⟩ ?_ ?_
  · intro n s e
    exact rl_le_t m m (by omega) (h s.1 s.2 e.1 e.2)
  · intro n i s hi e k
    obtain ⟨e1, e2⟩ := e
    refine rl_le_f m i hi ?_
    have key := pk_loopD (fun n' j (s' : (Nat → Int32) × (Nat → Int32)) => wX_countAll_61 post (wX_countAll_51 post n) (nI i) n' (nI j + (-1)) (nI m) xk xc xj xl xf xt xs xh xw xp (s'.1) (s'.2) xo xm xq)
      (fun j s' => j ≤ i + 1 ∧ (∀ g : Nat → Int32, s3_s (fun c => s'.1 c * g c) 676 = s3_s (fun c => s.1 c * s3_G (fun _ => gr_cd xh i) (fun _ => gr_cu xh i) (gr_nx xf xt i) (gr_Q (i + 1) j) g c) 676) ∧
        (∀ g : Nat → Int32, s3_s (fun c => s'.2 c * g c) 676 = s3_s (fun c => s.2 c * s3_G (fun _ => 1) (fun _ => 1) (gr_nx xf xt i) (gr_Q (i + 1) j) g c) 676)) ?_ ?_ (i + 1) s ?_
    · rw [pk_m1] at key
      exact ⟨_, key⟩
    · intro n' s' hI
      refine br_t (by decide) (nm_r (nI_1 i) (k s' ⟨?_, ?_⟩))
      · exact gr_KN hG hi e1 hI.2.1
      · exact gr_KN (fu := fun _ => 1) (fd := fun _ => 1) hG hi e2 hI.2.2
    · intro n' j s' hI k2
      obtain ⟨hj, hI1, hI2⟩ := hI
      rw [pk_m1]
      refine br_f (nI_pos (by omega)) (xw_countRow (A0 := s.1) (B0 := s.2) hJ hG H hi (by omega) ?_ ?_ ?_)
      · rw [gr_PQ0]; exact hI1
      · rw [gr_PQ0]; exact hI2
      · intro n2 z2 a b
        rw [gr_PQ1 (by omega)] at a b
        exact nm_e (k2 (n2, z2) ⟨by omega, a, b⟩)
    · have q : ∀ (dn up : Nat → Int32) (nx : Nat → Nat) (g : Nat → Int32), s3_G dn up nx (gr_Q (i + 1) (i + 1)) g = g := by
        intro dn up nx g
        funext c
        have : gr_Q (i + 1) (i + 1) c = false := decide_eq_false (by omega)
        unfold s3_G; rw [this]; rfl
      refine ⟨Nat.le_refl _, fun g => ?_, fun g => ?_⟩
      · rw [q]
      · rw [q]
theorem xw_countAll {post : SX → Prop} {m : Nat} (hJ : tb_J xj) (hG : gr_F m xf xt) (H : gr_H m xs xh) (he : xe = nI m)
    (h : ∀ n' z' : Nat → Int32, gr_KC xf xt xh n' m → gr_KS xf xt z' m → post (xe, xk, xc, xj, xl, xf, xt, xs, xh, xw, xp, n', z', xo, xm, xq)) : wpX_countAll post (xe, xk, xc, xj, xl, xf, xt, xs, xh, xw, xp, xn, xz, xo, xm, xq) := by
  show ∃ n2 : Nat, wX_countAll_2 post xe xk n2 0 xc xj xl xf xt xs xh xw xp xn xz xo xm xq
  refine loop_0 (fun n j (s : (Nat → Int32) × (Nat → Int32)) => wX_countAll_2 post xe xk n (nI j) xc xj xl xf xt xs xh xw xp (s.1) (s.2) xo xm xq) (fun j s => ∀ u, u < j → s.1 u = (if u = 51 then 1 else 0) ∧ s.2 u = (if u = 51 then 1 else 0)) 676 (xn, xz) (fun u hu => absurd hu (Nat.not_lt_zero u)) ?_ ?_
  · intro n s e
    have q : ∀ A : Nat → Int32, (∀ u, u < 676 → A u = if u = 51 then 1 else 0) → ∀ g : Nat → Int32, s3_s (fun c => A c * g c) 676 = 0 + 1 * g 51 := by
      intro A hA g
      rw [s3_congr (g := fun w => if w = 51 then g 51 else 0) (fun j hj => ?_), s3_one, if_pos (by omega)]
      · grind
      · show A j * g j = _
        rw [hA j hj]
        by_cases h51 : j = 51
        · subst h51; rw [if_pos rfl, if_pos rfl]; grind
        · rw [if_neg h51, if_neg h51]; grind
    refine rl_le_t 676 676 (by omega) (xw_countAll_51 hJ hG H he ?_ ?_ h)
    · exact fun g => q s.1 (fun u hu => (e u hu).1) g
    · exact fun g => q s.2 (fun u hu => (e u hu).2) g
  · intro n j s hj e k
    have hv : vp_in (nI j) 676 := vp_in_nI hj (by omega)
    refine rl_le_f 676 j hj (pk_eq j 51 (fun z => ⟨hv, nm_e (rl_eq_t ⟨hv, nm_e (nm_r (nI_1 j) (k (upd s.1 (nI j).toNatClampNeg 1, upd s.2 (nI j).toNatClampNeg 1) ?_))⟩ (by rw [z]; rfl))⟩) (fun z => ⟨hv, nm_e (rl_eq_f j 51 z ⟨hv, nm_e (nm_r (nI_1 j) (k (upd s.1 (nI j).toNatClampNeg 0, upd s.2 (nI j).toNatClampNeg 0) ?_))⟩)⟩))
    · intro u hu
      dsimp only
      rw [rl_cl]
      by_cases h2 : u = j
      · rw [h2, pk_us, pk_us, if_pos z]; exact ⟨rfl, rfl⟩
      · rw [pk_un h2, pk_un h2]; exact e u (by omega)
    · intro u hu
      dsimp only
      rw [rl_cl]
      by_cases h2 : u = j
      · rw [h2, pk_us, pk_us, if_neg z]; exact ⟨rfl, rfl⟩
      · rw [pk_un h2, pk_un h2]; exact e u (by omega)
/-- what is known of weights and numbers -/
def gr_K (m : Nat) (f t s h : Nat → Int32) (W : Nat → Int64) (A B : Nat → Int32) : Prop := gr_KW m f t s h 12 W m ∧ gr_KC f t h A m ∧ gr_KS f t B m
theorem xw_find_ {post : SX → Prop} {m : Nat} (hJ : tb_J xj) (hG : gr_F m xf xt) (H : gr_H m xs xh) (he : xe = nI m) (hK : ¬ xk = 0 → gr_K m xf xt xs xh xw xn xz)
    (h : ∀ (k' : Int32) (w' p' : Nat → Int64) (n' z' : Nat → Int32), gr_K m xf xt xs xh w' n' z' → post (xe, k', xc, xj, xl, xf, xt, xs, xh, w', p', n', z', xo, xm, xq)) : wpX_find_ post (xe, xk, xc, xj, xl, xf, xt, xs, xh, xw, xp, xn, xz, xo, xm, xq) := by
  unfold wpX_find_
  refine br_c (fun _ => ?_) (fun z => h xk xw xp xn xz (hK z))
  refine xw_weighAll (bu := 12) hJ hG H he ?_ (fun w' p' hw' => xw_countAll hJ hG H he (fun n' z' a b => h 1 w' p' n' z' ⟨hw', a, b⟩))
  intro i hi
  constructor
  · intro z
    have : ¬ nI i < 0 := nI_pos (by omega)
    rw [z] at this
    exact absurd (by decide) this
  · omega
end
end
section
theorem xw_isMask0 {post : Int32 → Prop} {x : Int32} (hx : x < 0 ∨ 32 ≤ x) (h : post 0) : wpX_isMask post x := by
  refine xw_isMask (fun _ => h) (fun a ha e => ?_)
  subst e
  rcases hx with z | z
  · exact absurd z (nI_pos (by omega))
  · exact absurd z (nI_ge (b := 32) ha (by omega))
theorem xw_isMask1 {post : Int32 → Prop} {M : Nat} (hM : M < 32) (h : post 1) : wpX_isMask post (nI M) := by
  refine xw_isMask (fun hx => ?_) (fun _ _ _ => h)
  rcases hx with z | z
  · exact absurd z (nI_pos (by omega))
  · exact absurd z (nI_ge (b := 32) hM (by omega))
def gr_pw (x : Int32) : Nat → Int32
  | 0 => 1
  | n + 1 => gr_pw x n * x
theorem xw_power {post : Int64 → Prop} {x : Int64} {e : Int32} (h : ∀ r : Int64, r.toInt32 = gr_pw x.toInt32 e.toNatClampNeg → post r) : wpX_power post x e := by
  show ∃ n5 : Nat, wX_power_5 post x e n5 1 0
  by_cases he : e < 0
  · refine ⟨1, br_t ?_ (h 1 ?_)⟩
    · rw [Int32.lt_iff_toInt_lt] at he
      rw [Int32.le_iff_toInt_le]
      omega
    · have : e.toNatClampNeg = 0 := by
        rw [Int32.lt_iff_toInt_lt] at he
        have h0 : (0 : Int32).toInt = 0 := by decide
        have hc : e.toNatClampNeg = e.toInt.toNat := rfl
        omega
      rw [this]; rfl
  · obtain ⟨k, hk, rfl⟩ := nI_of he
    rw [nI_clamp hk] at h
    refine loop_0 (fun n j (r : Int64) => wX_power_5 post x (nI k) n r (nI j)) (fun j r => r.toInt32 = gr_pw x.toInt32 j) k 1 rfl ?_ ?_
    · intro n s e
      exact rl_le_t k k (Nat.le_refl k) (h s e)
    · intro n j s hj e kk
      refine rl_le_f k j hj (nm_e (nm_r (nI_1 j) (kk _ ?_)))
      rw [Int64.toInt32_mul, e]; rfl
theorem rl_subc {a b : Nat} (ha : a < 2 ^ 30) (hb : b < 2 ^ 30) : (nI a - nI b).toNatClampNeg = a - b := by
  have h := pk_sub_toInt ha hb
  have hc : (nI a - nI b).toNatClampNeg = (nI a - nI b).toInt.toNat := rfl
  omega
def gr_cg (q c : Nat) : Int32 := if c / 52 % 2 = 0 then gr_pw (nI q) (tb_pt (c % 52)) else - gr_pw (nI q) (tb_pt (c % 52))
def gr_pg (x y : Int32) (le c : Nat) : Int32 := gr_pw x (tb_pt (c % 52) - le) * gr_pw y (c / 52 + tb_pt (c % 52) - 5)
section
variable {xe : Int32} {xk : Int32} {xc : Nat → Int32} {xj : Nat → Int32} {xl : Nat → Int32} {xf : Nat → Int32} {xt : Nat → Int32} {xs : Nat → Int32} {xh : Nat → Int32} {xw : Nat → Int64} {xp : Nat → Int64} {xn : Nat → Int32} {xz : Nat → Int32} {xo : Nat → Int32} {xm : Nat → Int64} {xq : Nat → Int64}
theorem xw_weight_20 {post : Int64 → SX → Prop} {M : Nat} (hC : tb_C xc) (hM : M < 32) (h : post (s6_s (fun w => xw w * (if tb_cn w M = true then 1 else 0)) 52) (xe, xk, xc, xj, xl, xf, xt, xs, xh, xw, xp, xn, xz, xo, xm, xq)) : ∃ n20 : Nat, wX_weight_20 post (nI M) xe xk xc xj xl xf xt xs xh xw xp xn xz xo xm xq n20 0 0 := by
  refine loop_0 (fun n j (r : Int64) => wX_weight_20 post (nI M) xe xk xc xj xl xf xt xs xh xw xp xn xz xo xm xq n r (nI j)) (fun j r => r = s6_s (fun w => xw w * (if tb_cn w M = true then 1 else 0)) j) 52 0 rfl ?_ ?_
  · intro n s e; subst e
    exact rl_le_t 52 52 (by omega) h
  · intro n j s hj e k; subst e
    refine rl_le_f 52 j hj (xw_connects hC hj hM (rl_bc _ (fun z => nm_e (nm_r (nI_1 j) (k _ ?_))) (fun z => ⟨vp_in_nI hj (by omega), nm_e (nm_r (nI_1 j) (k _ ?_))⟩)))
    · show _ = s6_s _ j + _
      dsimp only
      rw [z]; simp
    · show _ = s6_s _ j + _
      dsimp only
      rw [z, rl_cl]; simp
theorem xw_states_30 {post : Int32 → SX → Prop} {M r : Nat} (hC : tb_C xc) (hM : M < 32) (hr : r ≤ 12) (h : post (s3_s (fun w => xn (r * 52 + w) * (if tb_cn w M = true then 1 else 0)) 52) (xe, xk, xc, xj, xl, xf, xt, xs, xh, xw, xp, xn, xz, xo, xm, xq)) : ∃ n30 : Nat, wX_states_30 post (nI M) (nI r) xe xk xc xj xl xf xt xs xh xw xp xn xz xo xm xq n30 0 0 := by
  refine loop_0 (fun n j (s : Int32) => wX_states_30 post (nI M) (nI r) xe xk xc xj xl xf xt xs xh xw xp xn xz xo xm xq n s (nI j)) (fun j s => s = s3_s (fun w => xn (r * 52 + w) * (if tb_cn w M = true then 1 else 0)) j) 52 0 rfl ?_ ?_
  · intro n s e; subst e
    exact rl_le_t 52 52 (by omega) h
  · intro n j s hj e k; subst e
    have e1 : nI r * 52 + nI j = nI (r * 52 + j) := by rw [rl_m52, nI_add]
    refine rl_le_f 52 j hj (xw_connects hC hj hM ?_)
    rw [e1]
    refine rl_bc _ (fun z => nm_e (nm_r (nI_1 j) (k _ ?_))) (fun z => ⟨vp_in_nI (by omega) (by omega), nm_e (nm_r (nI_1 j) (k _ ?_))⟩)
    · show _ = s3_s _ j + _
      dsimp only
      rw [z]; simp
    · show _ = s3_s _ j + _
      dsimp only
      rw [z, rl_cl]; simp
theorem xw_parts_9 {post : Int64 → SX → Prop} {x : Int32} (hC : tb_C xc) (h : post (s6_s (fun w => xw w * (if nI (tb_pt w) = x then 1 else 0)) 52) (xe, xk, xc, xj, xl, xf, xt, xs, xh, xw, xp, xn, xz, xo, xm, xq)) : ∃ n9 : Nat, wX_parts_9 post x xe xk xc xj xl xf xt xs xh xw xp xn xz xo xm xq n9 0 0 := by
  refine loop_0 (fun n j (r : Int64) => wX_parts_9 post x xe xk xc xj xl xf xt xs xh xw xp xn xz xo xm xq n r (nI j)) (fun j r => r = s6_s (fun w => xw w * (if nI (tb_pt w) = x then 1 else 0)) j) 52 0 rfl ?_ ?_
  · intro n s e; subst e
    exact rl_le_t 52 52 (by omega) h
  · intro n j s hj e k; subst e
    refine rl_le_f 52 j hj (xw_partsIn hC hj (br_c (fun z => ⟨vp_in_nI hj (by omega), nm_e (nm_r (nI_1 j) (k _ ?_))⟩) (fun z => nm_e (nm_r (nI_1 j) (k _ ?_)))))
    · show _ = s6_s _ j + _
      dsimp only
      rw [if_pos z, rl_cl]; simp
    · show _ = s6_s _ j + _
      dsimp only
      rw [if_neg z]; simp
theorem xw_pairs_8 {post : Int64 → SX → Prop} (hC : tb_C xc) (h : post (s6_s (fun w => xw w * lN (tb_pp w)) 52) (xe, xk, xc, xj, xl, xf, xt, xs, xh, xw, xp, xn, xz, xo, xm, xq)) : ∃ n8 : Nat, wX_pairs_8 post xe xk xc xj xl xf xt xs xh xw xp xn xz xo xm xq n8 0 0 := by
  refine loop_0 (fun n j (r : Int64) => wX_pairs_8 post xe xk xc xj xl xf xt xs xh xw xp xn xz xo xm xq n r (nI j)) (fun j r => r = s6_s (fun w => xw w * lN (tb_pp w)) j) 52 0 rfl ?_ ?_
  · intro n s e; subst e
    exact rl_le_t 52 52 (by omega) h
  · intro n j s hj e k; subst e
    refine rl_le_f 52 j hj ⟨vp_in_nI hj (by omega), xw_pairsIn hC hj (nm_e (nm_r (nI_1 j) (k _ ?_)))⟩
    show _ = s6_s _ j + _
    have := tb_pp_10 hj
    dsimp only
    rw [rl_cl, nI_l (by omega)]
theorem xw_pivotal_38 {post : Int64 → SX → Prop} {m M i : Nat} (hC : tb_C xc) (hJ : tb_J xj) (hG : gr_F m xf xt) (hi : i < m) (hM : M < 32)
    (h : post (s6_s (fun w => xw w * (if tb_cn w M = false ∧ tb_cn (tb_jo w (gr_n xf i) (gr_n xt i)) M = true then 1 else 0)) 52) (xe, xk, xc, xj, xl, xf, xt, xs, xh, xw, xp, xn, xz, xo, xm, xq)) : ∃ n38 : Nat, wX_pivotal_38 post (nI M) (nI i) xe xk xc xj xl xf xt xs xh xw xp xn xz xo xm xq n38 0 0 := by
  refine loop_0 (fun n j (r : Int64) => wX_pivotal_38 post (nI M) (nI i) xe xk xc xj xl xf xt xs xh xw xp xn xz xo xm xq n r (nI j)) (fun j r => r = s6_s (fun w => xw w * (if tb_cn w M = false ∧ tb_cn (tb_jo w (gr_n xf i) (gr_n xt i)) M = true then 1 else 0)) j) 52 0 rfl ?_ ?_
  · intro n s e; subst e
    exact rl_le_t 52 52 (by omega) h
  · intro n j s hj e k; subst e
    obtain ⟨f1, f2, f3⟩ := gr_ok hG i hi
    have hr := tb_jo_lt hj f1 f2 f3
    refine rl_le_f 52 j hj (xw_joinBy hJ hG hj hi (xw_connects hC hj hM (xw_connects hC hr hM ?_)))
    refine rl_bc _ (fun z => rl_bc _ (fun z2 => nm_e (nm_r (nI_1 j) (k _ ?_))) (fun z2 => ⟨vp_in_nI hj (by omega), nm_e (nm_r (nI_1 j) (k _ ?_))⟩)) (fun z => nm_e (nm_r (nI_1 j) (k _ ?_)))
    · show _ = s6_s _ j + _
      dsimp only
      rw [z, z2]; simp
    · show _ = s6_s _ j + _
      dsimp only
      rw [z, z2, rl_cl]; simp
    · show _ = s6_s _ j + _
      dsimp only
      rw [z]; simp
theorem xw_wholeWay {post : Int32 → Prop} {m : Nat} (hJ : tb_J xj) (hG : gr_F m xf xt) (he : xe = nI m) (h : post (nI (gr_wy xf xt (2 ^ m - 1) m))) : wpX_wholeWay post (xe, xk, xc, xj, xl, xf, xt, xs, xh, xw, xp, xn, xz, xo, xm, xq) := by
  subst he
  have hm := hG.1
  show ∃ n5 : Nat, wX_wholeWay_5 post (nI m) xk xc xj xl xf xt xs xh xw xp xn xz xo xm xq n5 51 0
  refine loop_0 (fun n j (r : Int32) => wX_wholeWay_5 post (nI m) xk xc xj xl xf xt xs xh xw xp xn xz xo xm xq n r (nI j)) (fun j r => r = nI (gr_wy xf xt (2 ^ m - 1) j)) m 51 rfl ?_ ?_
  · intro n s e; subst e
    exact rl_le_t m m (by omega) h
  · intro n j s hj e k; subst e
    have hw : gr_wy xf xt (2 ^ m - 1) j < 52 := gw_wy_lt (gr_ok hG) j (by omega)
    refine rl_le_f m j hj (xw_joinBy hJ hG hw hj (nm_r (nI_1 j) (k _ ?_)))
    have hb : (2 ^ m - 1).testBit j = true := by rw [Nat.testBit_two_pow_sub_one]; exact decide_eq_true hj
    show _ = nI (if (2 ^ m - 1).testBit j = true then _ else _)
    rw [if_pos hb]; rfl
theorem xw_colourings_20 {post : Int32 → SX → Prop} {q : Nat} (hC : tb_C xc) (hq : q ≤ 4) (h : post (s3_s (fun c => xz c * gr_cg q c) 676) (xe, xk, xc, xj, xl, xf, xt, xs, xh, xw, xp, xn, xz, xo, xm, xq)) : ∃ n20 : Nat, wX_colourings_20 post (nI q) xe xk xc xj xl xf xt xs xh xw xp xn xz xo xm xq n20 0 0 := by
  refine loop_0 (fun n j (r : Int64) => wX_colourings_20 post (nI q) xe xk xc xj xl xf xt xs xh xw xp xn xz xo xm xq n r (nI j)) (fun j r => r.toInt32 = s3_s (fun c => xz c * gr_cg q c) j) 676 0 rfl ?_ ?_
  · intro n s e
    refine rl_le_t 676 676 (by omega) ?_
    rw [e]; exact h
  · intro n j s hj e k
    have hw : j % 52 < 52 := Nat.mod_lt _ (by omega)
    have hp := tb_pt_5 hw
    have er : nI j - nI j / 52 * 52 = nI (j % 52) := pk_rem (d := 52) (by omega) (by omega) (by omega)
    have ed : nI j / 52 = nI (j / 52) := pk_div (d := 52) (by omega) (by omega) (by omega)
    have e2 : nI (j / 52) - nI (j / 52) / 2 * 2 = nI (j / 52 % 2) := pk_rem (d := 2) (by omega) (by omega) (by omega)
    refine rl_le_f 676 j hj ⟨by decide, ?_⟩
    rw [er]
    refine xw_partsIn hC hw ⟨vp_in_nI hj (by omega), xw_power (fun r hr => nm_e ⟨by decide, by decide, ?_⟩)⟩
    rw [Int32.toInt32_toInt64, rl_cl] at hr
    rw [ed, e2, rl_cl]
    have u : s3_s (fun c => xz c * gr_cg q c) (j + 1) = s3_s (fun c => xz c * gr_cg q c) j + xz j * gr_cg q j := rfl
    refine pk_eq (j / 52 % 2) 0 (fun z => nm_e (nm_r (nI_1 j) (k _ ?_))) (fun z => nm_e (nm_r (nI_1 j) (k _ ?_)))
    · have : gr_cg q j = gr_pw (nI q) (tb_pt (j % 52)) := if_pos z
      rw [u, this, Int64.toInt32_add, Int64.toInt32_mul, Int32.toInt32_toInt64, e, hr]
    · have : gr_cg q j = - gr_pw (nI q) (tb_pt (j % 52)) := if_neg z
      rw [u, this, Int64.toInt32_add, Int64.toInt32_neg, Int64.toInt32_mul, Int32.toInt32_toInt64, e, hr]
      grind
theorem xw_polynomial_47 {post : Int32 → SX → Prop} {x y : Int32} {le : Nat} (hC : tb_C xc) (hl : le ≤ 5) (h : post (s3_s (fun c => xz c * gr_pg x y le c) 676) (xe, xk, xc, xj, xl, xf, xt, xs, xh, xw, xp, xn, xz, xo, xm, xq)) : ∃ n47 : Nat, wX_polynomial_47 post x y (nI le) xe xk xc xj xl xf xt xs xh xw xp xn xz xo xm xq n47 0 0 := by
  refine loop_0 (fun n j (r : Int64) => wX_polynomial_47 post x y (nI le) xe xk xc xj xl xf xt xs xh xw xp xn xz xo xm xq n r (nI j)) (fun j r => r.toInt32 = s3_s (fun c => xz c * gr_pg x y le c) j) 676 0 rfl ?_ ?_
  · intro n s e
    refine rl_le_t 676 676 (by omega) ?_
    rw [e]; exact h
  · intro n j s hj e k
    have hw : j % 52 < 52 := Nat.mod_lt _ (by omega)
    have hp := tb_pt_5 hw
    have hv : vp_in (nI j) 676 := vp_in_nI hj (by omega)
    have er : nI j - nI j / 52 * 52 = nI (j % 52) := pk_rem (d := 52) (by omega) (by omega) (by omega)
    have ed : nI j / 52 = nI (j / 52) := pk_div (d := 52) (by omega) (by omega) (by omega)
    have u : s3_s (fun c => xz c * gr_pg x y le c) (j + 1) = s3_s (fun c => xz c * gr_pg x y le c) j + xz j * gr_pg x y le j := rfl
    refine rl_le_f 676 j hj ⟨hv, ?_⟩
    rw [er, ed, rl_cl]
    refine br_c (fun z => nm_r (nI_1 j) (k s ?_)) (fun z => ⟨by decide, xw_partsIn hC hw (xw_power (fun r1 h1 => ⟨by decide, xw_power (fun r2 h2 => ⟨hv, nm_e (nm_r (nI_1 j) (k _ ?_))⟩)⟩))⟩)
    · rw [e, u, z]; grind
    · have s1 : (nI (tb_pt (j % 52)) - nI le).toNatClampNeg = tb_pt (j % 52) - le := rl_subc (by omega) (by omega)
      have s2 : (nI (j / 52) + nI (tb_pt (j % 52)) - 5).toNatClampNeg = j / 52 + tb_pt (j % 52) - 5 := by
        rw [nI_add]; exact rl_subc (b := 5) (by omega) (by omega)
      rw [Int32.toInt32_toInt64, s1] at h1
      rw [Int32.toInt32_toInt64, s2] at h2
      rw [u, Int64.toInt32_add, Int64.toInt32_mul, Int64.toInt32_mul, Int32.toInt32_toInt64, e, h1, h2]
      unfold gr_pg
      grind
end
end
section
def gr_fw (f t : Nat → Int32) (S i : Nat) : Int32 := if gw_fo (gr_n f) (gr_n t) S i = true then 1 else 0
def gr_KF (f t : Nat → Int32) (A : Nat → Int32) (i : Nat) : Prop := ∀ g : Nat → Int32, s3_s (fun c => A c * g c) 260 = s3_s (fun S => gr_fw f t S i * g (gr_ps f t S i)) (2 ^ i)
def gr_fp (f t : Nat → Int32) (i c : Nat) : Int32 := if tb_jo (c % 52) (gr_n f i) (gr_n t i) = c % 52 then 0 else 1
theorem gr_KFs {f t : Nat → Int32} {m i : Nat} {A A' : Nat → Int32} (hG : gr_F m f t) (hi : i < m) (h0 : gr_KF f t A i)
    (h1 : ∀ g : Nat → Int32, s3_s (fun c => A' c * g c) 260 = s3_s (fun c => A c * s3_G (fun _ => 1) (gr_fp f t i) (gr_nx f t i) (gr_Q 4 0) g c) 260) : gr_KF f t A' (i + 1) := by
  refine s3_dp (pos := gr_ps f t) (wt := gr_fw f t) h0 (s3_G (fun _ => 1) (gr_fp f t i) (gr_nx f t i) (gr_Q 4 0)) h1 ?_
  intro g S hS
  have hw : gr_wy f t S i < 52 := gw_wy_lt (gr_ok hG) i (by omega)
  have ho := gw_on_le (S := S) i
  have q3 : gr_ps f t S (i + 1) = gr_ps f t S i := by
    unfold gr_ps gr_wy; rw [gw_wy_lo hS, gw_on_lo hS]
  have q4 : gr_ps f t (2 ^ i + S) (i + 1) = gr_nx f t i (gr_ps f t S i) := by
    unfold gr_ps; rw [gr_nxc hw]; unfold gr_wy; rw [gw_wy_hi hS, gw_on_hi hS]
  have pm : gr_ps f t S i % 52 = gr_wy f t S i := by unfold gr_ps; omega
  rw [q3, q4]
  unfold gr_fw
  rw [gw_fo_lo hS, gw_fo_hi hS]
  cases hf : gw_fo (gr_n f) (gr_n t) S i
  · simp
  · have hpt := (gw_pt (gr_ok hG) i (by omega)).2.mp hf
    have h5 : gw_on S i + tb_pt (gr_wy f t S i) = 5 := hpt
    obtain ⟨f1, f2, f3⟩ := gr_ok hG i hi
    have hj := tb_jo_pt hw f1 f2 f3
    have hp1 := tb_pt_1 (tb_jo_lt hw f1 f2 f3)
    unfold s3_G gr_fp
    rw [pm]
    show _ = _ + (if (true && decide (tb_jo (gr_wy f t S i) (gr_n f i) (gr_n t i) ≠ gr_wy f t S i)) = true then 1 else 0) * _
    by_cases h4 : gw_on S i < 4
    · have hp : gr_Q 4 0 (gr_ps f t S i) = true := decide_eq_true (by unfold gr_ps; omega)
      rw [if_pos hp]
      by_cases hjw : tb_jo (gr_wy f t S i) (gr_n f i) (gr_n t i) = gr_wy f t S i
      · simp [hjw]
      · simp [hjw]
    · have hp : gr_Q 4 0 (gr_ps f t S i) = false := decide_eq_false (by unfold gr_ps; omega)
      have hjw : tb_jo (gr_wy f t S i) (gr_n f i) (gr_n t i) = gr_wy f t S i := by
        rcases hj with z | z
        · exact z
        · omega
      rw [hp]
      simp [hjw]
section
variable {xe : Int32} {xk : Int32} {xc : Nat → Int32} {xj : Nat → Int32} {xl : Nat → Int32} {xf : Nat → Int32} {xt : Nat → Int32} {xs : Nat → Int32} {xh : Nat → Int32} {xw : Nat → Int64} {xp : Nat → Int64} {xn : Nat → Int32} {xz : Nat → Int32} {xo : Nat → Int32} {xm : Nat → Int64} {xq : Nat → Int64}
theorem xw_growForests {post : SX → Prop} {m i k : Nat} {A0 : Nat → Int32} (hJ : tb_J xj) (hG : gr_F m xf xt) (hi : i < m) (hk : k < 4)
    (hc0 : ∀ g : Nat → Int32, s3_s (fun c => xo c * g c) 260 = s3_s (fun c => A0 c * s3_G (fun _ => 1) (gr_fp xf xt i) (gr_nx xf xt i) (gr_P 4 k 0) g c) 260)
    (h : ∀ o' : Nat → Int32, (∀ g : Nat → Int32, s3_s (fun c => o' c * g c) 260 = s3_s (fun c => A0 c * s3_G (fun _ => 1) (gr_fp xf xt i) (gr_nx xf xt i) (gr_P 4 k 52) g c) 260) → post (xe, xk, xc, xj, xl, xf, xt, xs, xh, xw, xp, xn, xz, o', xm, xq)) :
    wpX_growForests post (xe, xk, xc, xj, xl, xf, xt, xs, xh, xw, xp, xn, xz, xo, xm, xq) (nI i) (nI k) := by
  have hm := hG.1
  show ∃ n2 : Nat, wX_growForests_2 post (nI i) (nI k) xe xk n2 0 xc xj xl xf xt xs xh xw xp xn xz xo xm xq
  refine loop_0 (fun n w (o : Nat → Int32) => wX_growForests_2 post (nI i) (nI k) xe xk n (nI w) xc xj xl xf xt xs xh xw xp xn xz o xm xq)
    (fun w o => ∀ g : Nat → Int32, s3_s (fun c => o c * g c) 260 = s3_s (fun c => A0 c * s3_G (fun _ => 1) (gr_fp xf xt i) (gr_nx xf xt i) (gr_P 4 k w) g c) 260) 52 xo hc0 ?_ ?_
  · intro n s e
    exact rl_le_t 52 52 (by omega) (h s e)
  · intro n w o hw e kk
    obtain ⟨f1, f2, f3⟩ := gr_ok hG i hi
    have hr := tb_jo_lt hw f1 f2 f3
    have ea : nI k * 52 + nI w = nI (k * 52 + w) := by rw [rl_m52, nI_add]
    have eo : (nI k + 1) * 52 + nI (tb_jo w (gr_n xf i) (gr_n xt i)) = nI ((k + 1) * 52 + tb_jo w (gr_n xf i) (gr_n xt i)) := by rw [nI_1, rl_m52, nI_add]
    have va : vp_in (nI (k * 52 + w)) 260 := vp_in_nI (by omega) (by omega)
    have vo : vp_in (nI ((k + 1) * 52 + tb_jo w (gr_n xf i) (gr_n xt i))) 260 := vp_in_nI (by omega) (by omega)
    have ca : (nI (k * 52 + w)).toNatClampNeg = k * 52 + w := nI_clamp (by omega)
    have cO : (nI ((k + 1) * 52 + tb_jo w (gr_n xf i) (gr_n xt i))).toNatClampNeg = (k + 1) * 52 + tb_jo w (gr_n xf i) (gr_n xt i) := nI_clamp (by omega)
    have lo : (k + 1) * 52 + tb_jo w (gr_n xf i) (gr_n xt i) < 260 := by omega
    have la : k * 52 + w < 260 := by omega
    have cm : (k * 52 + w) % 52 = w := by omega
    refine rl_le_f 52 w hw (xw_joinBy hJ hG hw hi ?_)
    rw [eo, ea, ca, cO]
    refine pk_eq (tb_jo w (gr_n xf i) (gr_n xt i)) w (fun z => nm_r (nI_1 w) (kk o ?_)) (fun z => ⟨vo, va, vo, nm_e (nm_r (nI_1 w) (kk _ ?_))⟩)
    · refine s3_cell (c := k * 52 + w) la e ?_ (gr_Pc hw) (gr_Ps 4 k w) (fun x hx => gr_Pn hw hx)
      intro g
      have : gr_fp xf xt i (k * 52 + w) = 0 := by unfold gr_fp; rw [cm]; exact if_pos z
      rw [this]; grind
    · refine s3_cell (c := k * 52 + w) la e ?_ (gr_Pc hw) (gr_Ps 4 k w) (fun x hx => gr_Pn hw hx)
      intro g
      have : gr_fp xf xt i (k * 52 + w) = 1 := by unfold gr_fp; rw [cm]; exact if_neg z
      rw [this, s3_put (a := o) (k := (k + 1) * 52 + tb_jo w (gr_n xf i) (gr_n xt i)) (d := o (k * 52 + w)) pk_us (fun u hu => pk_un hu), if_pos lo, gr_nxc hw]
      grind
theorem xw_forests_45 {post : Int32 → SX → Prop} {m r : Nat} (hJ : tb_J xj) (hG : gr_F m xf xt) (he : xe = nI m) (hr : r < 5) (h1 : gr_KF xf xt xo 0)
    (h : ∀ o' : Nat → Int32, gr_KF xf xt o' m → post (s3_s (fun w => o' (r * 52 + w)) 52) (xe, xk, xc, xj, xl, xf, xt, xs, xh, xw, xp, xn, xz, o', xm, xq)) : ∃ n45 : Nat, wX_forests_45 post (nI r) n45 0 xe xk xc xj xl xf xt xs xh xw xp xn xz xo xm xq := by
  subst he
  have hm := hG.1
  refine loop_0 (fun n i (o : Nat → Int32) => wX_forests_45 post (nI r) n (nI i) (nI m) xk xc xj xl xf xt xs xh xw xp xn xz o xm xq) (fun i o => gr_KF xf xt o i) m xo h1 ?_ ?_
  · intro n o e
    refine rl_le_t m m (by omega) ?_
    refine loop_0 (fun n j (s : Int32) => wX_forests_81 post (nI r) (nI m) xk xc xj xl xf xt xs xh xw xp xn xz o xm xq n s (nI j)) (fun j s => s = s3_s (fun w => o (r * 52 + w)) j) 52 0 rfl ?_ ?_
    · intro n s e2; subst e2
      exact rl_le_t 52 52 (by omega) (h o e)
    · intro n j s hj e2 k; subst e2
      have e1 : nI r * 52 + nI j = nI (r * 52 + j) := by rw [rl_m52, nI_add]
      refine rl_le_f 52 j hj ?_
      rw [e1, rl_cl]
      exact ⟨vp_in_nI (by omega) (by omega), nm_e (nm_r (nI_1 j) (k _ rfl))⟩
  · intro n i o hi e k
    refine rl_le_f m i hi ?_
    have key := pk_loopD (fun n' j (o' : Nat → Int32) => wX_forests_55 post (wX_forests_45 post (nI r) n) (nI r) (nI i) n' (nI j + (-1)) (nI m) xk xc xj xl xf xt xs xh xw xp xn xz o' xm xq)
      (fun j o' => j ≤ 4 ∧ ∀ g : Nat → Int32, s3_s (fun c => o' c * g c) 260 = s3_s (fun c => o c * s3_G (fun _ => 1) (gr_fp xf xt i) (gr_nx xf xt i) (gr_Q 4 j) g c) 260) ?_ ?_ 4 o ?_
    · rw [pk_m1] at key
      exact ⟨_, key⟩
    · intro n' o' hI
      exact br_t (by decide) (nm_r (nI_1 i) (k o' (gr_KFs hG hi e hI.2)))
    · intro n' j o' hI k2
      obtain ⟨hj, hI1⟩ := hI
      rw [pk_m1]
      refine br_f (nI_pos (by omega)) (xw_growForests (A0 := o) hJ hG hi (by omega) ?_ ?_)
      · rw [gr_PQ0]; exact hI1
      · intro o2 a
        rw [gr_PQ1 (by omega)] at a
        exact nm_e (k2 o2 ⟨by omega, a⟩)
    · refine ⟨Nat.le_refl _, fun g => ?_⟩
      refine s3_congr (fun c _ => ?_)
      have : gr_Q 4 4 c = false := decide_eq_false (by omega)
      unfold s3_G; rw [this]; rfl
theorem xw_forests_13 {post : Int32 → SX → Prop} {m r : Nat} (hJ : tb_J xj) (hG : gr_F m xf xt) (he : xe = nI m) (hr : r < 5)
    (h : ∀ o' : Nat → Int32, gr_KF xf xt o' m → post (s3_s (fun w => o' (r * 52 + w)) 52) (xe, xk, xc, xj, xl, xf, xt, xs, xh, xw, xp, xn, xz, o', xm, xq)) : ∃ n13 : Nat, wX_forests_13 post (nI r) xe xk n13 0 xc xj xl xf xt xs xh xw xp xn xz xo xm xq := by
  refine loop_0 (fun n j (o : Nat → Int32) => wX_forests_13 post (nI r) xe xk n (nI j) xc xj xl xf xt xs xh xw xp xn xz o xm xq) (fun j o => ∀ u, u < j → o u = (if u = 51 then 1 else 0)) 260 xo (fun u hu => absurd hu (Nat.not_lt_zero u)) ?_ ?_
  · intro n o e
    refine rl_le_t 260 260 (by omega) (xw_forests_45 hJ hG he hr ?_ h)
    intro g
    show _ = 0 + 1 * g 51
    rw [s3_congr (g := fun w => if w = 51 then g 51 else 0) (fun j hj => ?_), s3_one, if_pos (by omega)]
    · grind
    · show o j * g j = _
      rw [e j hj]
      by_cases h51 : j = 51
      · subst h51; rw [if_pos rfl, if_pos rfl]; grind
      · rw [if_neg h51, if_neg h51]; grind
  · intro n j o hj e k
    have hv : vp_in (nI j) 260 := vp_in_nI hj (by omega)
    refine rl_le_f 260 j hj (pk_eq j 51 (fun z => ⟨hv, nm_e (nm_r (nI_1 j) (k _ ?_))⟩) (fun z => ⟨hv, nm_e (nm_r (nI_1 j) (k _ ?_))⟩))
    · intro u hu
      rw [rl_cl]
      by_cases h2 : u = j
      · rw [h2, pk_us, if_pos z]
      · rw [pk_un h2]; exact e u (by omega)
    · intro u hu
      rw [rl_cl]
      by_cases h2 : u = j
      · rw [h2, pk_us, if_neg z]
      · rw [pk_un h2]; exact e u (by omega)
end
end
section
/-! the greatest weights by ways: numbers -/
def gl_n (a : Nat → Int64) (c : Nat) : Nat := (a c).toNatClampNeg
def gl_ok (a : Nat → Int64) : Prop := ∀ c, c < 676 → a c = lN (gl_n a c) ∧ gl_n a c ≤ 281474976710656
theorem gl_ofN {a : Nat → Int64} {c v : Nat} (h : a c = lN v) (hv : v < 2 ^ 63) : gl_n a c = v := by
  unfold gl_n
  rw [h]
  have := pk_lT hv
  show (lN v).toInt.toNat = v
  omega
/-- a set's weight as a number -/
def gr_wN (m : Nat) (s h : Nat → Int32) (S : Nat) : Nat → Nat
  | 0 => 2 ^ (4 * (12 - m))
  | i + 1 => gr_wN m s h S i * (if S.testBit i = true then gr_up s h i else gr_dn s h i)
theorem gr_wN_c {m : Nat} {s h : Nat → Int32} {S S' : Nat} : ∀ {i : Nat}, (∀ j, j < i → S.testBit j = S'.testBit j) → gr_wN m s h S i = gr_wN m s h S' i
  | 0, _ => rfl
  | i + 1, hh => by
    show gr_wN m s h S i * (if S.testBit i = true then gr_up s h i else gr_dn s h i) = gr_wN m s h S' i * (if S'.testBit i = true then gr_up s h i else gr_dn s h i)
    rw [gr_wN_c (fun j hj => hh j (by omega)), hh i (by omega)]
theorem gr_wN_lo {m S i : Nat} {s h : Nat → Int32} (hS : S < 2 ^ i) : gr_wN m s h S (i + 1) = gr_wN m s h S i * gr_dn s h i := by
  show gr_wN m s h S i * (if S.testBit i = true then gr_up s h i else gr_dn s h i) = _
  rw [gw_lo hS]; rfl
theorem gr_wN_hi {m S i : Nat} {s h : Nat → Int32} (hS : S < 2 ^ i) : gr_wN m s h (2 ^ i + S) (i + 1) = gr_wN m s h S i * gr_up s h i := by
  show gr_wN m s h (2 ^ i + S) i * (if (2 ^ i + S).testBit i = true then gr_up s h i else gr_dn s h i) = _
  rw [gw_hi hS, gr_wN_c (S' := S) (fun j hj => gw_hj hj)]; rfl
theorem gr_wN_le {m S : Nat} {s h : Nat → Int32} (hm : m ≤ 12) (H : gr_H m s h) : ∀ i, i ≤ m → gr_wN m s h S i ≤ 2 ^ (4 * (12 - m + i))
  | 0, _ => Nat.le_refl _
  | i + 1, hi => by
    have ih := gr_wN_le (S := S) hm H i (by omega)
    have b1 := gr_up_le H (show i < m by omega)
    have b2 := gr_dn_le i s h
    show gr_wN m s h S i * (if S.testBit i = true then gr_up s h i else gr_dn s h i) ≤ _
    rw [show 4 * (12 - m + (i + 1)) = 4 * (12 - m + i) + 4 by omega, Nat.pow_add]
    refine Nat.mul_le_mul ih ?_
    split <;> omega
theorem gr_p48 {m i : Nat} (hm : m ≤ 12) (hi : i ≤ m) : 2 ^ (4 * (12 - m + i)) ≤ 281474976710656 := Nat.pow_le_pow_right (n := 2) (j := 48) (by omega) (by omega)
/-- row j holds the greatest weights of the sets of the first j edges -/
def gl_K (m : Nat) (f t s h : Nat → Int32) (a : Nat → Int64) (j : Nat) : Prop :=
  (∀ S, S < 2 ^ j → gr_wN m s h S j ≤ gl_n a (j * 52 + gr_wy f t S j)) ∧
  (∀ w, w < 52 → gl_n a (j * 52 + w) = 0 ∨ ∃ S, S < 2 ^ j ∧ gr_wy f t S j = w ∧ gr_wN m s h S j = gl_n a (j * 52 + w))
theorem gl_Kc {m j : Nat} {f t s h : Nat → Int32} {a b : Nat → Int64} (hG : gr_F m f t) (hj : j ≤ m) (e : ∀ w, w < 52 → b (j * 52 + w) = a (j * 52 + w)) (K : gl_K m f t s h a j) : gl_K m f t s h b j := by
  have q : ∀ w, w < 52 → gl_n b (j * 52 + w) = gl_n a (j * 52 + w) := fun w hw => by unfold gl_n; rw [e w hw]
  refine ⟨fun S hS => ?_, fun w hw => ?_⟩
  · have hw : gr_wy f t S j < 52 := gw_wy_lt (gr_ok hG) j hj
    rw [q _ hw]; exact K.1 S hS
  · rw [q w hw]; exact K.2 w hw
theorem gl_le {m j w : Nat} {f t s h : Nat → Int32} {a : Nat → Int64} (hm : m ≤ 12) (H : gr_H m s h) (hj : j ≤ m) (hw : w < 52) (K : gl_K m f t s h a j) : gl_n a (j * 52 + w) ≤ 2 ^ (4 * (12 - m + j)) := by
  rcases K.2 w hw with z | ⟨S, _, _, e⟩
  · rw [z]; exact Nat.zero_le _
  · rw [← e]; exact gr_wN_le hm H j hj
/-- from row i to row i + 1 -/
theorem gl_Ks {m i : Nat} {f t s h : Nat → Int32} {a : Nat → Int64} (hG : gr_F m f t) (hi : i < m) (K : gl_K m f t s h a i)
    (h1 : ∀ w, w < 52 → gl_n a (i * 52 + w) * gr_dn s h i ≤ gl_n a ((i + 1) * 52 + w) ∧ gl_n a (i * 52 + w) * gr_up s h i ≤ gl_n a ((i + 1) * 52 + tb_jo w (gr_n f i) (gr_n t i)))
    (h2 : ∀ v, v < 52 → gl_n a ((i + 1) * 52 + v) = 0 ∨ ∃ w, w < 52 ∧ ((v = w ∧ gl_n a ((i + 1) * 52 + v) = gl_n a (i * 52 + w) * gr_dn s h i) ∨ (v = tb_jo w (gr_n f i) (gr_n t i) ∧ gl_n a ((i + 1) * 52 + v) = gl_n a (i * 52 + w) * gr_up s h i))) :
    gl_K m f t s h a (i + 1) := by
  have hlt : ∀ S, gr_wy f t S i < 52 := fun S => gw_wy_lt (gr_ok hG) i (by omega)
  have wl : ∀ S, S < 2 ^ i → gr_wy f t S (i + 1) = gr_wy f t S i := fun S hS => gw_wy_lo hS
  have wh : ∀ S, S < 2 ^ i → gr_wy f t (2 ^ i + S) (i + 1) = tb_jo (gr_wy f t S i) (gr_n f i) (gr_n t i) := fun S hS => gw_wy_hi hS
  have hp : 2 ^ (i + 1) = 2 ^ i + 2 ^ i := by rw [Nat.pow_succ, Nat.mul_two]
  refine ⟨fun S hS => ?_, fun v hv => ?_⟩
  · rcases Nat.lt_or_ge S (2 ^ i) with z | z
    · rw [wl S z, gr_wN_lo z]
      exact Nat.le_trans (Nat.mul_le_mul_right _ (K.1 S z)) (h1 _ (hlt S)).1
    · obtain ⟨T, rfl⟩ : ∃ T, S = 2 ^ i + T := ⟨S - 2 ^ i, by omega⟩
      have hT : T < 2 ^ i := by omega
      rw [wh T hT, gr_wN_hi hT]
      exact Nat.le_trans (Nat.mul_le_mul_right _ (K.1 T hT)) (h1 _ (hlt T)).2
  · rcases h2 v hv with z | ⟨w, hw, ⟨z1, z2⟩ | ⟨z1, z2⟩⟩
    · exact Or.inl z
    · subst z1
      rcases K.2 v hv with y | ⟨S, hS, y1, y2⟩
      · rw [y, Nat.zero_mul] at z2; exact Or.inl z2
      · refine Or.inr ⟨S, by omega, by rw [wl S hS]; exact y1, ?_⟩
        rw [gr_wN_lo hS, y2, z2]
    · rcases K.2 w hw with y | ⟨S, hS, y1, y2⟩
      · rw [y, Nat.zero_mul] at z2; exact Or.inl z2
      · refine Or.inr ⟨2 ^ i + S, by omega, by rw [wh S hS, y1]; exact z1.symm, ?_⟩
        rw [gr_wN_hi hS, y2, z2]
section
variable {xe : Int32} {xk : Int32} {xc : Nat → Int32} {xj : Nat → Int32} {xl : Nat → Int32} {xf : Nat → Int32} {xt : Nat → Int32} {xs : Nat → Int32} {xh : Nat → Int32} {xw : Nat → Int64} {xp : Nat → Int64} {xn : Nat → Int32} {xz : Nat → Int32} {xo : Nat → Int32} {xm : Nat → Int64} {xq : Nat → Int64}
theorem xw_raise {post : SX → Prop} {c v : Nat} (hc : c < 676) (hv : v ≤ 281474976710656) (ok : gl_ok xm)
    (h : ∀ a' : Nat → Int64, gl_ok a' → (∀ x, x ≠ c → a' x = xm x) → gl_n xm c ≤ gl_n a' c → v ≤ gl_n a' c → (gl_n a' c = gl_n xm c ∨ gl_n a' c = v) → post (xe, xk, xc, xj, xl, xf, xt, xs, xh, xw, xp, xn, xz, xo, a', xq)) : wpX_raise post (xe, xk, xc, xj, xl, xf, xt, xs, xh, xw, xp, xn, xz, xo, xm, xq) (nI c) (lN v) := by
  obtain ⟨e, b⟩ := ok c hc
  have hi : vp_in (nI c) 676 := vp_in_nI hc (by omega)
  unfold wpX_raise
  refine ⟨hi, ?_⟩
  rw [rl_cl, e]
  refine br_c (fun z => ?_) (fun z => ⟨hi, nm_e ?_⟩)
  · have z := (pk_lLE (by omega) (by omega)).mp z
    exact h xm ok (fun _ _ => rfl) (Nat.le_refl _) z (Or.inl rfl)
  · have z : ¬ v ≤ gl_n xm c := fun q => z ((pk_lLE (by omega) (by omega)).mpr q)
    have e2 : gl_n (vp_updL xm c (lN v)) c = v := gl_ofN pk_uLs (by omega)
    refine h _ ?_ (fun x hx => pk_uLn hx) (by omega) (by omega) (Or.inr e2)
    intro x hx
    by_cases q : x = c
    · subst q; rw [e2]; exact ⟨pk_uLs, hv⟩
    · have : gl_n (vp_updL xm c (lN v)) x = gl_n xm x := by unfold gl_n; rw [pk_uLn q]
      rw [this, pk_uLn q]; exact ok x hx
theorem xw_mostOver {post : SX → Prop} {m i : Nat} (hJ : tb_J xj) (hG : gr_F m xf xt) (H : gr_H m xs xh) (hi : i < m) (ok : gl_ok xm) (K : gl_K m xf xt xs xh xm i) (hz : ∀ c, (i + 1) * 52 ≤ c → c < 676 → gl_n xm c = 0)
    (h : ∀ a' : Nat → Int64, gl_ok a' → (∀ c, c < (i + 1) * 52 → a' c = xm c) → gl_K m xf xt xs xh a' (i + 1) → (∀ c, (i + 2) * 52 ≤ c → c < 676 → gl_n a' c = 0) → post (xe, xk, xc, xj, xl, xf, xt, xs, xh, xw, xp, xn, xz, xo, a', xq)) : wpX_mostOver post (xe, xk, xc, xj, xl, xf, xt, xs, xh, xw, xp, xn, xz, xo, xm, xq) (nI i) := by
  have hm := hG.1
  have b1 := gr_up_le H hi
  have b2 := gr_dn_le i xs xh
  obtain ⟨f1, f2, f3⟩ := gr_ok hG i hi
  have er : (nI i + 1) * 52 = nI ((i + 1) * 52) := by rw [nI_1, rl_m52]
  have hpw : 2 ^ (4 * (12 - m + i)) * 16 ≤ 281474976710656 := by
    have := gr_p48 hm (show i + 1 ≤ m by omega)
    rw [show 4 * (12 - m + (i + 1)) = 4 * (12 - m + i) + 4 by omega, Nat.pow_add] at this
    exact this
  unfold wpX_mostOver
  refine xw_factor1 hm H hi (xw_factor0 hm H hi (nm_r er ?_))
  refine loop_0 (fun n w (a : Nat → Int64) => wX_mostOver_25 post (nI i) (nI (gr_up xs xh i)) (nI (gr_dn xs xh i)) (nI ((i + 1) * 52)) n (nI w) xe xk xc xj xl xf xt xs xh xw xp xn xz xo a xq)
    (fun w a => gl_ok a ∧ (∀ c, c < (i + 1) * 52 → a c = xm c) ∧ (∀ c, (i + 2) * 52 ≤ c → c < 676 → gl_n a c = 0) ∧
      (∀ w', w' < w → gl_n xm (i * 52 + w') * gr_dn xs xh i ≤ gl_n a ((i + 1) * 52 + w') ∧ gl_n xm (i * 52 + w') * gr_up xs xh i ≤ gl_n a ((i + 1) * 52 + tb_jo w' (gr_n xf i) (gr_n xt i))) ∧
      (∀ v, v < 52 → gl_n a ((i + 1) * 52 + v) = 0 ∨ ∃ w', w' < w ∧ ((v = w' ∧ gl_n a ((i + 1) * 52 + v) = gl_n xm (i * 52 + w') * gr_dn xs xh i) ∨ (v = tb_jo w' (gr_n xf i) (gr_n xt i) ∧ gl_n a ((i + 1) * 52 + v) = gl_n xm (i * 52 + w') * gr_up xs xh i)))) 52 xm
    ⟨ok, fun _ _ => rfl, fun c h1 h2 => hz c (by omega) h2, fun w' hw' => absurd hw' (Nat.not_lt_zero w'), fun v hv => Or.inl (hz _ (by omega) (by omega))⟩ ?_ ?_
  · intro n a ⟨e1, e2, e3, e4, e5⟩
    have q : ∀ w, w < 52 → gl_n a (i * 52 + w) = gl_n xm (i * 52 + w) := fun w hw => by unfold gl_n; rw [e2 _ (by omega)]
    refine rl_le_t 52 52 (by omega) (h a e1 e2 (gl_Ks hG hi (gl_Kc hG (by omega) (fun w hw => e2 _ (by omega)) K) ?_ ?_) e3)
    · intro w hw; rw [q w hw]; exact e4 w hw
    · intro v hv
      rcases e5 v hv with z | ⟨w, hw, z⟩
      · exact Or.inl z
      · refine Or.inr ⟨w, hw, ?_⟩
        rw [q w hw]; exact z
  · intro n w a hw ⟨e1, e2, e3, e4, e5⟩ k
    have hr := tb_jo_lt hw f1 f2 f3
    have ea : nI i * 52 + nI w = nI (i * 52 + w) := by rw [rl_m52, nI_add]
    have hM : a (nI (i * 52 + w)).toNatClampNeg = lN (gl_n xm (i * 52 + w)) := by
      rw [rl_cl, e2 _ (by omega)]; exact (ok _ (by omega)).1
    have bM : gl_n xm (i * 52 + w) ≤ 2 ^ (4 * (12 - m + i)) := gl_le hm H (by omega) hw K
    have v1 : gl_n xm (i * 52 + w) * gr_dn xs xh i ≤ 281474976710656 := Nat.le_trans (Nat.mul_le_mul bM b2) hpw
    have v2 : gl_n xm (i * 52 + w) * gr_up xs xh i ≤ 281474976710656 := Nat.le_trans (Nat.mul_le_mul bM b1) hpw
    have m1 : lN (gl_n xm (i * 52 + w)) * (nI (gr_dn xs xh i)).toInt64 = lN (gl_n xm (i * 52 + w) * gr_dn xs xh i) := by rw [nI_l (by omega), lN_mul]
    have m2 : lN (gl_n xm (i * 52 + w)) * (nI (gr_up xs xh i)).toInt64 = lN (gl_n xm (i * 52 + w) * gr_up xs xh i) := by rw [nI_l (by omega), lN_mul]
    refine rl_le_f 52 w hw ?_
    rw [ea, hM]
    refine ⟨vp_in_nI (by omega) (by omega), nm_e (xw_joinBy hJ hG hw hi ?_)⟩
    rw [m1, m2, nI_add, nI_add]
    refine xw_raise (by omega) v1 e1 ?_
    intro a1 o1 s1 l1 l1' c1
    refine xw_raise (by omega) v2 o1 ?_
    intro a2 o2 s2 l2 l2' c2
    have g1 : ∀ x, x ≠ (i + 1) * 52 + w → gl_n a1 x = gl_n a x := fun x hx => by unfold gl_n; rw [s1 x hx]
    have g2 : ∀ x, x ≠ (i + 1) * 52 + tb_jo w (gr_n xf i) (gr_n xt i) → gl_n a2 x = gl_n a1 x := fun x hx => by unfold gl_n; rw [s2 x hx]
    have mono1 : ∀ x, gl_n a x ≤ gl_n a1 x := fun x => by
      by_cases q : x = (i + 1) * 52 + w
      · rw [q]; exact l1
      · rw [g1 x q]; exact Nat.le_refl _
    have mono2 : ∀ x, gl_n a1 x ≤ gl_n a2 x := fun x => by
      by_cases q : x = (i + 1) * 52 + tb_jo w (gr_n xf i) (gr_n xt i)
      · rw [q]; exact l2
      · rw [g2 x q]; exact Nat.le_refl _
    refine nm_r (nI_1 w) (k a2 ⟨o2, ?_, ?_, ?_, ?_⟩)
    · intro c hc
      rw [s2 c (by omega), s1 c (by omega)]; exact e2 c hc
    · intro c h1 h2
      rw [g2 c (by omega), g1 c (by omega)]; exact e3 c h1 h2
    · intro w' hw'
      by_cases q : w' = w
      · subst q
        exact ⟨Nat.le_trans l1' (mono2 _), l2'⟩
      · have := e4 w' (by omega)
        exact ⟨Nat.le_trans this.1 (Nat.le_trans (mono1 _) (mono2 _)), Nat.le_trans this.2 (Nat.le_trans (mono1 _) (mono2 _))⟩
    · intro v hv
      have keep : gl_n a2 ((i + 1) * 52 + v) = gl_n a ((i + 1) * 52 + v) → gl_n a2 ((i + 1) * 52 + v) = 0 ∨ ∃ w', w' < w + 1 ∧ ((v = w' ∧ gl_n a2 ((i + 1) * 52 + v) = gl_n xm (i * 52 + w') * gr_dn xs xh i) ∨ (v = tb_jo w' (gr_n xf i) (gr_n xt i) ∧ gl_n a2 ((i + 1) * 52 + v) = gl_n xm (i * 52 + w') * gr_up xs xh i)) := by
        intro q
        rw [q]
        rcases e5 v hv with z | ⟨w', hw', z⟩
        · exact Or.inl z
        · exact Or.inr ⟨w', by omega, z⟩
      have first : gl_n a2 ((i + 1) * 52 + v) = gl_n a1 ((i + 1) * 52 + v) → gl_n a2 ((i + 1) * 52 + v) = 0 ∨ ∃ w', w' < w + 1 ∧ ((v = w' ∧ gl_n a2 ((i + 1) * 52 + v) = gl_n xm (i * 52 + w') * gr_dn xs xh i) ∨ (v = tb_jo w' (gr_n xf i) (gr_n xt i) ∧ gl_n a2 ((i + 1) * 52 + v) = gl_n xm (i * 52 + w') * gr_up xs xh i)) := by
        intro q
        by_cases q2 : v = w
        · subst q2
          rcases c1 with y | y
          · exact keep (q.trans y)
          · exact Or.inr ⟨v, by omega, Or.inl ⟨rfl, q.trans y⟩⟩
        · exact keep (q.trans (g1 _ (by omega)))
      by_cases q3 : v = tb_jo w (gr_n xf i) (gr_n xt i)
      · subst q3
        rcases c2 with y | y
        · exact first y
        · exact Or.inr ⟨w, by omega, Or.inr ⟨rfl, y⟩⟩
      · exact first (g2 _ (by omega))
theorem xw_findMost {post : SX → Prop} {m : Nat} (hJ : tb_J xj) (hG : gr_F m xf xt) (H : gr_H m xs xh) (he : xe = nI m)
    (h : ∀ a' : Nat → Int64, gl_ok a' → (∀ j, j ≤ m → gl_K m xf xt xs xh a' j) → post (xe, xk, xc, xj, xl, xf, xt, xs, xh, xw, xp, xn, xz, xo, a', xq)) : wpX_findMost post (xe, xk, xc, xj, xl, xf, xt, xs, xh, xw, xp, xn, xz, xo, xm, xq) := by
  subst he
  have hm := hG.1
  show ∃ n2 : Nat, wX_findMost_2 post (nI m) xk n2 0 xc xj xl xf xt xs xh xw xp xn xz xo xm xq
  refine loop_0 (fun n j (a : Nat → Int64) => wX_findMost_2 post (nI m) xk n (nI j) xc xj xl xf xt xs xh xw xp xn xz xo a xq) (fun j a => ∀ u, u < j → a u = 0) 676 xm (fun u hu => absurd hu (Nat.not_lt_zero u)) ?_ ?_
  · intro n a e
    refine rl_le_t 676 676 (by omega) (xw_missing hm rfl (nm_e ?_))
    have p48 := gr_p48 (i := 0) hm (Nat.zero_le m)
    have v51 : gl_n (vp_updL a 51 (lN (2 ^ (4 * (12 - m))))) 51 = 2 ^ (4 * (12 - m)) := gl_ofN pk_uLs (Nat.lt_of_le_of_lt p48 (by omega))
    have v0 : ∀ c, c ≠ 51 → c < 676 → gl_n (vp_updL a 51 (lN (2 ^ (4 * (12 - m))))) c = 0 := fun c h1 h2 => gl_ofN (v := 0) (by rw [pk_uLn h1, e c h2]; rfl) (by omega)
    refine loop_0 (fun n i (a : Nat → Int64) => wX_findMost_35 post n (nI i) (nI m) xk xc xj xl xf xt xs xh xw xp xn xz xo a xq) (fun i a => gl_ok a ∧ (∀ j, j ≤ i → gl_K m xf xt xs xh a j) ∧ (∀ c, (i + 1) * 52 ≤ c → c < 676 → gl_n a c = 0)) m _ ⟨?_, ?_, ?_⟩ ?_ ?_
    · intro c hc
      by_cases q : c = 51
      · subst q; rw [v51]; exact ⟨pk_uLs, p48⟩
      · rw [v0 c q hc, pk_uLn q, e c hc]; exact ⟨rfl, by omega⟩
    · intro j hj
      have hj : j = 0 := by omega
      subst hj
      refine ⟨fun S hS => ?_, fun w hw => ?_⟩
      · show 2 ^ (4 * (12 - m)) ≤ gl_n _ (0 * 52 + 51)
        rw [show 0 * 52 + 51 = 51 by omega, v51]; exact Nat.le_refl _
      · rw [show 0 * 52 + w = w by omega]
        by_cases q : w = 51
        · subst q; exact Or.inr ⟨0, Nat.one_pos, rfl, by rw [v51]; rfl⟩
        · exact Or.inl (v0 w q (by omega))
    · intro c h1 h2
      exact v0 c (by omega) h2
    · intro n a ⟨e1, e2, _⟩
      exact rl_le_t m m (by omega) (h a e1 e2)
    · intro n i a hi ⟨e1, e2, e3⟩ k
      refine rl_le_f m i hi (xw_mostOver hJ hG H hi e1 (e2 i (Nat.le_refl i)) e3 (fun a' o1 s1 K1 z1 => nm_r (nI_1 i) (k a' ⟨o1, ?_, z1⟩)))
      intro j hj
      by_cases q : j = i + 1
      · subst q; exact K1
      · exact gl_Kc hG (by omega) (fun w hw => s1 _ (by omega)) (e2 j (by omega))
  · intro n j a hj e k
    refine rl_le_f 676 j hj ⟨vp_in_nI hj (by omega), nm_e (nm_r (nI_1 j) (k _ ?_))⟩
    intro u hu
    rw [rl_cl]
    by_cases h2 : u = j
    · subst h2; rw [pk_uLs]
    · rw [pk_uLn h2]; exact e u (by omega)
theorem xw_mostFailing {post : Int64 → SX → Prop} {m M : Nat} (hC : tb_C xc) (hJ : tb_J xj) (hG : gr_F m xf xt) (H : gr_H m xs xh) (he : xe = nI m) (hM : M < 32)
    (h : ∀ (a' : Nat → Int64) (b : Nat), gl_ok a' → (∀ j, j ≤ m → gl_K m xf xt xs xh a' j) → b ≤ 281474976710656 → (∀ w, w < 52 → tb_cn w M = false → gl_n a' (m * 52 + w) ≤ b) → (b = 0 ∨ ∃ w, w < 52 ∧ tb_cn w M = false ∧ gl_n a' (m * 52 + w) = b) → post (lN b) (xe, xk, xc, xj, xl, xf, xt, xs, xh, xw, xp, xn, xz, xo, a', xq)) : wpX_mostFailing post (xe, xk, xc, xj, xl, xf, xt, xs, xh, xw, xp, xn, xz, xo, xm, xq) (nI M) := by
  have hm := hG.1
  unfold wpX_mostFailing
  refine xw_findMost hJ hG H he (fun a ok K => ?_)
  subst he
  refine loop_0 (fun n j (r : Int64) => wX_mostFailing_9 post (nI M) (nI m) xk xc xj xl xf xt xs xh xw xp xn xz xo a xq n r (nI j)) (fun j r => ∃ b, r = lN b ∧ b ≤ 281474976710656 ∧ (∀ w, w < j → tb_cn w M = false → gl_n a (m * 52 + w) ≤ b) ∧ (b = 0 ∨ ∃ w, w < j ∧ tb_cn w M = false ∧ gl_n a (m * 52 + w) = b)) 52 0 ⟨0, rfl, by omega, fun w hw => absurd hw (Nat.not_lt_zero w), Or.inl rfl⟩ ?_ ?_
  · intro n s ⟨b, e, hb, h1, h2⟩
    subst e
    exact rl_le_t 52 52 (by omega) (h a b ok K hb h1 h2)
  · intro n j s hj ⟨b, e, hb, h1, h2⟩ k
    subst e
    have ea : nI m * 52 + nI j = nI (m * 52 + j) := by rw [rl_m52, nI_add]
    obtain ⟨o1, o2⟩ := ok (m * 52 + j) (by omega)
    refine rl_le_f 52 j hj (xw_connects hC hj hM ?_)
    rw [ea, rl_cl, o1]
    have keep : (tb_cn j M = false → gl_n a (m * 52 + j) ≤ b) → wX_mostFailing_9 post (nI M) (nI m) xk xc xj xl xf xt xs xh xw xp xn xz xo a xq n (lN b) (nI (j + 1)) := by
      intro q
      refine k _ ⟨b, rfl, hb, fun w hw hc => ?_, ?_⟩
      · by_cases y : w = j
        · subst y; exact q hc
        · exact h1 w (by omega) hc
      · rcases h2 with z | ⟨w, hw, z⟩
        · exact Or.inl z
        · exact Or.inr ⟨w, by omega, z⟩
    refine ⟨vp_in_nI (by omega) (by omega), nm_e (rl_bc _ (fun z => br_c (fun y => nm_r (nI_1 j) ?_) (fun y => nm_r (nI_1 j) ?_)) (fun z => nm_r (nI_1 j) (keep (fun q => by rw [z] at q; cases q))))⟩
    · exact keep (fun _ => (pk_lLE (by omega) (by omega)).mp y)
    · have y : ¬ gl_n a (m * 52 + j) ≤ b := fun q => y ((pk_lLE (by omega) (by omega)).mpr q)
      refine k _ ⟨gl_n a (m * 52 + j), rfl, o2, fun w hw hc => ?_, Or.inr ⟨j, by omega, z, rfl⟩⟩
      by_cases q : w = j
      · subst q; exact Nat.le_refl _
      · exact Nat.le_trans (h1 w (by omega) hc) (by omega)
end
end
section
theorem gd_orb {S i j : Nat} : (S ||| 2 ^ i).testBit j = (S.testBit j || decide (i = j)) := by
  rw [Nat.testBit_or, Nat.testBit_two_pow]
section
variable {m : Nat} {f t s h : Nat → Int32} {a : Nat → Int64}
def gd_S (m : Nat) (f t s h : Nat → Int32) (M b S : Nat) : Prop := gr_wN m s h S m = b ∧ tb_cn (gr_wy f t S m) M = false
theorem gd_wy {S S' j : Nat} (e : gr_wy f t S j = gr_wy f t S' j) : ∀ d, (∀ i, j ≤ i → i < j + d → S.testBit i = S'.testBit i) → gr_wy f t S (j + d) = gr_wy f t S' (j + d)
  | 0, _ => e
  | d + 1, hb => by
    have ih := gd_wy e d (fun i h1 h2 => hb i h1 (by omega))
    show (if S.testBit (j + d) = true then tb_jo (gr_wy f t S (j + d)) (gr_n f (j + d)) (gr_n t (j + d)) else gr_wy f t S (j + d)) = (if S'.testBit (j + d) = true then tb_jo (gr_wy f t S' (j + d)) (gr_n f (j + d)) (gr_n t (j + d)) else gr_wy f t S' (j + d))
    rw [ih, hb (j + d) (by omega) (by omega)]
theorem gd_le {S S' j : Nat} (e : gr_wN m s h S j ≤ gr_wN m s h S' j) : ∀ d, (∀ i, j ≤ i → i < j + d → S.testBit i = S'.testBit i) → gr_wN m s h S (j + d) ≤ gr_wN m s h S' (j + d)
  | 0, _ => e
  | d + 1, hb => by
    have ih := gd_le e d (fun i h1 h2 => hb i h1 (by omega))
    show gr_wN m s h S (j + d) * (if S.testBit (j + d) = true then gr_up s h (j + d) else gr_dn s h (j + d)) ≤ gr_wN m s h S' (j + d) * (if S'.testBit (j + d) = true then gr_up s h (j + d) else gr_dn s h (j + d))
    rw [hb (j + d) (by omega) (by omega)]
    exact Nat.mul_le_mul_right _ ih
theorem gd_lt {S S' j : Nat} (e : gr_wN m s h S j < gr_wN m s h S' j) : ∀ d, (∀ i, j ≤ i → i < j + d → S.testBit i = S'.testBit i) → 0 < gr_wN m s h S (j + d) → gr_wN m s h S (j + d) < gr_wN m s h S' (j + d)
  | 0, _, _ => e
  | d + 1, hb, hp => by
    have u : gr_wN m s h S (j + (d + 1)) = gr_wN m s h S (j + d) * (if S.testBit (j + d) = true then gr_up s h (j + d) else gr_dn s h (j + d)) := rfl
    have u' : gr_wN m s h S' (j + (d + 1)) = gr_wN m s h S' (j + d) * (if S'.testBit (j + d) = true then gr_up s h (j + d) else gr_dn s h (j + d)) := rfl
    rw [u] at hp
    have ih := gd_lt e d (fun i h1 h2 => hb i h1 (by omega)) (Nat.pos_of_mul_pos_right hp)
    rw [u, u', ← hb (j + d) (by omega) (by omega)]
    exact Nat.mul_lt_mul_of_pos_right ih (Nat.pos_of_mul_pos_left hp)
theorem gd_pos {S j : Nat} : ∀ d, 0 < gr_wN m s h S (j + d) → 0 < gr_wN m s h S j
  | 0, hp => hp
  | d + 1, hp => by
    have u : gr_wN m s h S (j + (d + 1)) = gr_wN m s h S (j + d) * (if S.testBit (j + d) = true then gr_up s h (j + d) else gr_dn s h (j + d)) := rfl
    rw [u] at hp
    exact gd_pos d (Nat.pos_of_mul_pos_right hp)
theorem gd_tb {j x P i : Nat} (hP : P < 2 ^ j) : (2 ^ j * x + P).testBit i = if i < j then P.testBit i else x.testBit (i - j) := Nat.testBit_two_pow_mul_add x hP i
/-- what one step back means: β is the edge's bit -/
theorem gd_back {M b j x β Om w : Nat} (hG : gr_F m f t) (hj : j < m) (hb : 0 < b) (hβ : β < 2) (hw : w < 52)
    (K0 : gl_K m f t s h a j) (K1 : gl_K m f t s h a (j + 1))
    (hmax : ∀ S, S < 2 ^ m → tb_cn (gr_wy f t S m) M = false → gr_wN m s h S m ≤ b)
    (hx : 2 ^ (j + 1) * x + 2 ^ (j + 1) ≤ 2 ^ m)
    (hO : ∀ v, Om.testBit v = true ↔ v < 52 ∧ ∃ Q, Q < 2 ^ (j + 1) ∧ gr_wy f t Q (j + 1) = v ∧ gd_S m f t s h M b (2 ^ (j + 1) * x + Q)) :
    (Om.testBit (if β = 1 then tb_jo w (gr_n f j) (gr_n t j) else w) = true ∧ 0 < gl_n a (j * 52 + w) * (if β = 1 then gr_up s h j else gr_dn s h j) ∧
      gl_n a (j * 52 + w) * (if β = 1 then gr_up s h j else gr_dn s h j) = gl_n a ((j + 1) * 52 + (if β = 1 then tb_jo w (gr_n f j) (gr_n t j) else w))) ↔
    ∃ P, P < 2 ^ j ∧ gr_wy f t P j = w ∧ gd_S m f t s h M b (2 ^ j * (2 * x + β) + P) := by
  have hp : 2 ^ (j + 1) = 2 ^ j * 2 := Nat.pow_succ 2 j
  have hjm : j + 1 + (m - (j + 1)) = m := by omega
  have hid : ∀ P, 2 ^ j * (2 * x + β) + P = 2 ^ (j + 1) * x + (2 ^ j * β + P) := by
    intro P; rw [hp, Nat.mul_add, ← Nat.mul_assoc]; omega
  have hq : ∀ P, P < 2 ^ j → 2 ^ j * β + P < 2 ^ (j + 1) := by
    intro P hP
    rcases Nat.lt_or_ge β 1 with z | z
    · have : β = 0 := by omega
      subst this; omega
    · have : β = 1 := by omega
      subst this; omega
  have wyQ : ∀ P, P < 2 ^ j → gr_wy f t (2 ^ j * β + P) (j + 1) = if β = 1 then tb_jo (gr_wy f t P j) (gr_n f j) (gr_n t j) else gr_wy f t P j := by
    intro P hP
    rcases Nat.lt_or_ge β 1 with z | z
    · have : β = 0 := by omega
      subst this
      rw [if_neg (by omega), Nat.mul_zero, Nat.zero_add]; exact gw_wy_lo hP
    · have : β = 1 := by omega
      subst this
      rw [if_pos rfl, Nat.mul_one]; exact gw_wy_hi hP
  have wNQ : ∀ P, P < 2 ^ j → gr_wN m s h (2 ^ j * β + P) (j + 1) = gr_wN m s h P j * (if β = 1 then gr_up s h j else gr_dn s h j) := by
    intro P hP
    rcases Nat.lt_or_ge β 1 with z | z
    · have : β = 0 := by omega
      subst this
      rw [if_neg (by omega), Nat.mul_zero, Nat.zero_add]; exact gr_wN_lo hP
    · have : β = 1 := by omega
      subst this
      rw [if_pos rfl, Nat.mul_one]; exact gr_wN_hi hP
  -- the full set's figures at j + 1 are the low part's
  have lowW : ∀ Q, Q < 2 ^ (j + 1) → gr_wy f t (2 ^ (j + 1) * x + Q) (j + 1) = gr_wy f t Q (j + 1) := by
    intro Q hQ
    exact gw_wy_c (fun i hi => by rw [gd_tb hQ, if_pos hi])
  have lowN : ∀ Q, Q < 2 ^ (j + 1) → gr_wN m s h (2 ^ (j + 1) * x + Q) (j + 1) = gr_wN m s h Q (j + 1) := by
    intro Q hQ
    exact gr_wN_c (fun i hi => by rw [gd_tb hQ, if_pos hi])
  have agree : ∀ Q Q', Q < 2 ^ (j + 1) → Q' < 2 ^ (j + 1) → ∀ i, j + 1 ≤ i → i < j + 1 + (m - (j + 1)) → (2 ^ (j + 1) * x + Q).testBit i = (2 ^ (j + 1) * x + Q').testBit i := by
    intro Q Q' hQ hQ' i h1 _
    rw [gd_tb hQ, gd_tb hQ', if_neg (by omega), if_neg (by omega)]
  have sameW : ∀ Q Q', Q < 2 ^ (j + 1) → Q' < 2 ^ (j + 1) → gr_wy f t Q (j + 1) = gr_wy f t Q' (j + 1) → gr_wy f t (2 ^ (j + 1) * x + Q) m = gr_wy f t (2 ^ (j + 1) * x + Q') m := by
    intro Q Q' hQ hQ' e
    have := gd_wy (by rw [lowW Q hQ, lowW Q' hQ']; exact e) (m - (j + 1)) (agree Q Q' hQ hQ')
    rw [hjm] at this; exact this
  constructor
  · intro ⟨c1, c2, c3⟩
    obtain ⟨_, Q, hQ, q1, q2, q3⟩ := (hO _).mp c1
    have hMw : gl_n a (j * 52 + w) ≠ 0 := fun z => by rw [z, Nat.zero_mul] at c2; omega
    rcases K0.2 w hw with z | ⟨P, hP, p1, p2⟩
    · exact absurd z hMw
    · have hQP := hq P hP
      have ew : gr_wy f t (2 ^ j * β + P) (j + 1) = gr_wy f t Q (j + 1) := by rw [wyQ P hP, p1, q1]
      have eN : gr_wN m s h Q (j + 1) ≤ gr_wN m s h (2 ^ j * β + P) (j + 1) := by
        rw [wNQ P hP, p2, c3, ← q1]; exact K1.1 Q hQ
      have W := sameW _ _ hQP hQ ew
      have L := gd_le (by rw [lowN Q hQ, lowN _ hQP]; exact eN) (m - (j + 1)) (agree Q _ hQ hQP)
      rw [hjm, q2] at L
      refine ⟨P, hP, p1, ?_⟩
      rw [hid P]
      have cn : tb_cn (gr_wy f t (2 ^ (j + 1) * x + (2 ^ j * β + P)) m) M = false := by rw [W]; exact q3
      exact ⟨Nat.le_antisymm (hmax _ (by omega) cn) L, cn⟩
  · intro ⟨P, hP, p1, g1, g2⟩
    have hQP := hq P hP
    rw [hid P] at g1 g2
    have ew : gr_wy f t (2 ^ j * β + P) (j + 1) = if β = 1 then tb_jo w (gr_n f j) (gr_n t j) else w := by rw [wyQ P hP, p1]
    have hlt : gr_wy f t (2 ^ j * β + P) (j + 1) < 52 := gw_wy_lt (gr_ok hG) (j + 1) (by omega)
    have pos1 : 0 < gr_wN m s h (2 ^ j * β + P) (j + 1) := by
      rw [← lowN _ hQP]
      refine gd_pos (m - (j + 1)) ?_
      rw [hjm, g1]; exact hb
    have le1 : gr_wN m s h (2 ^ j * β + P) (j + 1) ≤ gl_n a (j * 52 + w) * (if β = 1 then gr_up s h j else gr_dn s h j) := by
      rw [wNQ P hP]
      refine Nat.mul_le_mul_right _ ?_
      have := K0.1 P hP
      rw [p1] at this; exact this
    have pos2 : 0 < gl_n a (j * 52 + w) * (if β = 1 then gr_up s h j else gr_dn s h j) := Nat.lt_of_lt_of_le pos1 le1
    have le2 : gl_n a (j * 52 + w) * (if β = 1 then gr_up s h j else gr_dn s h j) ≤ gl_n a ((j + 1) * 52 + (if β = 1 then tb_jo w (gr_n f j) (gr_n t j) else w)) := by
      rcases K0.2 w hw with z | ⟨P', hP', p1', p2'⟩
      · rw [z, Nat.zero_mul]; exact Nat.zero_le _
      · have := K1.1 _ (hq P' hP')
        rw [wNQ P' hP', wyQ P' hP', p1', p2'] at this
        exact this
    refine ⟨(hO _).mpr ⟨by rw [← ew]; exact hlt, _, hQP, ew, g1, g2⟩, pos2, Nat.le_antisymm le2 ?_⟩
    rcases Nat.lt_or_ge (gl_n a (j * 52 + w) * (if β = 1 then gr_up s h j else gr_dn s h j)) (gl_n a ((j + 1) * 52 + (if β = 1 then tb_jo w (gr_n f j) (gr_n t j) else w))) with z | z
    · exfalso
      rw [← ew] at z
      rcases K1.2 _ hlt with y | ⟨Q', hQ', q1, q2⟩
      · omega
      · have W := sameW _ _ hQ' hQP q1
        have L := gd_lt (by rw [lowN Q' hQ', lowN _ hQP]; omega) (m - (j + 1)) (agree (2 ^ j * β + P) Q' hQP hQ') (by rw [hjm, g1]; exact hb)
        rw [hjm, g1] at L
        have := hmax (2 ^ (j + 1) * x + Q') (by omega) (by rw [W]; exact g2)
        omega
    · exact z
end
section
variable {xe : Int32} {xk : Int32} {xc : Nat → Int32} {xj : Nat → Int32} {xl : Nat → Int32} {xf : Nat → Int32} {xt : Nat → Int32} {xs : Nat → Int32} {xh : Nat → Int32} {xw : Nat → Int64} {xp : Nat → Int64} {xn : Nat → Int32} {xz : Nat → Int32} {xo : Nat → Int32} {xm : Nat → Int64} {xq : Nat → Int64}
theorem xw_waysBack_15 {post : Int64 → Prop} {m i Om up fac : Nat} (hJ : tb_J xj) (hG : gr_F m xf xt) (hi : i < m) (ok : gl_ok xm) (hOm : Om < 2 ^ 52) (hup : up < 2) (hf : fac ≤ 16) (hle : ∀ w, w < 52 → gl_n xm (i * 52 + w) * fac < 2 ^ 63)
    (h : ∀ R, R < 2 ^ 52 → (∀ w, R.testBit w = true ↔ w < 52 ∧ (Om.testBit (if up = 1 then tb_jo w (gr_n xf i) (gr_n xt i) else w) = true ∧ 0 < gl_n xm (i * 52 + w) * fac ∧ gl_n xm (i * 52 + w) * fac = gl_n xm ((i + 1) * 52 + (if up = 1 then tb_jo w (gr_n xf i) (gr_n xt i) else w)))) → post (lN R)) :
    ∃ n15 : Nat, wX_waysBack_15 post (nI i) (lN Om) (nI up) (nI fac) xe xk xc xj xl xf xt xs xh xw xp xn xz xo xm xq n15 0 0 := by
  have hm := hG.1
  obtain ⟨f1, f2, f3⟩ := gr_ok hG i hi
  refine loop_0 (fun n j (r : Int64) => wX_waysBack_15 post (nI i) (lN Om) (nI up) (nI fac) xe xk xc xj xl xf xt xs xh xw xp xn xz xo xm xq n r (nI j))
    (fun j r => ∃ R, r = lN R ∧ R < 2 ^ j ∧ (∀ w, R.testBit w = true ↔ w < j ∧ (Om.testBit (if up = 1 then tb_jo w (gr_n xf i) (gr_n xt i) else w) = true ∧ 0 < gl_n xm (i * 52 + w) * fac ∧ gl_n xm (i * 52 + w) * fac = gl_n xm ((i + 1) * 52 + (if up = 1 then tb_jo w (gr_n xf i) (gr_n xt i) else w))))) 52 0
    ⟨0, rfl, by omega, fun w => ⟨fun z => absurd z (by rw [Nat.zero_testBit]; decide), fun z => absurd z.1 (Nat.not_lt_zero w)⟩⟩ ?_ ?_
  · intro n s ⟨R, e, h1, h2⟩
    subst e
    exact rl_le_t 52 52 (by omega) (h R h1 h2)
  · intro n j s hj ⟨R, e, h1, h2⟩ k
    subst e
    have hr := tb_jo_lt hj f1 f2 f3
    have hp1 : (2 : Nat) ^ (j + 1) = 2 ^ j * 2 := Nat.pow_succ 2 j
    have hp52 : (2 : Nat) ^ (j + 1) ≤ 2 ^ 52 := Nat.pow_le_pow_right (by omega) (by omega)
    have ea : nI i * 52 + nI j = nI (i * 52 + j) := by rw [rl_m52, nI_add]
    have hMj : xm (nI (i * 52 + j)).toNatClampNeg = lN (gl_n xm (i * 52 + j)) := by rw [rl_cl]; exact (ok _ (by omega)).1
    have ex : lN (gl_n xm (i * 52 + j)) * (nI fac).toInt64 = lN (gl_n xm (i * 52 + j) * fac) := by rw [nI_l (by omega), lN_mul]
    have hlj := hle j hj
    have kno : ¬ (Om.testBit (if up = 1 then tb_jo j (gr_n xf i) (gr_n xt i) else j) = true ∧ 0 < gl_n xm (i * 52 + j) * fac ∧ gl_n xm (i * 52 + j) * fac = gl_n xm ((i + 1) * 52 + (if up = 1 then tb_jo j (gr_n xf i) (gr_n xt i) else j))) → wX_waysBack_15 post (nI i) (lN Om) (nI up) (nI fac) xe xk xc xj xl xf xt xs xh xw xp xn xz xo xm xq n (lN R) (nI (j + 1)) := by
      intro q
      refine k _ ⟨R, rfl, by omega, fun w => ?_⟩
      rw [h2 w]
      by_cases y : w = j
      · subst y
        exact ⟨fun z => absurd z.1 (Nat.lt_irrefl w), fun z => absurd z.2 q⟩
      · exact ⟨fun z => ⟨by omega, z.2⟩, fun z => ⟨by omega, z.2⟩⟩
    have kyes : (Om.testBit (if up = 1 then tb_jo j (gr_n xf i) (gr_n xt i) else j) = true ∧ 0 < gl_n xm (i * 52 + j) * fac ∧ gl_n xm (i * 52 + j) * fac = gl_n xm ((i + 1) * 52 + (if up = 1 then tb_jo j (gr_n xf i) (gr_n xt i) else j))) → wX_waysBack_15 post (nI i) (lN Om) (nI up) (nI fac) xe xk xc xj xl xf xt xs xh xw xp xn xz xo xm xq n (lN R ||| ((1 : Int64) <<< ((nI j).toInt64 &&& 63))) (nI (j + 1)) := by
      intro q
      have es : (1 : Int64) <<< ((nI j).toInt64 &&& 63) = lN (2 ^ j) := by
        have := wb_shl 1 (k := j) (by omega)
        rw [Nat.one_mul] at this; exact this
      rw [es, wb_or (by omega) (by omega)]
      refine k _ ⟨R ||| 2 ^ j, rfl, Nat.or_lt_two_pow (by omega) (by omega), fun w => ?_⟩
      rw [gd_orb, Bool.or_eq_true, h2 w, decide_eq_true_iff]
      by_cases y : w = j
      · subst y
        exact ⟨fun _ => ⟨by omega, q⟩, fun _ => Or.inr rfl⟩
      · exact ⟨fun z => z.elim (fun z => ⟨by omega, z.2⟩) (fun z => absurd z.symm y), fun z => Or.inl ⟨by omega, z.2⟩⟩
    have fin : ∀ o, o < 52 → o = (if up = 1 then tb_jo j (gr_n xf i) (gr_n xt i) else j) → wX_waysBack_39 post (wX_waysBack_15 post (nI i) (lN Om) (nI up) (nI fac) xe xk xc xj xl xf xt xs xh xw xp xn xz xo xm xq n) (nI i) (lN Om) (nI up) (nI fac) (lN R) (nI j) (nI o) xe xk xc xj xl xf xt xs xh xw xp xn xz xo xm xq := by
      intro o ho eo
      rw [← eo] at kno kyes
      have eb : (nI i + 1) * 52 + nI o = nI ((i + 1) * 52 + o) := by rw [nI_1, rl_m52, nI_add]
      obtain ⟨c1, c2⟩ := ok ((i + 1) * 52 + o) (by omega)
      have hMo : xm (nI ((i + 1) * 52 + o)).toNatClampNeg = lN (gl_n xm ((i + 1) * 52 + o)) := by rw [rl_cl]; exact c1
      unfold wX_waysBack_39
      rw [ea, eb, hMj, hMo, ex, wb_bit (by omega) (by omega)]
      refine ⟨vp_in_nI (by omega) (by omega), nm_e (br_c (fun z => ?_) (fun z => nm_r (nI_1 j) (kno ?_)))⟩
      · have hb : Om.testBit o = true := by
          rw [Nat.testBit_eq_decide_div_mod_eq, decide_eq_true_iff]
          exact (pk_lEQ (b := 1) (by omega) (by omega)).mp z
        refine br_c (fun y => nm_r (nI_1 j) (kno ?_)) (fun y => ⟨vp_in_nI (by omega) (by omega), br_c (fun x => nm_e (nm_r (nI_1 j) (kyes ⟨hb, ?_, ?_⟩))) (fun x => nm_r (nI_1 j) (kno ?_))⟩)
        · have := (pk_lLE (b := 0) (by omega) (by omega)).mp y
          omega
        · have : ¬ gl_n xm (i * 52 + j) * fac ≤ 0 := fun q => y ((pk_lLE (b := 0) (by omega) (by omega)).mpr q)
          omega
        · exact (pk_lEQ (by omega) (by omega)).mp x
        · exact fun q => x ((pk_lEQ (by omega) (by omega)).mpr q.2.2)
      · intro q
        refine z ?_
        have := q.1
        rw [Nat.testBit_eq_decide_div_mod_eq, decide_eq_true_iff] at this
        rw [this]; rfl
    refine rl_le_f 52 j hj (pk_eq up 0 (fun z => fin j hj ?_) (fun z => xw_joinBy hJ hG hj hi (fin _ hr ?_)))
    · rw [if_neg (by omega)]
    · rw [if_pos (by omega)]
end
end
section
section
variable {xe : Int32} {xk : Int32} {xc : Nat → Int32} {xj : Nat → Int32} {xl : Nat → Int32} {xf : Nat → Int32} {xt : Nat → Int32} {xs : Nat → Int32} {xh : Nat → Int32} {xw : Nat → Int64} {xp : Nat → Int64} {xn : Nat → Int32} {xz : Nat → Int32} {xo : Nat → Int32} {xm : Nat → Int64} {xq : Nat → Int64}
theorem xw_worstState_101 {post : Int32 → SX → Prop} {m M b Om : Nat} (hJ : tb_J xj) (hG : gr_F m xf xt) (H : gr_H m xs xh) (ok : gl_ok xm) (K : ∀ j, j ≤ m → gl_K m xf xt xs xh xm j) (hb : 0 < b)
    (hmax : ∀ S, S < 2 ^ m → tb_cn (gr_wy xf xt S m) M = false → gr_wN m xs xh S m ≤ b) (hOm : Om < 2 ^ 52)
    (hO : ∀ v, Om.testBit v = true ↔ v < 52 ∧ ∃ Q, Q < 2 ^ m ∧ gr_wy xf xt Q m = v ∧ gd_S m xf xt xs xh M b Q) (hex : ∃ Q, Q < 2 ^ m ∧ gd_S m xf xt xs xh M b Q)
    (h : ∀ N, N < 2 ^ m → gd_S m xf xt xs xh M b N → (∀ S, S < 2 ^ m → gd_S m xf xt xs xh M b S → N ≤ S) → post (nI N) (xe, xk, xc, xj, xl, xf, xt, xs, xh, xw, xp, xn, xz, xo, xm, xq)) :
    ∃ n101 : Nat, wX_worstState_101 post xe xk xc xj xl xf xt xs xh xw xp xn xz xo xm xq n101 (lN Om) 0 (nI m + (-1)) := by
  have hm := hG.1
  have h12 : 2 ^ m ≤ 4096 := Nat.pow_le_pow_right (n := 2) (by omega) hm
  have key := pk_loopD (fun n j (s : Int64 × Int32) => wX_worstState_101 post xe xk xc xj xl xf xt xs xh xw xp xn xz xo xm xq n s.1 s.2 (nI j + (-1)))
    (fun j s => j ≤ m ∧ ∃ Om x, s = (lN Om, nI (2 ^ j * x)) ∧ Om < 2 ^ 52 ∧ 2 ^ j * x + 2 ^ j ≤ 2 ^ m ∧
      (∀ v, Om.testBit v = true ↔ v < 52 ∧ ∃ Q, Q < 2 ^ j ∧ gr_wy xf xt Q j = v ∧ gd_S m xf xt xs xh M b (2 ^ j * x + Q)) ∧
      (∃ Q, Q < 2 ^ j ∧ gd_S m xf xt xs xh M b (2 ^ j * x + Q)) ∧ (∀ S, S < 2 ^ m → gd_S m xf xt xs xh M b S → 2 ^ j * x ≤ S)) ?_ ?_ m (lN Om, 0) ?_
  · exact ⟨_, key⟩
  · intro n s ⟨_, Om, x, e, _, hx, _, ⟨Q, hQ, q⟩, hmin⟩
    subst e
    have : Q = 0 := by omega
    subst this
    exact br_t (by decide) (h _ (by omega) q hmin)
  · intro n j s ⟨hj, Om, x, e, hOm, hx, hO, hex, hmin⟩ k
    subst e
    have hj' : j < m := hj
    have hp : 2 ^ (j + 1) = 2 ^ j * 2 := Nat.pow_succ 2 j
    have hpx : 2 ^ (j + 1) * x = 2 ^ j * (2 * x) := by rw [hp, Nat.mul_assoc]
    have hpx1 : 2 ^ j * (2 * x + 1) = 2 ^ j * (2 * x) + 2 ^ j := by rw [Nat.mul_add, Nat.mul_one]
    have b1 := gr_up_le H hj'
    have b2 := gr_dn_le j xs xh
    have hle : ∀ fac, fac ≤ 16 → ∀ w, w < 52 → gl_n xm (j * 52 + w) * fac < 2 ^ 63 := by
      intro fac hf w hw
      have := (ok (j * 52 + w) (by omega)).2
      have := Nat.mul_le_mul this hf
      omega
    have back : ∀ β R : Nat, β < 2 → (∀ w, R.testBit w = true ↔ w < 52 ∧ (Om.testBit (if β = 1 then tb_jo w (gr_n xf j) (gr_n xt j) else w) = true ∧ 0 < gl_n xm (j * 52 + w) * (if β = 1 then gr_up xs xh j else gr_dn xs xh j) ∧ gl_n xm (j * 52 + w) * (if β = 1 then gr_up xs xh j else gr_dn xs xh j) = gl_n xm ((j + 1) * 52 + (if β = 1 then tb_jo w (gr_n xf j) (gr_n xt j) else w)))) →
        ∀ v, R.testBit v = true ↔ v < 52 ∧ ∃ Q, Q < 2 ^ j ∧ gr_wy xf xt Q j = v ∧ gd_S m xf xt xs xh M b (2 ^ j * (2 * x + β) + Q) := by
      intro β R hβ hR v
      rw [hR v]
      constructor
      · intro ⟨y1, y2⟩
        exact ⟨y1, (gd_back hG hj' hb hβ y1 (K j (by omega)) (K (j + 1) hj) hmax hx hO).mp y2⟩
      · intro ⟨y1, y2⟩
        exact ⟨y1, (gd_back hG hj' hb hβ y1 (K j (by omega)) (K (j + 1) hj) hmax hx hO).mpr y2⟩
    rw [pk_m1]
    refine br_f (nI_pos (by omega)) ?_
    unfold wpX_waysBack
    refine xw_factor0 hm H hj' (xw_waysBack_15 (up := 0) hJ hG hj' ok hOm (by omega) b2 (hle _ b2) (fun R hR hRt => ?_))
    have hR0 := back 0 R (by omega) hRt
    rw [Nat.add_zero] at hR0
    refine br_c (fun z => ?_) (fun z => ?_)
    · have hz : R = 0 := (pk_lEQ (b := 0) (by omega) (by omega)).mp z
      have none : ∀ P, P < 2 ^ j → ¬ gd_S m xf xt xs xh M b (2 ^ j * (2 * x) + P) := by
        intro P hP q
        have := (hR0 (gr_wy xf xt P j)).mpr ⟨gw_wy_lt (gr_ok hG) j (by omega), P, hP, rfl, q⟩
        rw [hz, Nat.zero_testBit] at this
        cases this
      have eo : nI (2 ^ (j + 1) * x) ||| ((1 : Int32) <<< (nI j &&& 31)) = nI (2 ^ j * (2 * x + 1)) := by
        rw [rl_shl (by omega), rl_or]
        refine congrArg nI ?_
        rw [← Nat.two_pow_add_eq_or_of_lt (by rw [hp]; have := Nat.two_pow_pos j; omega), hpx, hpx1]
      refine nm_r eo (xw_factor1 hm H hj' (xw_waysBack_15 (up := 1) hJ hG hj' ok hOm (by omega) b1 (hle _ b1) (fun R' hR' hRt' => nm_e (k (lN R', _) ⟨by omega, R', 2 * x + 1, rfl, hR', by omega, back 1 R' (by omega) hRt', ?_, ?_⟩))))
      · obtain ⟨Q, hQ, q⟩ := hex
        rw [hpx] at q
        rcases Nat.lt_or_ge Q (2 ^ j) with y | y
        · exact absurd q (none Q y)
        · refine ⟨Q - 2 ^ j, by omega, ?_⟩
          rw [hpx1, show 2 ^ j * (2 * x) + 2 ^ j + (Q - 2 ^ j) = 2 ^ j * (2 * x) + Q by omega]; exact q
      · intro S hS q
        have := hmin S hS q
        rcases Nat.lt_or_ge S (2 ^ j * (2 * x + 1)) with y | y
        · have e : S = 2 ^ j * (2 * x) + (S - 2 ^ j * (2 * x)) := by omega
          rw [e] at q
          exact absurd q (none _ (by omega))
        · exact y
    · have hz : R ≠ 0 := fun q => z (by rw [q]; rfl)
      obtain ⟨v, hv⟩ := Nat.exists_testBit_of_ne_zero hz
      obtain ⟨_, P, hP, _, q⟩ := (hR0 v).mp hv
      refine nm_e (k (lN R, _) ⟨by omega, R, 2 * x, by rw [hpx], hR, by omega, hR0, ⟨P, hP, q⟩, ?_⟩)
      intro S hS q
      rw [← hpx]; exact hmin S hS q
  · refine ⟨Nat.le_refl m, Om, 0, rfl, hOm, by omega, ?_, ?_, fun S _ _ => by omega⟩
    · rw [Nat.mul_zero]
      intro v
      rw [hO v]
      simp
    · rw [Nat.mul_zero]
      simpa using hex
theorem xw_worstState_30 {post : Int32 → SX → Prop} {m M b : Nat} (hC : tb_C xc) (hJ : tb_J xj) (hG : gr_F m xf xt) (H : gr_H m xs xh) (he : xe = nI m) (hM : M < 32) (ok : gl_ok xm) (K : ∀ j, j ≤ m → gl_K m xf xt xs xh xm j) (hb : 0 < b) (hb2 : b ≤ 281474976710656)
    (hmax : ∀ w, w < 52 → tb_cn w M = false → gl_n xm (m * 52 + w) ≤ b) (hex : ∃ w, w < 52 ∧ tb_cn w M = false ∧ gl_n xm (m * 52 + w) = b)
    (h : ∀ N, N < 2 ^ m → gd_S m xf xt xs xh M b N → (∀ S, S < 2 ^ m → gd_S m xf xt xs xh M b S → N ≤ S) → post (nI N) (xe, xk, xc, xj, xl, xf, xt, xs, xh, xw, xp, xn, xz, xo, xm, xq)) :
    ∃ n30 : Nat, wX_worstState_30 post (nI M) (lN b) xe xk xc xj xl xf xt xs xh xw xp xn xz xo xm xq n30 0 0 := by
  subst he
  have hm := hG.1
  have hlt : ∀ S, gr_wy xf xt S m < 52 := fun S => gw_wy_lt (gr_ok hG) m (Nat.le_refl m)
  have hmaxS : ∀ S, S < 2 ^ m → tb_cn (gr_wy xf xt S m) M = false → gr_wN m xs xh S m ≤ b :=
    fun S hS hc => Nat.le_trans ((K m (Nat.le_refl m)).1 S hS) (hmax _ (hlt S) hc)
  refine loop_0 (fun n j (r : Int64) => wX_worstState_30 post (nI M) (lN b) (nI m) xk xc xj xl xf xt xs xh xw xp xn xz xo xm xq n r (nI j))
    (fun j r => ∃ R, r = lN R ∧ R < 2 ^ j ∧ (∀ w, R.testBit w = true ↔ w < j ∧ tb_cn w M = false ∧ gl_n xm (m * 52 + w) = b)) 52 0
    ⟨0, rfl, by omega, fun w => ⟨fun z => absurd z (by rw [Nat.zero_testBit]; decide), fun z => absurd z.1 (Nat.not_lt_zero w)⟩⟩ ?_ ?_
  · intro n s ⟨R, e, h1, h2⟩
    subst e
    refine rl_le_t 52 52 (by omega) (nm_e ?_)
    have e1 : nI m - 1 = nI m + (-1) := by grind
    rw [e1]
    refine xw_worstState_101 (M := M) (b := b) hJ hG H ok K hb hmaxS h1 ?_ ?_ h
    · intro v
      rw [h2 v]
      constructor
      · intro ⟨y1, y2, y3⟩
        refine ⟨y1, ?_⟩
        rcases (K m (Nat.le_refl m)).2 v y1 with z | ⟨S, hS, s1, s2⟩
        · omega
        · exact ⟨S, hS, s1, by rw [s2]; exact y3, by rw [s1]; exact y2⟩
      · intro ⟨y1, Q, hQ, q1, q2, q3⟩
        rw [q1] at q3
        refine ⟨y1, q3, Nat.le_antisymm (hmax v y1 q3) ?_⟩
        rw [← q2, ← q1]; exact (K m (Nat.le_refl m)).1 Q hQ
    · obtain ⟨w, y1, y2, y3⟩ := hex
      rcases (K m (Nat.le_refl m)).2 w y1 with z | ⟨S, hS, s1, s2⟩
      · omega
      · exact ⟨S, hS, by rw [s2]; exact y3, by rw [s1]; exact y2⟩
  · intro n j s hj ⟨R, e, h1, h2⟩ k
    subst e
    have hp1 : (2 : Nat) ^ (j + 1) = 2 ^ j * 2 := Nat.pow_succ 2 j
    have hp52 : (2 : Nat) ^ (j + 1) ≤ 2 ^ 52 := Nat.pow_le_pow_right (by omega) (by omega)
    have ea : nI m * 52 + nI j = nI (m * 52 + j) := by rw [rl_m52, nI_add]
    obtain ⟨o1, o2⟩ := ok (m * 52 + j) (by omega)
    have kno : ¬ (tb_cn j M = false ∧ gl_n xm (m * 52 + j) = b) → wX_worstState_30 post (nI M) (lN b) (nI m) xk xc xj xl xf xt xs xh xw xp xn xz xo xm xq n (lN R ||| 0) (nI (j + 1)) := by
      intro q
      have e0 : lN R ||| 0 = lN R := by
        have := wb_or (a := R) (b := 0) (by omega) (by omega)
        rw [Nat.or_zero] at this; exact this
      rw [e0]
      refine k _ ⟨R, rfl, by omega, fun w => ?_⟩
      rw [h2 w]
      by_cases y : w = j
      · subst y
        exact ⟨fun z => absurd z.1 (Nat.lt_irrefl w), fun z => absurd z.2 q⟩
      · exact ⟨fun z => ⟨by omega, z.2⟩, fun z => ⟨by omega, z.2⟩⟩
    refine rl_le_f 52 j hj (xw_connects hC hj hM ?_)
    rw [ea, rl_cl, o1]
    refine rl_bc _ (fun z => ⟨vp_in_nI (by omega) (by omega), br_c (fun y => nm_e (nm_r (nI_1 j) ?_)) (fun y => nm_e (nm_r (nI_1 j) (kno ?_)))⟩) (fun z => nm_e (nm_r (nI_1 j) (kno (fun q => by rw [z] at q; exact absurd q.1 (by decide)))))
    · have y := (pk_lEQ (by omega) (by omega)).mp y
      have es : (1 : Int64) <<< ((nI j).toInt64 &&& 63) = lN (2 ^ j) := by
        have := wb_shl 1 (k := j) (by omega)
        rw [Nat.one_mul] at this; exact this
      rw [es, wb_or (by omega) (by omega)]
      refine k _ ⟨R ||| 2 ^ j, rfl, Nat.or_lt_two_pow (by omega) (by omega), fun w => ?_⟩
      rw [gd_orb, Bool.or_eq_true, h2 w, decide_eq_true_iff]
      by_cases q : w = j
      · subst q
        exact ⟨fun _ => ⟨by omega, z, y⟩, fun _ => Or.inr rfl⟩
      · exact ⟨fun z => z.elim (fun z => ⟨by omega, z.2⟩) (fun z => absurd z.symm q), fun z => Or.inl ⟨by omega, z.2⟩⟩
    · exact fun q => y ((pk_lEQ (by omega) (by omega)).mpr q.2)
end
end
section
theorem gw_on_z {S m : Nat} (h : S < 2 ^ m) : ∀ d, gw_on S (m + d) = gw_on S m
  | 0 => rfl
  | d + 1 => by
    show (if S.testBit (m + d) = true then gw_on S (m + d) + 1 else gw_on S (m + d)) = _
    have : S.testBit (m + d) = false := Nat.testBit_lt_two_pow (Nat.lt_of_lt_of_le h (Nat.pow_le_pow_right (by omega) (by omega)))
    rw [this, gw_on_z h d]; rfl
/-- is a set a state: every edge but one, if it is held, is as it is held -/
def gr_st (h : Nat → Int32) (bu S : Nat) : Nat → Bool
  | 0 => true
  | i + 1 => gr_st h bu S i && (decide (i = bu) || (decide (gr_n h i = 2) || (decide (gr_n h i = 1) == S.testBit i)))
/-- the reference's weight of a set -/
def gr_wo (m : Nat) (s h : Nat → Int32) (bu S : Nat) : Nat → Int64
  | 0 => 1
  | i + 1 => if i = bu then gr_wo m s h bu S i else gr_wo m s h bu S i * (if i < m ∧ gr_n h i = 2 then (if S.testBit i = true then lN (gr_n s i) else lN (16 - gr_n s i)) else 16)
theorem rl_nb (b : Bool) : narrow .boolean (.int (rl_b b)) = .int (rl_b b) := by
  cases b <;> rfl
section
variable {ye : Int32} {yf : Nat → Int32} {yt : Nat → Int32} {ys : Nat → Int32} {yh : Nat → Int32} {yp : Nat → Int32} {yc : Nat → Int32}
theorem yw_in {post : Int32 → Prop} {S i : Nat} (hS : S < 2 ^ 31) (hi : i < 31) (h : post (rl_b (S.testBit i))) : wpY_in post (ye, yf, yt, ys, yh, yp, yc) (nI S) (nI i) := by
  unfold wpY_in
  cases hb : S.testBit i
  · rw [hb] at h
    refine br_f (fun z => ?_) h
    have := (rl_bit_t hS (by omega)).mp z
    rw [hb] at this; cases this
  · rw [hb] at h
    exact br_t ((rl_bit_t hS (by omega)).mpr hb) h
theorem yw_ones {post : Int32 → Prop} {S : Nat} (hS : S < 2 ^ 31) (h : post (nI (gw_on S 12))) : wpY_ones post (ye, yf, yt, ys, yh, yp, yc) (nI S) := by
  show ∃ n4 : Nat, wY_ones_4 post (nI S) ye yf yt ys yh yp yc n4 0 0
  refine loop_0 (fun n j (r : Int32) => wY_ones_4 post (nI S) ye yf yt ys yh yp yc n r (nI j)) (fun j r => r = nI (gw_on S j)) 12 0 rfl ?_ ?_
  · intro n s e; subst e
    exact rl_le_t 12 12 (by omega) h
  · intro n j s hj e k; subst e
    refine rl_le_f 12 j hj (nm_r (e' := nI (gw_on S (j + 1))) ?_ (nm_r (nI_1 j) (k _ rfl)))
    have u : gw_on S (j + 1) = if S.testBit j = true then gw_on S j + 1 else gw_on S j := rfl
    rw [rl_bit hS (by omega), nI_add, u, Nat.testBit_eq_decide_div_mod_eq]
    by_cases hb : S / 2 ^ j % 2 = 1
    · rw [decide_eq_true hb, hb]; rfl
    · rw [decide_eq_false hb, show S / 2 ^ j % 2 = 0 by omega]; rfl
theorem yw_sets {post : Int32 → Prop} {m : Nat} (hm : m ≤ 12) (he : ye = nI m) (h : post (nI (2 ^ m))) : wpY_sets post (ye, yf, yt, ys, yh, yp, yc) := by
  subst he
  unfold wpY_sets
  show post _
  rw [rl_shl (by omega)]; exact h
theorem yw_isState {post : Int32 → Prop} {m S bu : Nat} {x2 : Int32} (hm : m ≤ 12) (H : gr_H m ys yh) (he : ye = nI m) (hS : S < 2 ^ 31) (hx : ∀ i, i < 12 → (nI i = x2 ↔ i = bu)) (h : post (rl_b (gr_st yh bu S m))) : wpY_isState post (ye, yf, yt, ys, yh, yp, yc) (nI S) x2 := by
  subst he
  show ∃ n5 : Nat, wY_isState_5 post (nI S) x2 (nI m) yf yt ys yh yp yc n5 1 0
  refine loop_0 (fun n j (r : Int32) => wY_isState_5 post (nI S) x2 (nI m) yf yt ys yh yp yc n r (nI j)) (fun j r => r = rl_b (gr_st yh bu S j)) m 1 rfl ?_ ?_
  · intro n s e; subst e
    exact rl_le_t m m (by omega) ⟨rl_nb _, h⟩
  · intro n j s hj e k; subst e
    obtain ⟨_, hh, _, hh2⟩ := H j hj
    have eh : yh (nI j).toNatClampNeg = nI (gr_n yh j) := by rw [rl_cl]; exact hh
    have hv : vp_in (nI j) 12 := vp_in_nI (by omega) (by omega)
    have u : gr_st yh bu S (j + 1) = (gr_st yh bu S j && (decide (j = bu) || (decide (gr_n yh j = 2) || (decide (gr_n yh j = 1) == S.testBit j)))) := rfl
    have kt : gr_st yh bu S (j + 1) = true → wY_isState_5 post (nI S) x2 (nI m) yf yt ys yh yp yc n 1 (nI (j + 1)) := fun z => k 1 (by rw [z]; rfl)
    have kf : gr_st yh bu S (j + 1) = false → wY_isState_5 post (nI S) x2 (nI m) yf yt ys yh yp yc n 0 (nI (j + 1)) := fun z => k 0 (by rw [z]; rfl)
    refine rl_le_f m j hj (rl_bc _ (fun z => nm_r (nI_1 j) (kf ?_)) (fun z => ?_))
    · rw [u, z]; rfl
    · rw [z, Bool.true_and] at u
      refine br_c (fun y => nm_r (nI_1 j) (kt ?_)) (fun y => ⟨hv, ?_⟩)
      · rw [u, decide_eq_true ((hx j (by omega)).mp y)]; rfl
      · rw [decide_eq_false (fun q => y ((hx j (by omega)).mpr q)), Bool.false_or] at u
        rw [eh]
        refine pk_eq (gr_n yh j) 2 (fun y2 => nm_r (nI_1 j) (kt ?_)) (fun y2 => ⟨hv, ?_⟩)
        · rw [u, decide_eq_true y2]; rfl
        · rw [decide_eq_false y2, Bool.false_or] at u
          unfold wY_isState_51
          refine pk_eq (gr_n yh j) 1 (fun y3 => yw_in hS (by omega) ?_) (fun y3 => yw_in hS (by omega) ?_)
          · rw [decide_eq_true y3] at u
            cases hb : S.testBit j
            · exact br_f (by decide) (nm_r (nI_1 j) (kf (by rw [u, hb]; rfl)))
            · exact br_t (by decide) (nm_r (nI_1 j) (kt (by rw [u, hb]; rfl)))
          · rw [decide_eq_false y3] at u
            cases hb : S.testBit j
            · exact br_t (by decide) (nm_r (nI_1 j) (kt (by rw [u, hb]; rfl)))
            · exact br_f (by decide) (nm_r (nI_1 j) (kf (by rw [u, hb]; rfl)))
theorem yw_weightOf {post : Int64 → Prop} {m S bu : Nat} {x2 : Int32} (hm : m ≤ 12) (H : gr_H m ys yh) (he : ye = nI m) (hS : S < 2 ^ 31) (hx : ∀ i, i < 12 → (nI i = x2 ↔ i = bu)) (h : post (gr_wo m ys yh bu S 12)) : wpY_weightOf post (ye, yf, yt, ys, yh, yp, yc) (nI S) x2 := by
  subst he
  show ∃ n5 : Nat, wY_weightOf_5 post (nI S) x2 (nI m) yf yt ys yh yp yc n5 1 0
  refine loop_0 (fun n j (r : Int64) => wY_weightOf_5 post (nI S) x2 (nI m) yf yt ys yh yp yc n r (nI j)) (fun j r => r = gr_wo m ys yh bu S j) 12 1 rfl ?_ ?_
  · intro n s e; subst e
    exact rl_le_t 12 12 (by omega) h
  · intro n j s hj e k; subst e
    have hv : vp_in (nI j) 12 := vp_in_nI hj (by omega)
    have k' := k _ rfl
    have u : gr_wo m ys yh bu S (j + 1) = if j = bu then gr_wo m ys yh bu S j else gr_wo m ys yh bu S j * (if j < m ∧ gr_n yh j = 2 then (if S.testBit j = true then lN (gr_n ys j) else lN (16 - gr_n ys j)) else 16) := rfl
    have fin : ∀ fac : Int64, fac = (if j < m ∧ gr_n yh j = 2 then (if S.testBit j = true then lN (gr_n ys j) else lN (16 - gr_n ys j)) else 16) → wY_weightOf_71 post (wY_weightOf_5 post (nI S) x2 (nI m) yf yt ys yh yp yc n) (nI S) x2 (gr_wo m ys yh bu S j) (nI j) fac (nI m) yf yt ys yh yp yc := by
      intro fac ef
      subst ef
      unfold wY_weightOf_71
      refine br_c (fun y => nm_r (nI_1 j) ?_) (fun y => nm_e (nm_r (nI_1 j) ?_))
      · rw [u, if_pos ((hx j hj).mp y)] at k'; exact k'
      · rw [u, if_neg (fun q => y ((hx j hj).mpr q))] at k'; exact k'
    refine rl_le_f 12 j hj (pk_le m j (fun z => fin 16 ?_) (fun z => ⟨hv, ?_⟩))
    · rw [if_neg (by omega)]
    · obtain ⟨hs, hh, hs2, hh2⟩ := H j z
      rw [rl_cl, hh]
      refine pk_eq (gr_n yh j) 2 (fun y2 => yw_in hS (by omega) (rl_bc _ (fun y3 => ⟨hv, fin _ ?_⟩) (fun y3 => ⟨hv, fin _ ?_⟩))) (fun y2 => fin 16 ?_)
      · have e1 : (16 : Int32) - ys j = nI (16 - gr_n ys j) := by
          rw [hs]; exact pk_sub (a := 16) hs2
        rw [if_pos ⟨z, y2⟩, y3, if_neg (by decide), e1, nI_l (by omega)]
      · rw [if_pos ⟨z, y2⟩, y3, if_pos rfl, hs, nI_l (by omega)]
      · rw [if_neg (fun q => y2 q.2)]
theorem yw_findParts_72 {post : SY → Prop} {J : Int32 → (Nat → Int32) → (Nat → Int32) → (Nat → Int32) → (Nat → Int32) → (Nat → Int32) → (Nat → Int32) → Prop} {S i a b l w : Nat} (hi : i < 12) (hS : S < 2 ^ 31) (hw : w < 52) (ha : a < 5) (hb : b < 5)
    (hp : ∀ v, v < 5 → yp v = nI (tb_mn w v))
    (h : ∀ p' : Nat → Int32, (∀ v, v < 5 → p' v = if S.testBit i = true then nI (if tb_mn w v = a ∨ tb_mn w v = b then l else tb_mn w v) else yp v) → J (nI (i + 1)) yf yt ys yh p' yc) :
    ∃ n72 : Nat, wY_findParts_72 post J (nI S) (nI i) (nI a) (nI b) (nI l) ye n72 0 yf yt ys yh yp yc := by
  cases hbit : S.testBit i
  · rw [hbit] at h
    refine ⟨1, rl_le_f 5 0 (by omega) (yw_in hS (by omega) (rl_b0 hbit (nm_r (nI_1 i) (h yp (fun v _ => ?_)))))⟩
    rfl
  · rw [hbit] at h
    refine loop_0 (fun n j (p' : Nat → Int32) => wY_findParts_72 post J (nI S) (nI i) (nI a) (nI b) (nI l) ye n (nI j) yf yt ys yh p' yc) (fun j p' => ∀ v, v < 5 → p' v = if v < j then nI (if tb_mn w v = a ∨ tb_mn w v = b then l else tb_mn w v) else yp v) 5 yp (fun v _ => (if_neg (Nat.not_lt_zero v)).symm) ?_ ?_
    · intro n s e
      refine rl_le_t 5 5 (by omega) (nm_r (nI_1 i) (h s (fun v hv => ?_)))
      rw [e v hv, if_pos hv, if_pos rfl]
    · intro n j s hj e k
      have hv : vp_in (nI j) 5 := vp_in_nI hj (by omega)
      have es : s (nI j).toNatClampNeg = nI (tb_mn w j) := by rw [rl_cl, e j hj, if_neg (Nat.lt_irrefl j)]; exact hp j hj
      have hl := tb_mn_lt hw hj
      have nx : ∀ x : Int32, x = nI (if tb_mn w j = a ∨ tb_mn w j = b then l else tb_mn w j) → wY_findParts_72 post J (nI S) (nI i) (nI a) (nI b) (nI l) ye n (nI (j + 1)) yf yt ys yh (upd s (nI j).toNatClampNeg x) yc := by
        intro x ex
        refine k _ (fun v hv => ?_)
        rw [rl_cl]
        by_cases h2 : v = j
        · subst h2; rw [pk_us, if_pos (by omega)]; exact ex
        · rw [pk_un h2, e v hv]
          by_cases h3 : v < j
          · have h4 : v < j + 1 := by omega
            rw [if_pos h3, if_pos h4]
          · have h4 : ¬ v < j + 1 := by omega
            rw [if_neg h3, if_neg h4]
      refine rl_le_f 5 j hj (yw_in hS (by omega) (rl_b1 hbit ⟨hv, ?_⟩))
      rw [es]
      refine pk_eq (tb_mn w j) a (fun z => ⟨hv, nm_e (nm_r (nI_1 j) (nx _ ?_))⟩) (fun z => ⟨hv, pk_eq (tb_mn w j) b (fun z2 => ⟨hv, nm_e (nm_r (nI_1 j) (nx _ ?_))⟩) (fun z2 => ⟨hv, hv, nm_e (nm_r (nI_1 j) (nx _ ?_))⟩)⟩)
      · rw [if_pos (Or.inl z)]
      · rw [if_pos (Or.inr z2)]
      · rw [if_neg (fun q => q.elim z z2)]
theorem yw_findParts {post : SY → Prop} {m S : Nat} (hG : gr_F m yf yt) (he : ye = nI m) (hS : S < 2 ^ 31) (h : ∀ p' : Nat → Int32, (∀ v, v < 5 → p' v = nI (tb_mn (gr_wy yf yt S m) v)) → post (ye, yf, yt, ys, yh, p', yc)) : wpY_findParts post (ye, yf, yt, ys, yh, yp, yc) (nI S) := by
  subst he
  have hm := hG.1
  show ∃ n2 : Nat, wY_findParts_2 post (nI S) (nI m) n2 0 yf yt ys yh yp yc
  refine loop_0 (fun n j (p' : Nat → Int32) => wY_findParts_2 post (nI S) (nI m) n (nI j) yf yt ys yh p' yc) (fun j p' => ∀ v, v < j → p' v = nI v) 5 yp (fun v hv => absurd hv (Nat.not_lt_zero v)) ?_ ?_
  · intro n p0 e0
    refine rl_le_t 5 5 (by omega) ?_
    refine loop_0 (fun n i (p' : Nat → Int32) => wY_findParts_22 post (nI S) (nI m) n (nI i) yf yt ys yh p' yc) (fun i p' => ∀ v, v < 5 → p' v = nI (tb_mn (gr_wy yf yt S i) v)) m p0 (fun v hv => ?_) ?_ ?_
    · rw [e0 v hv]
      have := of_decide_eq_true (tb_all_s tb_k13 v hv)
      show _ = nI (tb_mn 51 v)
      rw [this.2]
    · intro n s e
      exact rl_le_t m m (by omega) (h s e)
    · intro n i s hi e k
      obtain ⟨ef, et, f1, f2, f3⟩ := hG.2 i hi
      have hw : gr_wy yf yt S i < 52 := gw_wy_lt (gr_ok hG) i (by omega)
      have hv : vp_in (nI i) 12 := vp_in_nI (by omega) (by omega)
      have cf : yf (nI i).toNatClampNeg = nI (gr_n yf i) := by rw [rl_cl]; exact ef
      have ct : yt (nI i).toNatClampNeg = nI (gr_n yt i) := by rw [rl_cl]; exact et
      have l1 := tb_mn_lt hw f1
      have l2 := tb_mn_lt hw f2
      have e1 : s (nI (gr_n yf i)).toNatClampNeg = nI (tb_mn (gr_wy yf yt S i) (gr_n yf i)) := by rw [rl_cl]; exact e _ f1
      have e2 : s (nI (gr_n yt i)).toNatClampNeg = nI (tb_mn (gr_wy yf yt S i) (gr_n yt i)) := by rw [rl_cl]; exact e _ f2
      have u : gr_wy yf yt S (i + 1) = if S.testBit i = true then tb_jo (gr_wy yf yt S i) (gr_n yf i) (gr_n yt i) else gr_wy yf yt S i := rfl
      have fin : ∀ l, l = (if tb_mn (gr_wy yf yt S i) (gr_n yt i) ≤ tb_mn (gr_wy yf yt S i) (gr_n yf i) then tb_mn (gr_wy yf yt S i) (gr_n yt i) else tb_mn (gr_wy yf yt S i) (gr_n yf i)) →
          ∃ n72 : Nat, wY_findParts_72 post (wY_findParts_22 post (nI S) (nI m) n) (nI S) (nI i) (nI (tb_mn (gr_wy yf yt S i) (gr_n yf i))) (nI (tb_mn (gr_wy yf yt S i) (gr_n yt i))) (nI l) (nI m) n72 0 yf yt ys yh s yc := by
        intro l el
        refine yw_findParts_72 (by omega) hS hw l1 l2 e (fun p' hp' => k p' (fun v hv => ?_))
        rw [hp' v hv, u]
        cases hb : S.testBit i
        · rw [if_neg (by decide), if_neg (by decide)]; exact e v hv
        · rw [if_pos rfl, if_pos rfl, tb_mn_jo hw f1 f2 f3 hv, el]
      refine rl_le_f m i hi ⟨hv, ?_⟩
      rw [cf, ct]
      refine ⟨vp_in_nI f1 (by omega), nm_r e1 ⟨hv, vp_in_nI f2 (by omega), nm_r e2 ?_⟩⟩
      refine pk_le (tb_mn (gr_wy yf yt S i) (gr_n yt i)) (tb_mn (gr_wy yf yt S i) (gr_n yf i)) (fun z => fin _ ?_) (fun z => fin _ ?_)
      · rw [if_pos z]
      · rw [if_neg (by omega)]
  · intro n j s hj e k
    refine rl_le_f 5 j hj ⟨vp_in_nI hj (by omega), nm_e (nm_r (nI_1 j) (k _ ?_))⟩
    intro v hv
    rw [rl_cl]
    by_cases h2 : v = j
    · subst h2; rw [pk_us]
    · rw [pk_un h2]; exact e v (by omega)
theorem yw_countParts {post : Int32 → SY → Prop} {m S : Nat} (hG : gr_F m yf yt) (he : ye = nI m) (hS : S < 2 ^ 31) (h : ∀ p' : Nat → Int32, post (nI (tb_pt (gr_wy yf yt S m))) (ye, yf, yt, ys, yh, p', yc)) : wpY_countParts post (ye, yf, yt, ys, yh, yp, yc) (nI S) := by
  have hw : gr_wy yf yt S m < 52 := gw_wy_lt (gr_ok hG) m (by omega)
  unfold wpY_countParts
  refine yw_findParts hG he hS (fun p' hp' => ?_)
  refine loop_0 (fun n j (r : Int32) => wY_countParts_9 post ye yf yt ys yh p' yc n r (nI j)) (fun j r => r = nI (tb_pc (tb_mn (gr_wy yf yt S m)) j)) 5 0 rfl ?_ ?_
  · intro n s e; subst e
    refine rl_le_t 5 5 (by omega) ?_
    rw [tb_pt_mn hw]; exact h p'
  · intro n j s hj e k; subst e
    have hl := tb_mn_lt hw hj
    have k' := k _ rfl
    have u : tb_pc (tb_mn (gr_wy yf yt S m)) (j + 1) = if tb_mn (gr_wy yf yt S m) j = j then tb_pc (tb_mn (gr_wy yf yt S m)) j + 1 else tb_pc (tb_mn (gr_wy yf yt S m)) j := rfl
    refine rl_le_f 5 j hj ⟨vp_in_nI hj (by omega), ?_⟩
    rw [rl_cl, hp' j hj]
    refine pk_eq (tb_mn (gr_wy yf yt S m) j) j (fun z => nm_r (nI_1 _) (nm_r (nI_1 j) ?_)) (fun z => nm_r (nI_1 j) ?_)
    · rw [u, if_pos z] at k'; exact k'
    · rw [u, if_neg z] at k'; exact k'
theorem yw_connects {post : Int32 → SY → Prop} {m S M : Nat} (hG : gr_F m yf yt) (he : ye = nI m) (hS : S < 2 ^ 31) (hM : M < 32) (h : ∀ p' : Nat → Int32, post (rl_b (tb_cn (gr_wy yf yt S m) M)) (ye, yf, yt, ys, yh, p', yc)) : wpY_connects post (ye, yf, yt, ys, yh, yp, yc) (nI S) (nI M) := by
  have hw : gr_wy yf yt S m < 52 := gw_wy_lt (gr_ok hG) m (by omega)
  rw [← tb_cn_mn hw hM] at h
  unfold wpY_connects
  refine yw_findParts hG he hS (fun p' hp' => ?_)
  have h := h p'
  generalize gr_wy yf yt S m = w at *
  have key : ∀ d j p : Nat, j + d = 5 → p ≤ 5 → post (rl_b (tb_cl (tb_mn w) M d j p)) (ye, yf, yt, ys, yh, p', yc) → wY_connects_10 post (nI M) ye yf yt ys yh p' yc (d + 1) (tb_x3 p) (nI j) := by
    intro d
    induction d with
    | zero =>
      intro j p hj _ hp
      have : j = 5 := by omega
      subst this
      exact rl_le_t 5 5 (by omega) hp
    | succ d ih =>
      intro j p hj hp5 hp
      have b2 := tb_mn_lt hw (show j < 5 by omega)
      have hv : vp_in (nI j) 5 := vp_in_nI (by omega) (by omega)
      have ep : p' (nI j).toNatClampNeg = nI (tb_mn w j) := by rw [rl_cl]; exact hp' j (by omega)
      have u : tb_cl (tb_mn w) M (d + 1) j p = if M.testBit j = true then (if p = 0 then tb_cl (tb_mn w) M d (j + 1) (tb_mn w j + 1) else if tb_mn w j + 1 = p then tb_cl (tb_mn w) M d (j + 1) p else false) else tb_cl (tb_mn w) M d (j + 1) p := rfl
      rw [u] at hp
      refine rl_le_f 5 j (by omega) (yw_in (by omega) (by omega) (rl_bc _ (fun hb => nm_r (nI_1 j) ?_) (fun hb => ?_)))
      · rw [if_neg (by rw [hb]; decide)] at hp
        exact ih (j + 1) p (by omega) hp5 hp
      · rw [if_pos hb] at hp
        rw [ep]
        by_cases h0 : p = 0
        · subst h0
          exact br_t (by decide) ⟨hv, nm_e (nm_r (nI_1 j) (ih (j + 1) (tb_mn w j + 1) (by omega) (by omega) hp))⟩
        · rw [if_neg h0] at hp
          have ex : tb_x3 p = nI (p - 1) := if_neg h0
          rw [ex]
          refine br_f (nI_pos (by omega)) ⟨hv, pk_eq (tb_mn w j) (p - 1) (fun z => ⟨hv, nm_e (nm_r (nI_1 j) ?_)⟩) (fun z => ?_)⟩
          · rw [if_pos (by omega)] at hp
            have := ih (j + 1) p (by omega) hp5 hp
            rw [ex] at this
            rw [z]; exact this
          · rw [if_neg (by omega)] at hp; exact hp
  exact ⟨6, key 5 0 0 (by omega) (by omega) h⟩
theorem yw_connectedPairs {post : Int32 → SY → Prop} {m S : Nat} (hG : gr_F m yf yt) (he : ye = nI m) (hS : S < 2 ^ 31) (h : ∀ p' : Nat → Int32, post (nI (tb_pp (gr_wy yf yt S m))) (ye, yf, yt, ys, yh, p', yc)) : wpY_connectedPairs post (ye, yf, yt, ys, yh, yp, yc) (nI S) := by
  have hw : gr_wy yf yt S m < 52 := gw_wy_lt (gr_ok hG) m (by omega)
  rw [← tb_pp_mn hw] at h
  unfold wpY_connectedPairs
  refine yw_findParts hG he hS (fun p' hp' => ?_)
  have h := h p'
  generalize gr_wy yf yt S m = w at *
  refine loop_0 (fun n j (r : Int32) => wY_connectedPairs_9 post ye yf yt ys yh p' yc n r (nI j)) (fun j r => r = nI (tb_po (tb_mn w) j)) 5 0 rfl ?_ ?_
  · intro n s e; subst e
    exact rl_le_t 5 5 (by omega) h
  · intro n v s hv e k; subst e
    refine rl_le_f 5 v hv ?_
    refine loop_0 (fun n' u (r : Int32) => wY_connectedPairs_17 post (wY_connectedPairs_9 post ye yf yt ys yh p' yc n) (nI v) ye yf yt ys yh p' yc n' r (nI u)) (fun u r => r = nI (tb_po (tb_mn w) v + tb_pi (tb_mn w) v u)) v (nI (tb_po (tb_mn w) v)) rfl ?_ ?_
    · intro n' s e; subst e
      exact rl_le_t v v (by omega) (nm_r (nI_1 v) (k _ rfl))
    · intro n' u s hu e k2; subst e
      have b1 := tb_mn_lt hw (show u < 5 by omega)
      have b2 := tb_mn_lt hw hv
      have k' := k2 _ rfl
      have e3 : tb_pi (tb_mn w) v (u + 1) = if tb_mn w u = tb_mn w v then tb_pi (tb_mn w) v u + 1 else tb_pi (tb_mn w) v u := rfl
      rw [e3] at k'
      refine rl_le_f v u hu ⟨vp_in_nI hv (by omega), vp_in_nI (by omega) (by omega), ?_⟩
      rw [rl_cl, rl_cl, hp' v hv, hp' u (by omega)]
      refine pk_eq (tb_mn w v) (tb_mn w u) (fun z => nm_r (nI_1 _) (nm_r (nI_1 u) ?_)) (fun z => nm_r (nI_1 u) ?_)
      · rw [if_pos z.symm, ← Nat.add_assoc] at k'; exact k'
      · rw [if_neg (fun q => z q.symm)] at k'; exact k'
end
end
section
theorem rl_no : ∀ i, i < 12 → (nI i = -1 ↔ i = 12) := by
  intro i hi
  constructor
  · intro z
    have : ¬ nI i < 0 := nI_pos (by omega)
    rw [z] at this
    exact absurd (by decide) this
  · omega
theorem rl_ye {k : Nat} (hk : k < 12) : ∀ i, i < 12 → (nI i = nI k ↔ i = k) := fun i hi => nI_eq (by omega) (by omega)
theorem rl_p12 {m : Nat} (hm : m ≤ 12) : 2 ^ m ≤ 4096 := Nat.pow_le_pow_right (n := 2) (by omega) hm
theorem rl_or31 {a b : Nat} (ha : a < 2 ^ 31) (hb : b < 2 ^ 31) : a ||| b < 2 ^ 31 := Nat.or_lt_two_pow ha hb
section
variable {ye : Int32} {yf : Nat → Int32} {yt : Nat → Int32} {ys : Nat → Int32} {yh : Nat → Int32} {yp : Nat → Int32} {yc : Nat → Int32}
theorem yw_isMask0 {post : Int32 → Prop} {x : Int32} (hx : x < 0 ∨ 32 ≤ x) (h : post 0) : wpY_isMask post (ye, yf, yt, ys, yh, yp, yc) x := by
  unfold wpY_isMask
  rcases hx with z | z
  · exact br_t z h
  · refine br_c (fun _ => h) (fun _ => br_t ?_ h)
    rw [Int32.le_iff_toInt_le] at z
    rw [Int32.lt_iff_toInt_lt]
    have h1 : (32 : Int32).toInt = 32 := by decide
    have h2 : (31 : Int32).toInt = 31 := by decide
    omega
theorem yw_isMask1 {post : Int32 → Prop} {M : Nat} (hM : M < 32) (h : post 1) : wpY_isMask post (ye, yf, yt, ys, yh, yp, yc) (nI M) := by
  unfold wpY_isMask
  exact br_f (nI_pos (by omega)) (rl_lt_f 31 M (by omega) h)
theorem yw_isNode0 {post : Int32 → Prop} {x : Int32} (hx : x < 0 ∨ 5 ≤ x) (h : post 0) : wpY_isNode post (ye, yf, yt, ys, yh, yp, yc) x := by
  unfold wpY_isNode
  rcases hx with z | z
  · exact br_t z h
  · refine br_c (fun _ => h) (fun _ => br_t ?_ h)
    rw [Int32.le_iff_toInt_le] at z
    rw [Int32.lt_iff_toInt_lt]
    have h1 : (5 : Int32).toInt = 5 := by decide
    have h2 : (4 : Int32).toInt = 4 := by decide
    omega
theorem yw_isNode1 {post : Int32 → Prop} {a : Nat} (ha : a < 5) (h : post 1) : wpY_isNode post (ye, yf, yt, ys, yh, yp, yc) (nI a) := by
  unfold wpY_isNode
  exact br_f (nI_pos (by omega)) (rl_lt_f 4 a (by omega) h)
theorem yw_isEdge0 {post : Int32 → Prop} {m : Nat} {x : Int32} (he : ye = nI m) (hx : x < 0 ∨ nI m ≤ x) (h : post 0) : wpY_isEdge post (ye, yf, yt, ys, yh, yp, yc) x := by
  subst he
  unfold wpY_isEdge
  rcases hx with z | z
  · exact br_t z h
  · exact br_c (fun _ => h) (fun _ => br_t z h)
theorem yw_isEdge1 {post : Int32 → Prop} {m i : Nat} (hm : m ≤ 12) (he : ye = nI m) (hi : i < m) (h : post 1) : wpY_isEdge post (ye, yf, yt, ys, yh, yp, yc) (nI i) := by
  subst he
  unfold wpY_isEdge
  exact br_f (nI_pos (by omega)) (rl_le_f m i hi h)
def gr_yw (m : Nat) (f t s h : Nat → Int32) (M S : Nat) : Int64 := if gr_st h 12 S m = true ∧ tb_cn (gr_wy f t S m) M = true then gr_wo m s h 12 S 12 else 0
theorem yw_weight_17 {post : Int64 → SY → Prop} {m M : Nat} (hG : gr_F m yf yt) (H : gr_H m ys yh) (he : ye = nI m) (hM : M < 32) (h : ∀ p' : Nat → Int32, post (s6_s (gr_yw m yf yt ys yh M) (2 ^ m)) (ye, yf, yt, ys, yh, p', yc)) : ∃ n17 : Nat, wY_weight_17 post (nI M) n17 0 0 ye yf yt ys yh yp yc := by
  have hm := hG.1
  have hp := rl_p12 hm
  refine loop_0 (fun n S (s : Int64 × (Nat → Int32)) => wY_weight_17 post (nI M) n s.1 (nI S) ye yf yt ys yh (s.2) yc) (fun S s => s.1 = s6_s (gr_yw m yf yt ys yh M) S) (2 ^ m) (0, yp) rfl ?_ ?_
  · intro n s e
    rw [wY_weight_17]
    refine yw_sets hm he ?_
    refine rl_le_t (2 ^ m) (2 ^ m) (by omega) ?_
    rw [e]; exact h s.2
  · intro n S s hS e k
    have hS' : S < 2 ^ 31 := by omega
    have u : s6_s (gr_yw m yf yt ys yh M) (S + 1) = s.1 + gr_yw m yf yt ys yh M S := by rw [e]; rfl
    rw [wY_weight_17]
    refine yw_sets hm he ?_
    refine rl_le_f (2 ^ m) S hS (yw_isState hm H he hS' rl_no (rl_bc _ (fun z => nm_r (nI_1 S) (k (s.1, s.2) ?_)) (fun z => yw_connects hG he hS' hM (fun p' => rl_bc _ (fun z2 => nm_r (nI_1 S) (k (s.1, p') ?_)) (fun z2 => yw_weightOf hm H he hS' rl_no (nm_e (nm_r (nI_1 S) (k (s.1 + gr_wo m ys yh 12 S 12, p') ?_))))))))
    · rw [u]; unfold gr_yw; rw [if_neg (fun q => by rw [z] at q; cases q.1)]; grind
    · rw [u]; unfold gr_yw; rw [if_neg (fun q => by rw [z2] at q; cases q.2)]; grind
    · rw [u]; unfold gr_yw; rw [if_pos ⟨z, z2⟩]
def gr_ys (m : Nat) (f t h : Nat → Int32) (M : Nat) (x : Int32) (S : Nat) : Int32 := if nI (gw_on S 12) = x ∧ gr_st h 12 S m = true ∧ tb_cn (gr_wy f t S m) M = true then 1 else 0
theorem yw_states_15 {post : Int32 → SY → Prop} {m M : Nat} {x : Int32} (hG : gr_F m yf yt) (H : gr_H m ys yh) (he : ye = nI m) (hM : M < 32) (h : ∀ p' : Nat → Int32, post (s3_s (gr_ys m yf yt yh M x) (2 ^ m)) (ye, yf, yt, ys, yh, p', yc)) : ∃ n15 : Nat, wY_states_15 post (nI M) x n15 0 0 ye yf yt ys yh yp yc := by
  have hm := hG.1
  have hp := rl_p12 hm
  refine loop_0 (fun n S (s : Int32 × (Nat → Int32)) => wY_states_15 post (nI M) x n s.1 (nI S) ye yf yt ys yh (s.2) yc) (fun S s => s.1 = s3_s (gr_ys m yf yt yh M x) S) (2 ^ m) (0, yp) rfl ?_ ?_
  · intro n s e
    rw [wY_states_15]
    refine yw_sets hm he ?_
    refine rl_le_t (2 ^ m) (2 ^ m) (by omega) ?_
    rw [e]; exact h s.2
  · intro n S s hS e k
    have hS' : S < 2 ^ 31 := by omega
    have u : s3_s (gr_ys m yf yt yh M x) (S + 1) = s.1 + gr_ys m yf yt yh M x S := by rw [e]; rfl
    rw [wY_states_15]
    refine yw_sets hm he ?_
    refine rl_le_f (2 ^ m) S hS (yw_ones hS' (br_c (fun z0 => yw_isState hm H he hS' rl_no (rl_bc _ (fun z => nm_r (nI_1 S) (k (s.1, s.2) ?_)) (fun z => yw_connects hG he hS' hM (fun p' => rl_bc _ (fun z2 => nm_r (nI_1 S) (k (s.1, p') ?_)) (fun z2 => nm_e (nm_r (nI_1 S) (k (s.1 + 1, p') ?_))))))) (fun z0 => nm_r (nI_1 S) (k (s.1, s.2) ?_))))
    · rw [u]; unfold gr_ys; rw [if_neg (fun q => by rw [z] at q; cases q.2.1)]; grind
    · rw [u]; unfold gr_ys; rw [if_neg (fun q => by rw [z2] at q; cases q.2.2)]; grind
    · rw [u]; unfold gr_ys; rw [if_pos ⟨z0, z, z2⟩]
    · rw [u]; unfold gr_ys; rw [if_neg (fun q => z0 q.1)]; grind
def gr_yp (m : Nat) (f t s h : Nat → Int32) (x : Int32) (S : Nat) : Int64 := if gr_st h 12 S m = true ∧ nI (tb_pt (gr_wy f t S m)) = x then gr_wo m s h 12 S 12 else 0
theorem yw_parts_5 {post : Int64 → SY → Prop} {m : Nat} {x : Int32} (hG : gr_F m yf yt) (H : gr_H m ys yh) (he : ye = nI m) (h : ∀ p' : Nat → Int32, post (s6_s (gr_yp m yf yt ys yh x) (2 ^ m)) (ye, yf, yt, ys, yh, p', yc)) : ∃ n5 : Nat, wY_parts_5 post x n5 0 0 ye yf yt ys yh yp yc := by
  have hm := hG.1
  have hp := rl_p12 hm
  refine loop_0 (fun n S (s : Int64 × (Nat → Int32)) => wY_parts_5 post x n s.1 (nI S) ye yf yt ys yh (s.2) yc) (fun S s => s.1 = s6_s (gr_yp m yf yt ys yh x) S) (2 ^ m) (0, yp) rfl ?_ ?_
  · intro n s e
    rw [wY_parts_5]
    refine yw_sets hm he ?_
    refine rl_le_t (2 ^ m) (2 ^ m) (by omega) ?_
    rw [e]; exact h s.2
  · intro n S s hS e k
    have hS' : S < 2 ^ 31 := by omega
    have u : s6_s (gr_yp m yf yt ys yh x) (S + 1) = s.1 + gr_yp m yf yt ys yh x S := by rw [e]; rfl
    rw [wY_parts_5]
    refine yw_sets hm he ?_
    refine rl_le_f (2 ^ m) S hS (yw_isState hm H he hS' rl_no (rl_bc _ (fun z => nm_r (nI_1 S) (k (s.1, s.2) ?_)) (fun z => yw_countParts hG he hS' (fun p' => br_c (fun z2 => yw_weightOf hm H he hS' rl_no (nm_e (nm_r (nI_1 S) (k (s.1 + gr_wo m ys yh 12 S 12, p') ?_)))) (fun z2 => nm_r (nI_1 S) (k (s.1, p') ?_))))))
    · rw [u]; unfold gr_yp; rw [if_neg (fun q => by rw [z] at q; cases q.1)]; grind
    · rw [u]; unfold gr_yp; rw [if_pos ⟨z, z2⟩]
    · rw [u]; unfold gr_yp; rw [if_neg (fun q => z2 q.2)]; grind
def gr_yq (m : Nat) (f t s h : Nat → Int32) (S : Nat) : Int64 := if gr_st h 12 S m = true then gr_wo m s h 12 S 12 * lN (tb_pp (gr_wy f t S m)) else 0
theorem yw_pairs_4 {post : Int64 → SY → Prop} {m : Nat} (hG : gr_F m yf yt) (H : gr_H m ys yh) (he : ye = nI m) (h : ∀ p' : Nat → Int32, post (s6_s (gr_yq m yf yt ys yh) (2 ^ m)) (ye, yf, yt, ys, yh, p', yc)) : ∃ n4 : Nat, wY_pairs_4 post n4 0 0 ye yf yt ys yh yp yc := by
  have hm := hG.1
  have hp := rl_p12 hm
  refine loop_0 (fun n S (s : Int64 × (Nat → Int32)) => wY_pairs_4 post n s.1 (nI S) ye yf yt ys yh (s.2) yc) (fun S s => s.1 = s6_s (gr_yq m yf yt ys yh) S) (2 ^ m) (0, yp) rfl ?_ ?_
  · intro n s e
    rw [wY_pairs_4]
    refine yw_sets hm he ?_
    refine rl_le_t (2 ^ m) (2 ^ m) (by omega) ?_
    rw [e]; exact h s.2
  · intro n S s hS e k
    have hS' : S < 2 ^ 31 := by omega
    have hw : gr_wy yf yt S m < 52 := gw_wy_lt (gr_ok hG) m (by omega)
    have hpp := tb_pp_10 hw
    have u : s6_s (gr_yq m yf yt ys yh) (S + 1) = s.1 + gr_yq m yf yt ys yh S := by rw [e]; rfl
    rw [wY_pairs_4]
    refine yw_sets hm he ?_
    refine rl_le_f (2 ^ m) S hS (yw_isState hm H he hS' rl_no (rl_bc _ (fun z => nm_r (nI_1 S) (k (s.1, s.2) ?_)) (fun z => yw_connectedPairs hG he hS' (fun p' => yw_weightOf hm H he hS' rl_no (nm_e (nm_r (nI_1 S) (k (s.1 + gr_wo m ys yh 12 S 12 * (nI (tb_pp (gr_wy yf yt S m))).toInt64, p') ?_)))))))
    · rw [u]; unfold gr_yq; rw [if_neg (fun q => by rw [z] at q; cases q)]; grind
    · rw [u]; unfold gr_yq; rw [if_pos z, nI_l (by omega)]
def gr_yv (m : Nat) (f t s h : Nat → Int32) (M i S : Nat) : Int64 := if S.testBit i = false ∧ gr_st h i S m = true ∧ tb_cn (gr_wy f t S m) M = false ∧ tb_cn (gr_wy f t (S ||| 2 ^ i) m) M = true then gr_wo m s h i S 12 else 0
theorem yw_pivotal_29 {post : Int64 → SY → Prop} {m M i : Nat} (hG : gr_F m yf yt) (H : gr_H m ys yh) (he : ye = nI m) (hM : M < 32) (hi : i < m) (h : ∀ p' : Nat → Int32, post (s6_s (gr_yv m yf yt ys yh M i) (2 ^ m)) (ye, yf, yt, ys, yh, p', yc)) : ∃ n29 : Nat, wY_pivotal_29 post (nI M) (nI i) n29 0 0 ye yf yt ys yh yp yc := by
  have hm := hG.1
  have hp := rl_p12 hm
  refine loop_0 (fun n S (s : Int64 × (Nat → Int32)) => wY_pivotal_29 post (nI M) (nI i) n s.1 (nI S) ye yf yt ys yh (s.2) yc) (fun S s => s.1 = s6_s (gr_yv m yf yt ys yh M i) S) (2 ^ m) (0, yp) rfl ?_ ?_
  · intro n s e
    rw [wY_pivotal_29]
    refine yw_sets hm he ?_
    refine rl_le_t (2 ^ m) (2 ^ m) (by omega) ?_
    rw [e]; exact h s.2
  · intro n S s hS e k
    have hS' : S < 2 ^ 31 := by omega
    have hi2 : 2 ^ i < 2 ^ 31 := Nat.pow_lt_pow_right (by omega) (by omega)
    have u : s6_s (gr_yv m yf yt ys yh M i) (S + 1) = s.1 + gr_yv m yf yt ys yh M i S := by rw [e]; rfl
    have eo : nI S ||| ((1 : Int32) <<< (nI i &&& 31)) = nI (S ||| 2 ^ i) := by rw [rl_shl (by omega), rl_or]
    rw [wY_pivotal_29]
    refine yw_sets hm he ?_
    refine rl_le_f (2 ^ m) S hS (yw_in hS' (by omega) ?_)
    rw [eo]
    refine rl_bc _ (fun z0 => yw_isState hm H he hS' (rl_ye (by omega)) (rl_bc _ (fun z => nm_r (nI_1 S) (k (s.1, s.2) ?_)) (fun z => yw_connects hG he hS' hM (fun p' => rl_bc _ (fun z2 => yw_connects hG he (rl_or31 hS' hi2) hM (fun p2 => rl_bc _ (fun z3 => nm_r (nI_1 S) (k (s.1, p2) ?_)) (fun z3 => yw_weightOf hm H he hS' (rl_ye (by omega)) (nm_e (nm_r (nI_1 S) (k (s.1 + gr_wo m ys yh i S 12, p2) ?_)))))) (fun z2 => nm_r (nI_1 S) (k (s.1, p') ?_)))))) (fun z0 => nm_r (nI_1 S) (k (s.1, s.2) ?_))
    · rw [u]; unfold gr_yv; rw [if_neg (fun q => by rw [z] at q; cases q.2.1)]; grind
    · rw [u]; unfold gr_yv; rw [if_neg (fun q => by rw [z3] at q; cases q.2.2.2)]; grind
    · rw [u]; unfold gr_yv; rw [if_pos ⟨z0, z, z2, z3⟩]
    · rw [u]; unfold gr_yv; rw [if_neg (fun q => by rw [z2] at q; cases q.2.2.1)]; grind
    · rw [u]; unfold gr_yv; rw [if_neg (fun q => by rw [z0] at q; cases q.1)]; grind
def gr_yf (m : Nat) (f t : Nat → Int32) (x : Int32) (S : Nat) : Int32 := if nI (gw_on S 12) = x ∧ nI (tb_pt (gr_wy f t S m)) = 5 - x then 1 else 0
theorem yw_forests_4 {post : Int32 → SY → Prop} {m : Nat} {x : Int32} (hG : gr_F m yf yt) (he : ye = nI m) (h : ∀ p' : Nat → Int32, post (s3_s (gr_yf m yf yt x) (2 ^ m)) (ye, yf, yt, ys, yh, p', yc)) : ∃ n4 : Nat, wY_forests_4 post x n4 0 0 ye yf yt ys yh yp yc := by
  have hm := hG.1
  have hp := rl_p12 hm
  refine loop_0 (fun n S (s : Int32 × (Nat → Int32)) => wY_forests_4 post x n s.1 (nI S) ye yf yt ys yh (s.2) yc) (fun S s => s.1 = s3_s (gr_yf m yf yt x) S) (2 ^ m) (0, yp) rfl ?_ ?_
  · intro n s e
    rw [wY_forests_4]
    refine yw_sets hm he ?_
    refine rl_le_t (2 ^ m) (2 ^ m) (by omega) ?_
    rw [e]; exact h s.2
  · intro n S s hS e k
    have hS' : S < 2 ^ 31 := by omega
    have u : s3_s (gr_yf m yf yt x) (S + 1) = s.1 + gr_yf m yf yt x S := by rw [e]; rfl
    rw [wY_forests_4]
    refine yw_sets hm he ?_
    refine rl_le_f (2 ^ m) S hS (yw_ones hS' (br_c (fun z0 => yw_countParts hG he hS' (fun p' => br_c (fun z2 => nm_e (nm_r (nI_1 S) (k (s.1 + 1, p') ?_))) (fun z2 => nm_r (nI_1 S) (k (s.1, p') ?_)))) (fun z0 => nm_r (nI_1 S) (k (s.1, s.2) ?_))))
    · rw [u]; unfold gr_yf; rw [if_pos ⟨z0, z2⟩]
    · rw [u]; unfold gr_yf; rw [if_neg (fun q => z2 q.2)]; grind
    · rw [u]; unfold gr_yf; rw [if_neg (fun q => z0 q.1)]; grind
theorem yw_power {post : Int32 → Prop} {x e : Int32} (h : post (gr_pw x e.toNatClampNeg)) : wpY_power post (ye, yf, yt, ys, yh, yp, yc) x e := by
  show ∃ n5 : Nat, wY_power_5 post x e ye yf yt ys yh yp yc n5 1 0
  by_cases he : e < 0
  · refine ⟨1, br_t ?_ ?_⟩
    · rw [Int32.lt_iff_toInt_lt] at he
      rw [Int32.le_iff_toInt_le]
      omega
    · have : e.toNatClampNeg = 0 := by
        rw [Int32.lt_iff_toInt_lt] at he
        have h0 : (0 : Int32).toInt = 0 := by decide
        have hc : e.toNatClampNeg = e.toInt.toNat := rfl
        omega
      rw [this] at h; exact h
  · obtain ⟨k, hk, rfl⟩ := nI_of he
    rw [nI_clamp hk] at h
    refine loop_0 (fun n j (r : Int32) => wY_power_5 post x (nI k) ye yf yt ys yh yp yc n r (nI j)) (fun j r => r = gr_pw x j) k 1 rfl ?_ ?_
    · intro n s e; subst e
      exact rl_le_t k k (Nat.le_refl k) h
    · intro n j s hj e kk; subst e
      exact rl_le_f k j hj (nm_e (nm_r (nI_1 j) (kk _ rfl)))
def gr_yg (m : Nat) (f t : Nat → Int32) (x y : Int32) (le S : Nat) : Int32 := gr_pw x (tb_pt (gr_wy f t S m) - le) * gr_pw y (gw_on S 12 + tb_pt (gr_wy f t S m) - 5)
theorem yw_polynomial_44 {post : Int32 → SY → Prop} {m le : Nat} {x y : Int32} (hG : gr_F m yf yt) (he : ye = nI m) (hl : le ≤ 5) (h : ∀ p' : Nat → Int32, post (s3_s (gr_yg m yf yt x y le) (2 ^ m)) (ye, yf, yt, ys, yh, p', yc)) : ∃ n44 : Nat, wY_polynomial_44 post x y (nI le) n44 0 0 ye yf yt ys yh yp yc := by
  have hm := hG.1
  have hp := rl_p12 hm
  refine loop_0 (fun n S (s : Int32 × (Nat → Int32)) => wY_polynomial_44 post x y (nI le) n s.1 (nI S) ye yf yt ys yh (s.2) yc) (fun S s => s.1 = s3_s (gr_yg m yf yt x y le) S) (2 ^ m) (0, yp) rfl ?_ ?_
  · intro n s e
    rw [wY_polynomial_44]
    refine yw_sets hm he ?_
    refine rl_le_t (2 ^ m) (2 ^ m) (by omega) ?_
    rw [e]; exact h s.2
  · intro n S s hS e k
    have hS' : S < 2 ^ 31 := by omega
    have hw : gr_wy yf yt S m < 52 := gw_wy_lt (gr_ok hG) m (by omega)
    have hpt := tb_pt_5 hw
    have hon := gw_on_le (S := S) 12
    have u : s3_s (gr_yg m yf yt x y le) (S + 1) = s.1 + gr_yg m yf yt x y le S := by rw [e]; rfl
    have s1 : (nI (tb_pt (gr_wy yf yt S m)) - nI le).toNatClampNeg = tb_pt (gr_wy yf yt S m) - le := rl_subc (by omega) (by omega)
    have s2 : (nI (gw_on S 12) + nI (tb_pt (gr_wy yf yt S m)) - 5).toNatClampNeg = gw_on S 12 + tb_pt (gr_wy yf yt S m) - 5 := by
      rw [nI_add]; exact rl_subc (b := 5) (by omega) (by omega)
    rw [wY_polynomial_44]
    refine yw_sets hm he ?_
    refine rl_le_f (2 ^ m) S hS (yw_countParts hG he hS' (fun p' => yw_ones hS' (yw_power (yw_power (nm_e (nm_r (nI_1 S) (k (_, p') ?_)))))))
    rw [u, s1, s2]; rfl
end
end
section
def gc_c (q c v : Nat) : Nat := c / q ^ v % q
def gc_g (f t : Nat → Int32) (q c : Nat) : Nat → Bool
  | 0 => true
  | i + 1 => gc_g f t q c i && decide (gc_c q c (gr_n f i) ≠ gc_c q c (gr_n t i))
section
variable {ye : Int32} {yf : Nat → Int32} {yt : Nat → Int32} {ys : Nat → Int32} {yh : Nat → Int32} {yp : Nat → Int32} {yc : Nat → Int32}
theorem yw_colourings_78 {post : Int32 → SY → Prop} {J : Int32 → Int32 → (Nat → Int32) → (Nat → Int32) → (Nat → Int32) → (Nat → Int32) → (Nat → Int32) → (Nat → Int32) → Prop} {m q c : Nat} {x1 x2 x3 : Int32} (hG : gr_F m yf yt) (he : ye = nI m) (hq : q ≤ 4) (hc : c < 1024) (hcol : ∀ v, v < 5 → yc v = nI (gc_c q c v))
    (h : J (x3 + rl_b (gc_g yf yt q c m)) (nI (c + 1)) yf yt ys yh yp yc) : ∃ n78 : Nat, wY_colourings_78 post J x1 x2 x3 (nI c) ye yf yt ys yh yp yc n78 1 0 := by
  subst he
  have hm := hG.1
  refine loop_0 (fun n j (r : Int32) => wY_colourings_78 post J x1 x2 x3 (nI c) (nI m) yf yt ys yh yp yc n r (nI j)) (fun j r => r = rl_b (gc_g yf yt q c j)) m 1 rfl ?_ ?_
  · intro n s e; subst e
    refine rl_le_t m m (by omega) (rl_bc _ (fun z => nm_r (nI_1 c) ?_) (fun z => nm_e (nm_r (nI_1 c) ?_)))
    · rw [z] at h
      have e0 : x3 + rl_b false = x3 := by show x3 + 0 = x3; grind
      rw [e0] at h; exact h
    · rw [z] at h; exact h
  · intro n j s hj e k; subst e
    obtain ⟨ef, et, f1, f2, f3⟩ := hG.2 j hj
    have hv : vp_in (nI j) 12 := vp_in_nI (by omega) (by omega)
    have u : gc_g yf yt q c (j + 1) = (gc_g yf yt q c j && decide (gc_c q c (gr_n yf j) ≠ gc_c q c (gr_n yt j))) := rfl
    have cb : ∀ v, gc_c q c v < 2 ^ 31 := fun v => Nat.lt_of_le_of_lt (Nat.mod_le _ _) (Nat.lt_of_le_of_lt (Nat.div_le_self _ _) (by omega))
    refine rl_le_f m j hj (rl_bc _ (fun z => nm_r (nI_1 j) (k 0 ?_)) (fun z => ⟨hv, ?_⟩))
    · rw [u, z]; rfl
    · rw [z, Bool.true_and] at u
      rw [rl_cl, ef, et]
      refine ⟨vp_in_nI f1 (by omega), hv, vp_in_nI f2 (by omega), ?_⟩
      rw [rl_cl, rl_cl, hcol _ f1, hcol _ f2]
      refine pk_eq (gc_c q c (gr_n yf j)) (gc_c q c (gr_n yt j)) (fun y => nm_r (nI_1 j) (k 0 ?_)) (fun y => nm_r (nI_1 j) (k 1 ?_)) rfl rfl (cb _) (cb _)
      · rw [u, decide_eq_false (fun x => x y)]; rfl
      · rw [u, decide_eq_true y]; rfl
theorem yw_colourings_42 {post : Int32 → SY → Prop} {J : Int32 → Int32 → (Nat → Int32) → (Nat → Int32) → (Nat → Int32) → (Nat → Int32) → (Nat → Int32) → (Nat → Int32) → Prop} {m q c : Nat} {x2 x3 : Int32} (hG : gr_F m yf yt) (he : ye = nI m) (hq0 : 0 < q) (hq : q ≤ 4) (hc : c < 1024)
    (h : ∀ c' : Nat → Int32, J (x3 + rl_b (gc_g yf yt q c m)) (nI (c + 1)) yf yt ys yh yp c') : ∃ n42 : Nat, wY_colourings_42 post J (nI q) x2 x3 (nI c) 1 ye n42 (nI c) 0 yf yt ys yh yp yc := by
  refine loop_0 (fun n j (s : Int32 × (Nat → Int32)) => wY_colourings_42 post J (nI q) x2 x3 (nI c) 1 ye n s.1 (nI j) yf yt ys yh yp (s.2)) (fun j s => s.1 = nI (c / q ^ j) ∧ ∀ v, v < j → s.2 v = nI (gc_c q c v)) 5 (nI c, yc) ⟨by rw [Nat.pow_zero, Nat.div_one], fun v hv => absurd hv (Nat.not_lt_zero v)⟩ ?_ ?_
  · intro n s ⟨_, e⟩
    exact rl_le_t 5 5 (by omega) (yw_colourings_78 hG he hq hc e (h s.2))
  · intro n j s hj ⟨e1, e2⟩ k
    have hd : c / q ^ j < 2 ^ 31 := Nat.lt_of_le_of_lt (Nat.div_le_self _ _) (by omega)
    have nz : ¬ nI q = 0 := nI_ne0 hq0 (by omega)
    have er : s.1 - s.1 / nI q * nI q = nI (gc_c q c j) := by rw [e1, pk_rem hd hq0 (by omega)]; rfl
    have ed : s.1 / nI q = nI (c / q ^ (j + 1)) := by rw [e1, pk_div hd hq0 (by omega), Nat.div_div_eq_div_mul, ← Nat.pow_succ]
    refine rl_le_f 5 j hj (br_f (nI_nle hq0 (by omega)) ⟨nz, vp_in_nI hj (by omega), nm_e ⟨nz, nm_r ed (nm_r (nI_1 j) (k (_, _) ⟨rfl, ?_⟩))⟩⟩)
    intro v hv
    show upd _ _ _ _ = _
    rw [rl_cl, er]
    by_cases y : v = j
    · subst y; rw [pk_us]
    · rw [pk_un y]; exact e2 v (by omega)
theorem yw_colourings_26 {post : Int32 → SY → Prop} {m q : Nat} (hG : gr_F m yf yt) (he : ye = nI m) (hq : q ≤ 4)
    (h : ∀ c' : Nat → Int32, post (s3_s (fun c => rl_b (gc_g yf yt q c m)) (q ^ 5)) (ye, yf, yt, ys, yh, yp, c')) : ∃ n26 : Nat, wY_colourings_26 post (nI q) (nI (q ^ 5)) ye n26 0 0 yf yt ys yh yp yc := by
  have h5 : q ^ 5 ≤ 4 ^ 5 := Nat.pow_le_pow_left hq 5
  refine loop_0 (fun n c (s : Int32 × (Nat → Int32)) => wY_colourings_26 post (nI q) (nI (q ^ 5)) ye n s.1 (nI c) yf yt ys yh yp (s.2)) (fun c s => s.1 = s3_s (fun c => rl_b (gc_g yf yt q c m)) c) (q ^ 5) (0, yc) rfl ?_ ?_
  · intro n s e
    refine rl_le_t (q ^ 5) (q ^ 5) (Nat.le_refl _) ?_
    rw [e]; exact h s.2
  · intro n c s hc e k
    have hq0 : 0 < q := by
      rcases Nat.eq_zero_or_pos q with z | z
      · subst z; omega
      · exact z
    refine rl_le_f (q ^ 5) c hc (yw_colourings_42 hG he hq0 hq (by omega) (fun c' => k (_, c') ?_))
    dsimp only
    rw [e]; rfl
end
end
section
theorem gr_wo_hi {m bu S : Nat} {s h : Nat → Int32} (hb : bu = 12 ∨ bu < m) : ∀ d, m + d ≤ 12 → gr_wo m s h bu S (m + d) = gr_wo m s h bu S m * lN (2 ^ (4 * d))
  | 0, _ => by show _ = _ * lN 1; show _ = _ * (1 : Int64); grind
  | d + 1, hd => by
    have u : gr_wo m s h bu S (m + (d + 1)) = if m + d = bu then gr_wo m s h bu S (m + d) else gr_wo m s h bu S (m + d) * (if m + d < m ∧ gr_n h (m + d) = 2 then (if S.testBit (m + d) = true then lN (gr_n s (m + d)) else lN (16 - gr_n s (m + d))) else 16) := rfl
    have n1 : ¬ (m + d = bu) := by omega
    have n2 : ¬ (m + d < m ∧ gr_n h (m + d) = 2) := by omega
    rw [u, if_neg n1, if_neg n2, gr_wo_hi hb d (by omega)]
    have e : lN (2 ^ (4 * (d + 1))) = lN (2 ^ (4 * d)) * 16 := by
      rw [show 2 ^ (4 * (d + 1)) = 2 ^ (4 * d) * 16 by rw [show 4 * (d + 1) = 4 * d + 4 by omega, Nat.pow_add], ← lN_mul]; rfl
    rw [e]
    grind
theorem gr_wt_lo {m bu S : Nat} {s h : Nat → Int32} (H : gr_H m s h) (hS : bu < m → S.testBit bu = false) :
    ∀ i, i ≤ m → gr_wt m s h bu S i = lN (2 ^ (4 * (12 - m))) * (if gr_st h bu S i = true then gr_wo m s h bu S i else 0)
  | 0, _ => by
    show lN (2 ^ (4 * (12 - m))) = lN (2 ^ (4 * (12 - m))) * (if true = true then 1 else 0)
    rw [if_pos rfl]; grind
  | i + 1, hi => by
    have ih := gr_wt_lo (bu := bu) (S := S) H hS i (by omega)
    obtain ⟨_, _, h3, h4⟩ := H i (by omega)
    have u1 : gr_wt m s h bu S (i + 1) = gr_wt m s h bu S i * (if S.testBit i = true then gr_fu s h bu i else gr_fd s h bu i) := rfl
    have u2 : gr_wo m s h bu S (i + 1) = if i = bu then gr_wo m s h bu S i else gr_wo m s h bu S i * (if i < m ∧ gr_n h i = 2 then (if S.testBit i = true then lN (gr_n s i) else lN (16 - gr_n s i)) else 16) := rfl
    have u3 : gr_st h bu S (i + 1) = (gr_st h bu S i && (decide (i = bu) || (decide (gr_n h i = 2) || (decide (gr_n h i = 1) == S.testBit i)))) := rfl
    rw [u1, u2, u3, ih]
    have him : i < m := by omega
    unfold gr_fu gr_fd gr_up gr_dn
    by_cases hb : i = bu
    · have := hS (by omega)
      rw [← hb] at this
      simp [hb, this]
      rw [← hb, this]
      simp
    · have e16 : lN 16 = 16 := rfl
      have e0 : lN 0 = 0 := rfl
      rcases Nat.lt_or_ge (gr_n h i) 1 with z | z
      · have z : gr_n h i = 0 := by omega
        cases hS' : S.testBit i
        · simp [hb, z, e16]
          split <;> grind
        · simp [hb, z, e0]
      · rcases Nat.lt_or_ge (gr_n h i) 2 with z2 | z2
        · have z : gr_n h i = 1 := by omega
          cases hS' : S.testBit i
          · simp [hb, z, e0]
          · simp [hb, z, e16]
            split <;> grind
        · have z : gr_n h i = 2 := by omega
          cases hS' : S.testBit i
          · simp [hb, z, him]
            split <;> grind
          · simp [hb, z, him]
            split <;> grind
theorem gr_wt_eq {m bu S : Nat} {s h : Nat → Int32} (hm : m ≤ 12) (H : gr_H m s h) (hb : bu = 12 ∨ bu < m) (hS : bu < m → S.testBit bu = false) :
    gr_wt m s h bu S m = if gr_st h bu S m = true then gr_wo m s h bu S 12 else 0 := by
  rw [gr_wt_lo H hS m (Nat.le_refl m)]
  have := gr_wo_hi (m := m) (S := S) (s := s) (h := h) hb (12 - m) (by omega)
  rw [show m + (12 - m) = 12 by omega] at this
  rw [this]
  split <;> grind
theorem s6_wt_z {c : Int64} {fu fd : Nat → Int64} {S k : Nat} (hS : S.testBit k = true) (hf : fu k = 0) : ∀ i, k < i → s6_wt c fu fd S i = 0
  | 0, h => absurd h (Nat.not_lt_zero k)
  | i + 1, h => by
    show s6_wt c fu fd S i * (if S.testBit i = true then fu i else fd i) = 0
    by_cases hk : k = i
    · subst hk
      rw [if_pos hS, hf]; grind
    · rw [s6_wt_z hS hf i (by omega)]; grind
theorem gr_wt_z {m bu S : Nat} {s h : Nat → Int32} (hb : bu < m) (hS : S.testBit bu = true) : gr_wt m s h bu S m = 0 :=
  s6_wt_z hS (if_pos rfl) m hb
theorem s3_wt_1 {S : Nat} : ∀ i, s3_wt 1 (fun _ => 1) (fun _ => 1) S i = 1
  | 0 => rfl
  | i + 1 => by
    show s3_wt 1 (fun _ => 1) (fun _ => 1) S i * (if S.testBit i = true then 1 else 1) = 1
    rw [s3_wt_1 i]; split <;> rfl
theorem gr_ct_eq {m S : Nat} {s h : Nat → Int32} (hm : m ≤ 12) (H : gr_H m s h) : ∀ i, i ≤ m → s3_wt 1 (gr_cu h) (gr_cd h) S i = if gr_st h 12 S i = true then 1 else 0
  | 0, _ => rfl
  | i + 1, hi => by
    have ih := gr_ct_eq (S := S) hm H i (by omega)
    obtain ⟨_, _, h3, h4⟩ := H i (by omega)
    have u1 : s3_wt 1 (gr_cu h) (gr_cd h) S (i + 1) = s3_wt 1 (gr_cu h) (gr_cd h) S i * (if S.testBit i = true then gr_cu h i else gr_cd h i) := rfl
    have u3 : gr_st h 12 S (i + 1) = (gr_st h 12 S i && (decide (i = 12) || (decide (gr_n h i = 2) || (decide (gr_n h i = 1) == S.testBit i)))) := rfl
    have hb : ¬ i = 12 := by omega
    rw [u1, u3, ih]
    unfold gr_cu gr_cd
    rcases Nat.lt_or_ge (gr_n h i) 1 with z | z
    · have z : gr_n h i = 0 := by omega
      cases hS' : S.testBit i <;> simp [hb, z]
    · rcases Nat.lt_or_ge (gr_n h i) 2 with z2 | z2
      · have z : gr_n h i = 1 := by omega
        cases hS' : S.testBit i <;> simp [hb, z]
      · have z : gr_n h i = 2 := by omega
        cases hS' : S.testBit i <;> simp [hb, z]
theorem s3_row (f : Nat → Int32) (k : Nat) : ∀ r, s3_s (fun c => if c / 52 = k then f c else 0) (r * 52) = if k < r then s3_s (fun w => f (k * 52 + w)) 52 else 0
  | 0 => by rw [Nat.zero_mul]; rfl
  | r + 1 => by
    rw [Nat.succ_mul, s3_app, s3_row f k r]
    by_cases hk : k = r
    · subst hk
      rw [if_neg (Nat.lt_irrefl k), if_pos (Nat.lt_succ_self k), s3_congr (g := fun w => f (k * 52 + w)) (fun j hj => ?_)]
      · grind
      · show (if (k * 52 + j) / 52 = k then _ else _) = _
        rw [if_pos (by omega)]
    · rw [s3_congr (f := fun j => if (r * 52 + j) / 52 = k then f (r * 52 + j) else 0) (g := fun _ => 0) (fun j hj => ?_), s3_zero]
      · by_cases h2 : k < r
        · rw [if_pos h2, if_pos (by omega)]; grind
        · rw [if_neg h2, if_neg (by omega)]; grind
      · show (if (r * 52 + j) / 52 = k then _ else _) = _
        rw [if_neg (by omega)]
section
variable {m : Nat} {f t s h : Nat → Int32} {W : Nat → Int64} {A B : Nat → Int32}
theorem rl_weight {M : Nat} (hG : gr_F m f t) (H : gr_H m s h) (K : gr_KW m f t s h 12 W m) : s6_s (fun w => W w * (if tb_cn w M = true then 1 else 0)) 52 = s6_s (gr_yw m f t s h M) (2 ^ m) := by
  rw [K (fun w => if tb_cn w M = true then 1 else 0)]
  refine s6_congr (fun S _ => ?_)
  have hm := hG.1
  rw [gr_wt_eq hm H (Or.inl rfl) (fun z => by omega)]
  unfold gr_yw
  by_cases h1 : gr_st h 12 S m = true
  · by_cases h2 : tb_cn (gr_wy f t S m) M = true
    · rw [if_pos h1, if_pos h2, if_pos ⟨h1, h2⟩]; grind
    · simp [h2]
  · simp [h1]
theorem rl_parts {x : Int32} (hG : gr_F m f t) (H : gr_H m s h) (K : gr_KW m f t s h 12 W m) : s6_s (fun w => W w * (if nI (tb_pt w) = x then 1 else 0)) 52 = s6_s (gr_yp m f t s h x) (2 ^ m) := by
  rw [K (fun w => if nI (tb_pt w) = x then 1 else 0)]
  refine s6_congr (fun S _ => ?_)
  have hm := hG.1
  rw [gr_wt_eq hm H (Or.inl rfl) (fun z => by omega)]
  unfold gr_yp
  by_cases h1 : gr_st h 12 S m = true
  · by_cases h2 : nI (tb_pt (gr_wy f t S m)) = x
    · rw [if_pos h1, if_pos h2, if_pos ⟨h1, h2⟩]; grind
    · simp [h2]
  · simp [h1]
theorem rl_pairs (hG : gr_F m f t) (H : gr_H m s h) (K : gr_KW m f t s h 12 W m) : s6_s (fun w => W w * lN (tb_pp w)) 52 = s6_s (gr_yq m f t s h) (2 ^ m) := by
  rw [K (fun w => lN (tb_pp w))]
  refine s6_congr (fun S _ => ?_)
  have hm := hG.1
  rw [gr_wt_eq hm H (Or.inl rfl) (fun z => by omega)]
  unfold gr_yq
  by_cases h1 : gr_st h 12 S m = true
  · rw [if_pos h1, if_pos h1]
  · rw [if_neg h1, if_neg h1]; grind
theorem rl_orb {S i j : Nat} : (S ||| 2 ^ i).testBit j = (S.testBit j || decide (i = j)) := by
  rw [Nat.testBit_or, Nat.testBit_two_pow]
theorem rl_pivotal {M i : Nat} (hG : gr_F m f t) (H : gr_H m s h) (hi : i < m) (K : gr_KW m f t s h i W m) :
    s6_s (fun w => W w * (if tb_cn w M = false ∧ tb_cn (tb_jo w (gr_n f i) (gr_n t i)) M = true then 1 else 0)) 52 = s6_s (gr_yv m f t s h M i) (2 ^ m) := by
  rw [K (fun w => if tb_cn w M = false ∧ tb_cn (tb_jo w (gr_n f i) (gr_n t i)) M = true then 1 else 0)]
  refine s6_congr (fun S _ => ?_)
  have hm := hG.1
  unfold gr_yv
  cases hb : S.testBit i
  · have e1 : gr_wy f t (S ||| 2 ^ i) m = tb_jo (gr_wy f t S m) (gr_n f i) (gr_n t i) :=
      (gw_ins (gr_ok hG) hb (by rw [rl_orb]; simp) (fun j _ hj => by rw [rl_orb, decide_eq_false (fun q => hj q.symm)]; simp) m hi (Nat.le_refl m)).1
    rw [gr_wt_eq hm H (Or.inr hi) (fun _ => hb), e1]
    by_cases h1 : gr_st h i S m = true
    · by_cases h2 : tb_cn (gr_wy f t S m) M = false ∧ tb_cn (tb_jo (gr_wy f t S m) (gr_n f i) (gr_n t i)) M = true
      · rw [if_pos h1, if_pos h2, if_pos ⟨rfl, h1, h2⟩]; grind
      · rw [if_neg h2, if_neg (show ¬ (_ ∧ _ ∧ _) from fun q => h2 q.2.2)]; grind
    · simp [h1]
  · rw [gr_wt_z hi hb]; simp
theorem gr_ps_div {S i : Nat} (hG : gr_F m f t) (hi : i ≤ m) : gr_ps f t S i / 52 = gw_on S i ∧ gr_ps f t S i % 52 = gr_wy f t S i := by
  have hw : gr_wy f t S i < 52 := gw_wy_lt (gr_ok hG) i hi
  unfold gr_ps
  omega
theorem gw_on_12 {S : Nat} (hm : m ≤ 12) (hS : S < 2 ^ m) : gw_on S 12 = gw_on S m := by
  have := gw_on_z hS (12 - m)
  rw [show m + (12 - m) = 12 by omega] at this
  exact this
theorem rl_states {M r : Nat} (hG : gr_F m f t) (H : gr_H m s h) (hr : r ≤ 12) (K : gr_KC f t h A m) : s3_s (fun w => A (r * 52 + w) * (if tb_cn w M = true then 1 else 0)) 52 = s3_s (gr_ys m f t h M (nI r)) (2 ^ m) := by
  have hm := hG.1
  have e := s3_row (fun c => A c * (if tb_cn (c % 52) M = true then 1 else 0)) r 13
  rw [if_pos (by omega)] at e
  rw [s3_congr (g := fun w => A (r * 52 + w) * (if tb_cn ((r * 52 + w) % 52) M = true then 1 else 0)) (fun w hw => by show A (r * 52 + w) * _ = A (r * 52 + w) * _; rw [show (r * 52 + w) % 52 = w by omega]), ← e]
  rw [s3_congr (g := fun c => A c * (if c / 52 = r ∧ tb_cn (c % 52) M = true then 1 else 0)) (fun c hc => ?_)]
  · show s3_s _ 676 = _
    rw [K (fun c => if c / 52 = r ∧ tb_cn (c % 52) M = true then 1 else 0)]
    refine s3_congr (fun S hS => ?_)
    obtain ⟨p1, p2⟩ := gr_ps_div (S := S) hG (Nat.le_refl m)
    rw [p1, p2, gr_ct_eq hm H m (Nat.le_refl m)]
    unfold gr_ys
    have hon := gw_on_le (S := S) m
    rw [gw_on_12 hm hS]
    have q : nI (gw_on S m) = nI r ↔ gw_on S m = r := nI_eq (by omega) (by omega)
    by_cases h1 : gr_st h 12 S m = true
    · by_cases h2 : gw_on S m = r ∧ tb_cn (gr_wy f t S m) M = true
      · rw [if_pos h1, if_pos h2, if_pos ⟨q.mpr h2.1, h1, h2.2⟩]; grind
      · have n3 : ¬ (nI (gw_on S m) = nI r ∧ gr_st h 12 S m = true ∧ tb_cn (gr_wy f t S m) M = true) := fun y => h2 ⟨q.mp y.1, y.2.2⟩
        rw [if_neg h2, if_neg n3]; grind
    · simp [h1]
  · show (if c / 52 = r then A c * _ else 0) = A c * _
    by_cases h1 : c / 52 = r
    · by_cases h2 : tb_cn (c % 52) M = true
      · rw [if_pos h1, if_pos h2, if_pos ⟨h1, h2⟩]
      · rw [if_pos h1, if_neg h2, if_neg (fun y => h2 y.2)]
    · rw [if_neg h1, if_neg (fun y => h1 y.1)]; grind
theorem rl_states0 {M : Nat} {x : Int32} (hm : m ≤ 12) (hx : ∀ r, r ≤ 12 → nI r ≠ x) : s3_s (gr_ys m f t h M x) (2 ^ m) = 0 := by
  rw [s3_congr (g := fun _ => 0) (fun S hS => ?_), s3_zero]
  have hon := gw_on_le (S := S) 12
  unfold gr_ys
  rw [if_neg (fun y => hx _ hon y.1)]
theorem rl_polynomial {x y : Int32} {le : Nat} (hG : gr_F m f t) (K : gr_KS f t B m) : s3_s (fun c => B c * gr_pg x y le c) 676 = s3_s (gr_yg m f t x y le) (2 ^ m) := by
  have hm := hG.1
  rw [K (gr_pg x y le)]
  refine s3_congr (fun S hS => ?_)
  obtain ⟨p1, p2⟩ := gr_ps_div (S := S) hG (Nat.le_refl m)
  rw [s3_wt_1]
  unfold gr_pg gr_yg
  rw [p1, p2, gw_on_12 hm hS]
  grind
end
end
section
/-! trees: operators on functions of ways, one a pair of nodes -/
def tr_T (p : Nat) (x : Int) (g : Nat → Int) (w : Nat) : Int := if x = 0 then g w else g w + (if tb_jn (w * 10 + p) = w then 0 else x * g (tb_jn (w * 10 + p)))
theorem tr_T_eq (p : Nat) (x : Int) (g : Nat → Int) (w : Nat) : tr_T p x g w = g w + (if tb_jn (w * 10 + p) = w then 0 else x * g (tb_jn (w * 10 + p))) := by
  unfold tr_T
  by_cases h : x = 0
  · rw [if_pos h, h]
    split
    · omega
    · rw [Int.zero_mul]; omega
  · rw [if_neg h]
def tr_O (u : Nat → Int) : Nat → (Nat → Int) → Nat → Int
  | 0, g => g
  | n + 1, g => tr_O u n (tr_T n (u n) g)
theorem tr_T_c {p : Nat} {x : Int} {g g' : Nat → Int} (hp : p < 10) (h : ∀ w, w < 52 → g w = g' w) : ∀ w, w < 52 → tr_T p x g w = tr_T p x g' w := by
  intro w hw
  have hj : tb_jn (w * 10 + p) < 52 := of_decide_eq_true (tb_all2 tb_k1 w hw p hp)
  rw [tr_T_eq, tr_T_eq, h w hw, h _ hj]
theorem tr_O_c {u : Nat → Int} : ∀ (n : Nat) {g g' : Nat → Int}, n ≤ 10 → (∀ w, w < 52 → g w = g' w) → ∀ w, w < 52 → tr_O u n g w = tr_O u n g' w
  | 0, _, _, _, h, w, hw => h w hw
  | n + 1, _, _, hn, h, w, hw => tr_O_c n (by omega) (tr_T_c (by omega) h) w hw
theorem tr_O_u {u u' : Nat → Int} : ∀ (n : Nat) {g : Nat → Int}, (∀ p, p < n → u p = u' p) → tr_O u n g = tr_O u' n g
  | 0, _, _ => rfl
  | n + 1, g, h => by
    show tr_O u n (tr_T n (u n) g) = tr_O u' n (tr_T n (u' n) g)
    rw [h n (by omega)]
    exact tr_O_u n (fun p hp => h p (by omega))
theorem tr_T_comm {p k : Nat} {x y : Int} {g : Nat → Int} (hp : p < 10) (hk : k < 10) : ∀ w, w < 52 → tr_T k y (tr_T p x g) w = tr_T p x (tr_T k y g) w := by
  intro w hw
  have e1 : tb_jn (tb_jn (w * 10 + p) * 10 + k) = tb_jn (tb_jn (w * 10 + k) * 10 + p) := of_decide_eq_true (tb_all3 tb_k4 w hw p hp k hk)
  have e2 := eq_of_beq (tb_all3 tb_k6 w hw p hp k hk)
  rw [← Bool.decide_or, ← Bool.decide_or, decide_eq_decide] at e2
  simp only [tr_T_eq]
  rw [e1] at e2 ⊢
  generalize tb_jn (tb_jn (w * 10 + k) * 10 + p) = z at *
  generalize tb_jn (w * 10 + p) = A at *
  generalize tb_jn (w * 10 + k) = C at *
  by_cases h1 : A = w
  · by_cases h2 : C = w
    · simp [h1, h2]
    · by_cases h3 : z = C
      · simp [h1, h2, h3]
      · exact absurd (e2.mp (Or.inl h1)) (fun q => q.elim h2 h3)
  · by_cases h2 : C = w
    · by_cases h3 : z = A
      · simp [h1, h2, h3]
      · exact absurd (e2.mpr (Or.inl h2)) (fun q => q.elim h1 h3)
    · by_cases h3 : z = A
      · have h4 : z = C := (e2.mp (Or.inr h3)).elim (fun q => absurd q h2) id
        simp only [if_neg h1, if_neg h2, if_pos h3, if_pos h4]
        grind
      · have h4 : ¬ z = C := fun q => (e2.mpr (Or.inr q)).elim h1 h3
        simp only [if_neg h1, if_neg h2, if_neg h3, if_neg h4]
        grind
theorem tr_T_add {p : Nat} {x y : Int} {g : Nat → Int} (hp : p < 10) : ∀ w, w < 52 → tr_T p x (tr_T p y g) w = tr_T p (x + y) g w := by
  intro w hw
  have e1 : tb_jn (tb_jn (w * 10 + p) * 10 + p) = tb_jn (w * 10 + p) := of_decide_eq_true (tb_all2 tb_k5 w hw p hp)
  simp only [tr_T_eq, e1]
  by_cases h1 : tb_jn (w * 10 + p) = w
  · simp [h1]
  · simp only [if_neg h1, if_true]
    grind
def tr_up (u : Nat → Int) (p : Nat) (x : Int) : Nat → Int := fun j => if j = p then x else u j
theorem tr_O_in {u : Nat → Int} {p : Nat} (hp : p < 10) : ∀ (n : Nat) {g : Nat → Int}, p < n → n ≤ 10 → ∀ w, w < 52 → tr_O u n (tr_T p 1 g) w = tr_O (tr_up u p (u p + 1)) n g w
  | 0, _, h, _, _, _ => absurd h (Nat.not_lt_zero p)
  | k + 1, g, h, hk, w, hw => by
    show tr_O u k (tr_T k (u k) (tr_T p 1 g)) w = tr_O (tr_up u p (u p + 1)) k (tr_T k (tr_up u p (u p + 1) k) g) w
    by_cases hkp : k = p
    · subst hkp
      have e : tr_up u k (u k + 1) k = u k + 1 := if_pos rfl
      rw [e, tr_O_u (u := tr_up u k (u k + 1)) (u' := u) k (fun q hq => if_neg (by omega))]
      exact tr_O_c k (by omega) (tr_T_add hp) w hw
    · have e : tr_up u p (u p + 1) k = u k := if_neg hkp
      rw [e, tr_O_c k (by omega) (tr_T_comm hp (by omega)) w hw]
      exact tr_O_in hp k (by omega) (by omega) w hw
theorem tr_O_0 : ∀ (n : Nat) (g : Nat → Int), tr_O (fun _ => 0) n g = g
  | 0, _ => rfl
  | n + 1, g => by
    show tr_O (fun _ => 0) n (tr_T n 0 g) = g
    rw [tr_O_0 n]
    funext w
    exact if_pos rfl
/-- how often each pair is an edge -/
def tr_mu (fr to : Nat → Nat) : Nat → Nat → Int
  | 0 => fun _ => 0
  | i + 1 => tr_up (tr_mu fr to i) (tb_pr (fr i) (to i)) (tr_mu fr to i (tb_pr (fr i) (to i)) + 1)
theorem tr_Fo {fr to : Nat → Nat} {m : Nat} (h : gw_ok fr to m) : ∀ i, i ≤ m → ∀ g : Nat → Int, si_s (fun S => (if gw_fo fr to S i = true then 1 else 0) * g (gw_wy fr to S i)) (2 ^ i) = tr_O (tr_mu fr to i) 10 g 51
  | 0, _, g => by
    show 0 + (if true = true then 1 else 0) * g 51 = tr_O (fun _ => 0) 10 g 51
    rw [tr_O_0, if_pos rfl]; omega
  | i + 1, hi, g => by
    obtain ⟨f1, f2, f3⟩ := h i (by omega)
    have hp := tb_pr_lt f1 f2 f3
    have ih := tr_Fo h i (by omega) (tr_T (tb_pr (fr i) (to i)) 1 g)
    rw [tr_O_in hp 10 hp (Nat.le_refl 10) 51 (by omega)] at ih
    show _ = tr_O (tr_up (tr_mu fr to i) (tb_pr (fr i) (to i)) (tr_mu fr to i (tb_pr (fr i) (to i)) + 1)) 10 g 51
    rw [← ih, si_pow, ← si_add]
    refine si_congr (fun S hS => ?_)
    rw [gw_fo_lo hS, gw_fo_hi hS, gw_wy_lo hS, gw_wy_hi hS, tr_T_eq]
    show _ = _ * (g (gw_wy fr to S i) + (if tb_jo (gw_wy fr to S i) (fr i) (to i) = gw_wy fr to S i then 0 else 1 * g (tb_jo (gw_wy fr to S i) (fr i) (to i))))
    cases gw_fo fr to S i
    · simp
    · by_cases hj : tb_jo (gw_wy fr to S i) (fr i) (to i) = gw_wy fr to S i
      · simp [hj]
      · simp [hj]
/-! affine in each of ten numbers -/
def tr_A (F : (Nat → Int) → Int) : Prop := ∀ (u : Nat → Int) (p : Nat) (x : Int), p < 10 → F (tr_up u p x) = F (tr_up u p 0) + x * (F (tr_up u p 1) - F (tr_up u p 0))
def tr_b (F p : Nat) : Int := if F.testBit p = true then 1 else 0
theorem tr_O_lin {u : Nat → Int} {x : Int} : ∀ (n : Nat) {g a b : Nat → Int}, (∀ w, g w = a w + x * b w) → ∀ w, tr_O u n g w = tr_O u n a w + x * tr_O u n b w
  | 0, _, _, _, h, w => h w
  | n + 1, g, a, b, h, w => by
    refine tr_O_lin n (fun v => ?_) w
    rw [tr_T_eq, tr_T_eq, tr_T_eq, h v, h]
    split <;> grind
theorem tr_O_A (g : Nat → Int) (w : Nat) : tr_A (fun u => tr_O u 10 g w) := by
  intro u p x hp
  have key : ∀ n, ∀ g : Nat → Int, tr_O (tr_up u p x) n g w = tr_O (tr_up u p 0) n g w + x * (tr_O (tr_up u p 1) n g w - tr_O (tr_up u p 0) n g w) := by
    intro n
    induction n with
    | zero => intro g; show g w = g w + x * (g w - g w); grind
    | succ n ih =>
      intro g
      show tr_O (tr_up u p x) n (tr_T n (tr_up u p x n) g) w = tr_O (tr_up u p 0) n (tr_T n (tr_up u p 0 n) g) w + x * (tr_O (tr_up u p 1) n (tr_T n (tr_up u p 1 n) g) w - tr_O (tr_up u p 0) n (tr_T n (tr_up u p 0 n) g) w)
      by_cases h : n = p
      · subst h
        have e : ∀ y : Int, tr_up u n y n = y := fun y => if_pos rfl
        have eu : ∀ (y : Int) (g : Nat → Int), tr_O (tr_up u n y) n g = tr_O u n g := fun y g => tr_O_u n (fun q hq => if_neg (by omega))
        rw [e, e, e, eu, eu, eu]
        have l1 := tr_O_lin (u := u) (x := x) n (g := tr_T n x g) (a := tr_T n 0 g) (b := fun v => tr_T n 1 g v - tr_T n 0 g v) (fun v => by rw [tr_T_eq, tr_T_eq, tr_T_eq]; split <;> grind) w
        have l2 := tr_O_lin (u := u) (x := -1) n (g := fun v => tr_T n 1 g v - tr_T n 0 g v) (a := tr_T n 1 g) (b := tr_T n 0 g) (fun v => by grind) w
        rw [l1, l2]
        grind
      · have e : ∀ y : Int, tr_up u p y n = u n := fun y => if_neg h
        rw [e, e, e]
        exact ih _
  exact key 10 g
theorem tr_bits (u : Nat → Int) : ∀ n, (∀ p, p < n → u p = 0 ∨ u p = 1) → ∃ F, F < 2 ^ n ∧ ∀ p, p < n → u p = tr_b F p
  | 0, _ => ⟨0, Nat.one_pos, fun p hp => absurd hp (Nat.not_lt_zero p)⟩
  | n + 1, h => by
    obtain ⟨F, hF, e⟩ := tr_bits u n (fun p hp => h p (by omega))
    have hp2 : 2 ^ (n + 1) = 2 ^ n + 2 ^ n := by rw [Nat.pow_succ, Nat.mul_two]
    rcases h n (by omega) with z | z
    · refine ⟨F, by omega, fun p hp => ?_⟩
      by_cases q : p = n
      · subst q; unfold tr_b; rw [gw_lo hF, z]; rfl
      · exact e p (by omega)
    · refine ⟨2 ^ n + F, by omega, fun p hp => ?_⟩
      by_cases q : p = n
      · subst q; unfold tr_b; rw [gw_hi hF, z]; rfl
      · have := e p (by omega)
        unfold tr_b at this ⊢
        rw [gw_hj (by omega)]; exact this
theorem tr_ext {F G : (Nat → Int) → Int} (hF : tr_A F) (hG : tr_A G) (cF : ∀ u u', (∀ p, p < 10 → u p = u' p) → F u = F u') (cG : ∀ u u', (∀ p, p < 10 → u p = u' p) → G u = G u')
    (h : ∀ B, B < 1024 → F (tr_b B) = G (tr_b B)) : ∀ u, F u = G u := by
  have key : ∀ d n, n + d = 10 → ∀ u, (∀ p, p < n → u p = 0 ∨ u p = 1) → F u = G u := by
    intro d
    induction d with
    | zero =>
      intro n hn u hu
      have : n = 10 := by omega
      subst this
      obtain ⟨B, hB, e⟩ := tr_bits u 10 hu
      rw [cF u (tr_b B) e, cG u (tr_b B) e]
      exact h B hB
    | succ d ih =>
      intro n hn u hu
      have e : tr_up u n (u n) = u := by
        funext j
        show (if j = n then u n else u j) = u j
        by_cases q : j = n
        · rw [q, if_pos rfl]
        · rw [if_neg q]
      have i01 : ∀ x : Int, (x = 0 ∨ x = 1) → F (tr_up u n x) = G (tr_up u n x) := by
        intro x hx
        refine ih (n + 1) (by omega) _ (fun p hp => ?_)
        show (if p = n then x else u p) = 0 ∨ (if p = n then x else u p) = 1
        by_cases q : p = n
        · rw [if_pos q]; exact hx
        · rw [if_neg q]; exact hu p (by omega)
      have a := hF u n (u n) (by omega)
      have b := hG u n (u n) (by omega)
      rw [e] at a b
      rw [a, b, i01 0 (Or.inl rfl), i01 1 (Or.inr rfl)]
  intro u
  exact key 10 0 rfl u (fun p hp => absurd hp (Nat.not_lt_zero p))
end
section
/-! determinants -/
def tr_d3 (a b c d e f g h i : Int) : Int := a * (e * i - f * h) - b * (d * i - f * g) + c * (d * h - e * g)
def tr_d4 (a b c d e f g h i j k l m n o p : Int) : Int := - m * tr_d3 b c d f g h j k l + n * tr_d3 a c d e g h i k l - o * tr_d3 a b d e f h i j l + p * tr_d3 a b c e f g i j k
def tr_m1 (B : Nat → Nat → Int) (r d : Nat) : Int := B 0 0 * B r d - B r 0 * B 0 d
def tr_m2 (B : Nat → Nat → Int) (r d : Nat) : Int := tr_d3 (B 0 0) (B 0 1) (B 0 d) (B 1 0) (B 1 1) (B 1 d) (B r 0) (B r 1) (B r d)
def tr_m3 (B : Nat → Nat → Int) (r d : Nat) : Int := tr_d4 (B 0 0) (B 0 1) (B 0 2) (B 0 d) (B 1 0) (B 1 1) (B 1 2) (B 1 d) (B 2 0) (B 2 1) (B 2 2) (B 2 d) (B r 0) (B r 1) (B r 2) (B r d)
def tr_det (B : Nat → Nat → Int) : Int := tr_m3 B 3 3
theorem tr_s2v (a b c d e f g h i : Int) : (a * i - g * c) * (a * e - d * b) - (a * h - g * b) * (a * f - d * c) = a * tr_d3 a b c d e f g h i := by
  unfold tr_d3; grind
theorem tr_s2 (B : Nat → Nat → Int) (r d : Nat) : tr_m1 B r d * tr_m1 B 1 1 - tr_m1 B r 1 * tr_m1 B 1 d = B 0 0 * tr_m2 B r d := tr_s2v _ _ _ _ _ _ _ _ _
theorem tr_s3v (a b c d e f g h i j k l m n o p : Int) : tr_d3 a b d e f h m n p * tr_d3 a b c e f g i j k - tr_d3 a b c e f g m n o * tr_d3 a b d e f h i j l = (a * f - e * b) * tr_d4 a b c d e f g h i j k l m n o p := by
  unfold tr_d4 tr_d3; grind
theorem tr_s3 (B : Nat → Nat → Int) (r d : Nat) : tr_m2 B r d * tr_m2 B 2 2 - tr_m2 B r 2 * tr_m2 B 2 d = tr_m1 B 1 1 * tr_m3 B r d := tr_s3v _ _ _ _ _ _ _ _ _ _ _ _ _ _ _ _
theorem tr_z0v (b c d f g h j k l n o p : Int) : tr_d4 0 b c d 0 f g h 0 j k l 0 n o p = 0 := by
  unfold tr_d4 tr_d3; grind
theorem tr_z1v (a b c d e f g h i j k l m n o p : Int) : a * tr_d4 a b c d e f g h i j k l m n o p = (a * f - e * b) * tr_d3 a c d i k l m o p - (a * j - i * b) * tr_d3 a c d e g h m o p + (a * n - m * b) * tr_d3 a c d e g h i k l := by
  unfold tr_d4 tr_d3; grind
theorem tr_w01 (a b c d e f g h i j k l m n o p : Int) : tr_d4 e f g h a b c d i j k l m n o p = - tr_d4 a b c d e f g h i j k l m n o p := by
  unfold tr_d4 tr_d3; grind
theorem tr_w02 (a b c d e f g h i j k l m n o p : Int) : tr_d4 i j k l e f g h a b c d m n o p = - tr_d4 a b c d e f g h i j k l m n o p := by
  unfold tr_d4 tr_d3; grind
theorem tr_w03 (a b c d e f g h i j k l m n o p : Int) : tr_d4 m n o p e f g h i j k l a b c d = - tr_d4 a b c d e f g h i j k l m n o p := by
  unfold tr_d4 tr_d3; grind
theorem tr_w12 (a b c d e f g h i j k l m n o p : Int) : tr_d4 a b c d i j k l e f g h m n o p = - tr_d4 a b c d e f g h i j k l m n o p := by
  unfold tr_d4 tr_d3; grind
theorem tr_w13 (a b c d e f g h i j k l m n o p : Int) : tr_d4 a b c d m n o p i j k l e f g h = - tr_d4 a b c d e f g h i j k l m n o p := by
  unfold tr_d4 tr_d3; grind
theorem tr_w23 (a b c d e f g h i j k l m n o p : Int) : tr_d4 a b c d e f g h m n o p i j k l = - tr_d4 a b c d e f g h i j k l m n o p := by
  unfold tr_d4 tr_d3; grind
/-! bounds -/
theorem tr_mb {x y : Int} {a b : Nat} (hx : x.natAbs ≤ a) (hy : y.natAbs ≤ b) : (x * y).natAbs ≤ a * b := by
  rw [Int.natAbs_mul]; exact Nat.mul_le_mul hx hy
theorem tr_ab {x y : Int} {a b : Nat} (hx : x.natAbs ≤ a) (hy : y.natAbs ≤ b) : (x + y).natAbs ≤ a + b := Nat.le_trans (Int.natAbs_add_le x y) (Nat.add_le_add hx hy)
theorem tr_sb {x y : Int} {a b : Nat} (hx : x.natAbs ≤ a) (hy : y.natAbs ≤ b) : (x - y).natAbs ≤ a + b := Nat.le_trans (Int.natAbs_sub_le x y) (Nat.add_le_add hx hy)
theorem tr_nb {x : Int} {a : Nat} (hx : x.natAbs ≤ a) : (-x).natAbs ≤ a := by rw [Int.natAbs_neg]; exact hx
theorem tr_d3b {a b c d e f g h i : Int} (A : a.natAbs ≤ 12) (B : b.natAbs ≤ 12) (C : c.natAbs ≤ 12) (D : d.natAbs ≤ 12) (E : e.natAbs ≤ 12) (F : f.natAbs ≤ 12) (G : g.natAbs ≤ 12) (H : h.natAbs ≤ 12) (I : i.natAbs ≤ 12) : (tr_d3 a b c d e f g h i).natAbs ≤ 10368 :=
  tr_ab (a := 6912) (b := 3456) (tr_sb (a := 3456) (b := 3456) (tr_mb A (tr_sb (tr_mb E I) (tr_mb F H))) (tr_mb B (tr_sb (tr_mb D I) (tr_mb F G)))) (tr_mb C (tr_sb (tr_mb D H) (tr_mb E G)))
theorem tr_d4b {a b c d e f g h i j k l m n o p : Int} (A : a.natAbs ≤ 12) (B : b.natAbs ≤ 12) (C : c.natAbs ≤ 12) (D : d.natAbs ≤ 12) (E : e.natAbs ≤ 12) (F : f.natAbs ≤ 12) (G : g.natAbs ≤ 12) (H : h.natAbs ≤ 12) (I : i.natAbs ≤ 12) (J : j.natAbs ≤ 12) (K : k.natAbs ≤ 12) (L : l.natAbs ≤ 12) (M : m.natAbs ≤ 12) (N : n.natAbs ≤ 12) (O : o.natAbs ≤ 12) (P : p.natAbs ≤ 12) : (tr_d4 a b c d e f g h i j k l m n o p).natAbs ≤ 497664 :=
  tr_ab (a := 373248) (b := 124416) (tr_sb (a := 248832) (b := 124416) (tr_ab (a := 124416) (b := 124416) (tr_mb (tr_nb M) (tr_d3b B C D F G H J K L)) (tr_mb N (tr_d3b A C D E G H I K L))) (tr_mb O (tr_d3b A B D E F H I J L))) (tr_mb P (tr_d3b A B C E F G I J K))
theorem tr_g4 {a b c d e f g h i j k l m n o p aT a1 bT b1 eT e1 fT f1 t : Int} (Ha : aT = a + t) (Ka : a1 = a + 1) (Hb : bT = b - t) (Kb : b1 = b - 1) (He : eT = e - t) (Ke : e1 = e - 1) (Hf : fT = f + t) (Kf : f1 = f + 1) : tr_d4 aT bT c d eT fT g h i j k l m n o p = tr_d4 a b c d e f g h i j k l m n o p + t * (tr_d4 a1 b1 c d e1 f1 g h i j k l m n o p - tr_d4 a b c d e f g h i j k l m n o p) := by
  subst Ha Ka Hb Kb He Ke Hf Kf
  unfold tr_d4 tr_d3; grind
theorem tr_g8 {a b c d e f g h i j k l m n o p fT f1 hT h1 nT n1 pT p1 t : Int} (Hf : fT = f + t) (Kf : f1 = f + 1) (Hh : hT = h - t) (Kh : h1 = h - 1) (Hn : nT = n - t) (Kn : n1 = n - 1) (Hp : pT = p + t) (Kp : p1 = p + 1) : tr_d4 a b c d e fT g hT i j k l m nT o pT = tr_d4 a b c d e f g h i j k l m n o p + t * (tr_d4 a b c d e f1 g h1 i j k l m n1 o p1 - tr_d4 a b c d e f g h i j k l m n o p) := by
  subst Hf Kf Hh Kh Hn Kn Hp Kp
  unfold tr_d4 tr_d3; grind
theorem tr_g9 {a b c d e f g h i j k l m n o p kT k1 lT l1 oT o1 pT p1 t : Int} (Hk : kT = k + t) (Kk : k1 = k + 1) (Hl : lT = l - t) (Kl : l1 = l - 1) (Ho : oT = o - t) (Ko : o1 = o - 1) (Hp : pT = p + t) (Kp : p1 = p + 1) : tr_d4 a b c d e f g h i j kT lT m n oT pT = tr_d4 a b c d e f g h i j k l m n o p + t * (tr_d4 a b c d e f g h i j k1 l1 m n o1 p1 - tr_d4 a b c d e f g h i j k l m n o p) := by
  subst Hk Kk Hl Kl Ho Ko Hp Kp
  unfold tr_d4 tr_d3; grind
/-- the determinant by the numbers of edges between the ten pairs -/
def tr_Dx (x0 x1 x2 x3 x4 x5 x6 x7 x8 x9 : Int) : Int := tr_d4 (x0 + x4 + x5 + x6) (-x4) (-x5) (-x6) (-x4) (x1 + x4 + x7 + x8) (-x7) (-x8) (-x5) (-x7) (x2 + x5 + x7 + x9) (-x9) (-x6) (-x8) (-x9) (x3 + x6 + x8 + x9)
theorem tr_Da0 (x1 x2 x3 x4 x5 x6 x7 x8 x9 t : Int) : tr_Dx t x1 x2 x3 x4 x5 x6 x7 x8 x9 = tr_Dx 0 x1 x2 x3 x4 x5 x6 x7 x8 x9 + t * (tr_Dx 1 x1 x2 x3 x4 x5 x6 x7 x8 x9 - tr_Dx 0 x1 x2 x3 x4 x5 x6 x7 x8 x9) := by
  unfold tr_Dx tr_d4 tr_d3; grind
theorem tr_Da1 (x0 x2 x3 x4 x5 x6 x7 x8 x9 t : Int) : tr_Dx x0 t x2 x3 x4 x5 x6 x7 x8 x9 = tr_Dx x0 0 x2 x3 x4 x5 x6 x7 x8 x9 + t * (tr_Dx x0 1 x2 x3 x4 x5 x6 x7 x8 x9 - tr_Dx x0 0 x2 x3 x4 x5 x6 x7 x8 x9) := by
  unfold tr_Dx tr_d4 tr_d3; grind
theorem tr_Da2 (x0 x1 x3 x4 x5 x6 x7 x8 x9 t : Int) : tr_Dx x0 x1 t x3 x4 x5 x6 x7 x8 x9 = tr_Dx x0 x1 0 x3 x4 x5 x6 x7 x8 x9 + t * (tr_Dx x0 x1 1 x3 x4 x5 x6 x7 x8 x9 - tr_Dx x0 x1 0 x3 x4 x5 x6 x7 x8 x9) := by
  unfold tr_Dx tr_d4 tr_d3; grind
theorem tr_Da3 (x0 x1 x2 x4 x5 x6 x7 x8 x9 t : Int) : tr_Dx x0 x1 x2 t x4 x5 x6 x7 x8 x9 = tr_Dx x0 x1 x2 0 x4 x5 x6 x7 x8 x9 + t * (tr_Dx x0 x1 x2 1 x4 x5 x6 x7 x8 x9 - tr_Dx x0 x1 x2 0 x4 x5 x6 x7 x8 x9) := by
  unfold tr_Dx tr_d4 tr_d3; grind
theorem tr_Da4 (x0 x1 x2 x3 x5 x6 x7 x8 x9 t : Int) : tr_Dx x0 x1 x2 x3 t x5 x6 x7 x8 x9 = tr_Dx x0 x1 x2 x3 0 x5 x6 x7 x8 x9 + t * (tr_Dx x0 x1 x2 x3 1 x5 x6 x7 x8 x9 - tr_Dx x0 x1 x2 x3 0 x5 x6 x7 x8 x9) := tr_g4 (by omega) (by omega) (by omega) (by omega) (by omega) (by omega) (by omega) (by omega)
theorem tr_Da5 (x0 x1 x2 x3 x4 x6 x7 x8 x9 t : Int) : tr_Dx x0 x1 x2 x3 x4 t x6 x7 x8 x9 = tr_Dx x0 x1 x2 x3 x4 0 x6 x7 x8 x9 + t * (tr_Dx x0 x1 x2 x3 x4 1 x6 x7 x8 x9 - tr_Dx x0 x1 x2 x3 x4 0 x6 x7 x8 x9) := by
  unfold tr_Dx tr_d4 tr_d3; grind
theorem tr_Da6 (x0 x1 x2 x3 x4 x5 x7 x8 x9 t : Int) : tr_Dx x0 x1 x2 x3 x4 x5 t x7 x8 x9 = tr_Dx x0 x1 x2 x3 x4 x5 0 x7 x8 x9 + t * (tr_Dx x0 x1 x2 x3 x4 x5 1 x7 x8 x9 - tr_Dx x0 x1 x2 x3 x4 x5 0 x7 x8 x9) := by
  unfold tr_Dx tr_d4 tr_d3; grind
theorem tr_Da7 (x0 x1 x2 x3 x4 x5 x6 x8 x9 t : Int) : tr_Dx x0 x1 x2 x3 x4 x5 x6 t x8 x9 = tr_Dx x0 x1 x2 x3 x4 x5 x6 0 x8 x9 + t * (tr_Dx x0 x1 x2 x3 x4 x5 x6 1 x8 x9 - tr_Dx x0 x1 x2 x3 x4 x5 x6 0 x8 x9) := by
  unfold tr_Dx tr_d4 tr_d3; grind
theorem tr_Da8 (x0 x1 x2 x3 x4 x5 x6 x7 x9 t : Int) : tr_Dx x0 x1 x2 x3 x4 x5 x6 x7 t x9 = tr_Dx x0 x1 x2 x3 x4 x5 x6 x7 0 x9 + t * (tr_Dx x0 x1 x2 x3 x4 x5 x6 x7 1 x9 - tr_Dx x0 x1 x2 x3 x4 x5 x6 x7 0 x9) := tr_g8 (by omega) (by omega) (by omega) (by omega) (by omega) (by omega) (by omega) (by omega)
theorem tr_Da9 (x0 x1 x2 x3 x4 x5 x6 x7 x8 t : Int) : tr_Dx x0 x1 x2 x3 x4 x5 x6 x7 x8 t = tr_Dx x0 x1 x2 x3 x4 x5 x6 x7 x8 0 + t * (tr_Dx x0 x1 x2 x3 x4 x5 x6 x7 x8 1 - tr_Dx x0 x1 x2 x3 x4 x5 x6 x7 x8 0) := tr_g9 (by omega) (by omega) (by omega) (by omega) (by omega) (by omega) (by omega) (by omega)
def tr_Du (u : Nat → Int) : Int := tr_Dx (u 0) (u 1) (u 2) (u 3) (u 4) (u 5) (u 6) (u 7) (u 8) (u 9)
theorem tr_Du_A : tr_A tr_Du := by
  intro u p x hp
  have : p = 0 ∨ p = 1 ∨ p = 2 ∨ p = 3 ∨ p = 4 ∨ p = 5 ∨ p = 6 ∨ p = 7 ∨ p = 8 ∨ p = 9 := by omega
  rcases this with z | z | z | z | z | z | z | z | z | z
  · subst z; exact tr_Da0 (u 1) (u 2) (u 3) (u 4) (u 5) (u 6) (u 7) (u 8) (u 9) x
  · subst z; exact tr_Da1 (u 0) (u 2) (u 3) (u 4) (u 5) (u 6) (u 7) (u 8) (u 9) x
  · subst z; exact tr_Da2 (u 0) (u 1) (u 3) (u 4) (u 5) (u 6) (u 7) (u 8) (u 9) x
  · subst z; exact tr_Da3 (u 0) (u 1) (u 2) (u 4) (u 5) (u 6) (u 7) (u 8) (u 9) x
  · subst z; exact tr_Da4 (u 0) (u 1) (u 2) (u 3) (u 5) (u 6) (u 7) (u 8) (u 9) x
  · subst z; exact tr_Da5 (u 0) (u 1) (u 2) (u 3) (u 4) (u 6) (u 7) (u 8) (u 9) x
  · subst z; exact tr_Da6 (u 0) (u 1) (u 2) (u 3) (u 4) (u 5) (u 7) (u 8) (u 9) x
  · subst z; exact tr_Da7 (u 0) (u 1) (u 2) (u 3) (u 4) (u 5) (u 6) (u 8) (u 9) x
  · subst z; exact tr_Da8 (u 0) (u 1) (u 2) (u 3) (u 4) (u 5) (u 6) (u 7) (u 9) x
  · subst z; exact tr_Da9 (u 0) (u 1) (u 2) (u 3) (u 4) (u 5) (u 6) (u 7) (u 8) x
theorem tr_Du_c (u u' : Nat → Int) (h : ∀ p, p < 10 → u p = u' p) : tr_Du u = tr_Du u' := by
  unfold tr_Du
  rw [h 0 (by omega), h 1 (by omega), h 2 (by omega), h 3 (by omega), h 4 (by omega), h 5 (by omega), h 6 (by omega), h 7 (by omega), h 8 (by omega), h 9 (by omega)]
def tr_e0 (w : Nat) : Int := if w = 0 then 1 else 0
theorem tr_grid : tb_all (fun a => tb_all (fun b => decide (tr_O (tr_b (32 * a + b)) 10 tr_e0 51 = tr_Du (tr_b (32 * a + b)))) 32) 32 = true := by decide +kernel
theorem tr_thm (u : Nat → Int) : tr_O u 10 tr_e0 51 = tr_Du u := by
  refine tr_ext (F := fun u => tr_O u 10 tr_e0 51) (G := tr_Du) (tr_O_A tr_e0 51) tr_Du_A (fun u u' h => by show tr_O u 10 tr_e0 51 = tr_O u' 10 tr_e0 51; rw [tr_O_u 10 h]) tr_Du_c ?_ u
  intro B hB
  have := of_decide_eq_true (tb_all2 tr_grid (B / 32) (by omega) (B % 32) (Nat.mod_lt _ (by omega)))
  rw [show 32 * (B / 32) + B % 32 = B by omega] at this
  exact this
end
section
def tr_LL (u : Nat → Int) (r c : Nat) : Int := if r = c then (if r = 0 then u 0 + u 4 + u 5 + u 6 else if r = 1 then u 1 + u 4 + u 7 + u 8 else if r = 2 then u 2 + u 5 + u 7 + u 9 else u 3 + u 6 + u 8 + u 9) else - u (tb_pr (r + 1) (c + 1))
def tr_dd (a b r c : Nat) : Int := (if a = r + 1 ∧ r = c then 1 else 0) + (if b = r + 1 ∧ r = c then 1 else 0) - (if a = r + 1 ∧ b = c + 1 then 1 else 0) - (if b = r + 1 ∧ a = c + 1 then 1 else 0)
theorem tr_dk : tb_all (fun a => tb_all (fun b => tb_all (fun r => decide (a = b) || tb_all (fun c => decide (tr_LL (fun j => if j = tb_pr a b then 1 else 0) r c = tr_dd a b r c)) 4) 4) 5) 5 = true := by decide +kernel
theorem tr_LL_s {u : Nat → Int} {a b r c : Nat} (ha : a < 5) (hb : b < 5) (hab : a ≠ b) (hr : r < 4) (hc : c < 4) : tr_LL (tr_up u (tb_pr a b) (u (tb_pr a b) + 1)) r c = tr_LL u r c + tr_dd a b r c := by
  have e : tr_LL (fun j => if j = tb_pr a b then 1 else 0) r c = tr_dd a b r c := of_decide_eq_true (tb_all_s (tb_or (tb_all3 tr_dk a ha b hb r hr) hab) c hc)
  rw [← e]
  have e2 : tr_up u (tb_pr a b) (u (tb_pr a b) + 1) = fun j => u j + (if j = tb_pr a b then 1 else 0) := by
    funext j
    show (if j = tb_pr a b then u (tb_pr a b) + 1 else u j) = _
    by_cases h : j = tb_pr a b
    · rw [if_pos h, if_pos h, h]
    · rw [if_neg h, if_neg h]; omega
  rw [e2]
  unfold tr_LL
  generalize tb_pr a b = p
  by_cases h1 : r = c
  · simp only [if_pos h1]
    by_cases h2 : r = 0
    · simp only [if_pos h2]; omega
    · simp only [if_neg h2]
      by_cases h3 : r = 1
      · simp only [if_pos h3]; omega
      · simp only [if_neg h3]
        by_cases h4 : r = 2
        · simp only [if_pos h4]; omega
        · simp only [if_neg h4]; omega
  · simp only [if_neg h1]; omega
theorem tr_LL_det (u : Nat → Int) : tr_det (tr_LL u) = tr_Du u := rfl
theorem tr_li0 {x : Int} (h : x.natAbs ≤ 497664) : Int64.ofInt x = 0 ↔ x = 0 := by
  constructor
  · intro z
    have := congrArg Int64.toInt z
    rw [Int64.toInt_ofInt_of_le (by omega) (by omega)] at this
    exact this
  · intro z; rw [z]; rfl
theorem tr_div {x y : Int} (hx : x ≠ 0) (bx : x.natAbs ≤ 497664) (hy : y.natAbs ≤ 497664) : Int64.ofInt (x * y) / Int64.ofInt x = Int64.ofInt y := by
  have b : (x * y).natAbs ≤ 497664 * 497664 := tr_mb bx hy
  apply Int64.toInt_inj.mp
  rw [Int64.toInt_div, Int64.toInt_ofInt_of_le (by omega) (by omega), Int64.toInt_ofInt_of_le (by omega) (by omega), Int64.toInt_ofInt_of_le (by omega) (by omega), Int.mul_tdiv_cancel_left _ hx]
  exact Int.bmod_eq_of_le (by omega) (by omega)
theorem tr_oi {p : Prop} [Decidable p] : Int64.ofInt (if p then 1 else 0) = if p then 1 else 0 := by
  split <;> rfl
def tr_M (c : Nat) (q : Nat → Int64) (V : Nat → Nat → Int) : Prop := ∀ r d, c ≤ r → r < 4 → c ≤ d → d < 4 → q (4 * r + d) = Int64.ofInt (V r d)
theorem tr_adv {q : Nat → Int64} {k x : Nat} : vp_updL q k (q k + 1) x = q x + (if x = k then 1 else 0) := by
  by_cases h : x = k
  · subst h; rw [pk_uLs, if_pos rfl]
  · rw [pk_uLn h, if_neg h]; grind
theorem tr_asv {q : Nat → Int64} {k x : Nat} : vp_updL q k (q k - 1) x = q x - (if x = k then 1 else 0) := by
  by_cases h : x = k
  · subst h; rw [pk_uLs, if_pos rfl]
  · rw [pk_uLn h, if_neg h]; grind
theorem tr_ic {p q : Prop} [Decidable p] [Decidable q] (h : p ↔ q) : (if p then (1 : Int64) else 0) = if q then 1 else 0 := by
  by_cases z : p
  · rw [if_pos z, if_pos (h.mp z)]
  · rw [if_neg z, if_neg (fun y => z (h.mpr y))]
section
variable {xe : Int32} {xk : Int32} {xc : Nat → Int32} {xj : Nat → Int32} {xl : Nat → Int32} {xf : Nat → Int32} {xt : Nat → Int32} {xs : Nat → Int32} {xh : Nat → Int32} {xw : Nat → Int64} {xp : Nat → Int64} {xn : Nat → Int32} {xz : Nat → Int32} {xo : Nat → Int32} {xm : Nat → Int64} {xq : Nat → Int64}
theorem xw_layDegrees {post : SX → Prop} {m : Nat} (hG : gr_F m xf xt) (he : xe = nI m) (h : ∀ q' : Nat → Int64, tr_M 0 q' (tr_LL (tr_mu (gr_n xf) (gr_n xt) m)) → post (xe, xk, xc, xj, xl, xf, xt, xs, xh, xw, xp, xn, xz, xo, xm, q')) : wpX_layDegrees post (xe, xk, xc, xj, xl, xf, xt, xs, xh, xw, xp, xn, xz, xo, xm, xq) := by
  subst he
  have hm := hG.1
  show ∃ n2 : Nat, wX_layDegrees_2 post (nI m) xk n2 0 xc xj xl xf xt xs xh xw xp xn xz xo xm xq
  refine loop_0 (fun n j (q : Nat → Int64) => wX_layDegrees_2 post (nI m) xk n (nI j) xc xj xl xf xt xs xh xw xp xn xz xo xm q) (fun j q => ∀ u, u < j → q u = 0) 16 xq (fun u hu => absurd hu (Nat.not_lt_zero u)) ?_ ?_
  · intro n q0 e0
    refine rl_le_t 16 16 (by omega) ?_
    refine loop_0 (fun n i (q : Nat → Int64) => wX_layDegrees_23 post (nI m) xk n (nI i) xc xj xl xf xt xs xh xw xp xn xz xo xm q) (fun i q => tr_M 0 q (tr_LL (tr_mu (gr_n xf) (gr_n xt) i))) m q0 ?_ ?_ ?_
    · intro r d _ hr _ hd
      rw [e0 _ (by omega)]
      show 0 = Int64.ofInt (tr_LL (fun _ => 0) r d)
      unfold tr_LL
      split
      · split
        · rfl
        · split
          · rfl
          · split <;> rfl
      · rfl
    · intro n q e
      exact rl_le_t m m (by omega) (h q e)
    · intro n i q hi e k
      obtain ⟨ef, et, f1, f2, f3⟩ := hG.2 i hi
      have hv : vp_in (nI i) 12 := vp_in_nI (by omega) (by omega)
      have cf : xf (nI i).toNatClampNeg = nI (gr_n xf i) := by rw [rl_cl]; exact ef
      have ct : xt (nI i).toNatClampNeg = nI (gr_n xt i) := by rw [rl_cl]; exact et
      have fin : ∀ q' : Nat → Int64, (∀ r d, r < 4 → d < 4 → q' (4 * r + d) = q (4 * r + d) + Int64.ofInt (tr_dd (gr_n xf i) (gr_n xt i) r d)) → wX_layDegrees_23 post (nI m) xk n (nI (i + 1)) xc xj xl xf xt xs xh xw xp xn xz xo xm q' := by
        intro q' hq'
        refine k q' (fun r d _ hr _ hd => ?_)
        show _ = Int64.ofInt (tr_LL (tr_up (tr_mu (gr_n xf) (gr_n xt) i) (tb_pr (gr_n xf i) (gr_n xt i)) (tr_mu (gr_n xf) (gr_n xt) i (tb_pr (gr_n xf i) (gr_n xt i)) + 1)) r d)
        rw [tr_LL_s f1 f2 f3 hr hd, Int64.ofInt_add, hq' r d hr hd, e r d (Nat.zero_le r) hr (Nat.zero_le d) hd]
      refine rl_le_f m i hi ⟨hv, ?_⟩
      rw [cf, ct]
      unfold wX_layDegrees_65 wX_layDegrees_81
      generalize gr_n xf i = a at *
      generalize gr_n xt i = b at *
      cases a with
      | zero =>
        cases b with
        | zero => exact absurd rfl f3
        | succ b =>
          have eb : nI (b + 1) - 1 = nI b := nI_pred b
          have e5 : 5 * nI b = nI (5 * b) := rl_5m b
          have v5 : vp_in (nI (5 * b)) 16 := vp_in_nI (by omega) (by omega)
          have hneg : nI 0 - 1 < 0 := by decide
          refine nm_e ⟨hv, nm_r eb (br_t hneg (br_f (nI_pos (by omega)) ?_))⟩
          rw [e5, rl_cl]
          refine ⟨v5, v5, nm_e (br_t hneg (nm_r (nI_1 i) (fin _ ?_)))⟩
          intro r d hr hd
          rw [tr_adv]
          unfold tr_dd
          rw [Int64.ofInt_sub, Int64.ofInt_sub, Int64.ofInt_add, tr_oi, tr_oi, tr_oi, tr_oi]
          rw [tr_ic (p := 4 * r + d = 5 * b) (q := b + 1 = r + 1 ∧ r = d) (by omega)]
          have n1 : ¬ (0 = r + 1 ∧ r = d) := by omega
          have n2 : ¬ (0 = r + 1 ∧ b + 1 = d + 1) := by omega
          have n3 : ¬ (b + 1 = r + 1 ∧ 0 = d + 1) := by omega
          rw [if_neg n1, if_neg n2, if_neg n3]
          grind
      | succ a =>
        have ea : nI (a + 1) - 1 = nI a := nI_pred a
        have e5 : 5 * nI a = nI (5 * a) := rl_5m a
        have v5 : vp_in (nI (5 * a)) 16 := vp_in_nI (by omega) (by omega)
        cases b with
        | zero =>
          have hneg : nI 0 - 1 < 0 := by decide
          refine nm_r ea ⟨hv, nm_e (br_f (nI_pos (by omega)) ?_)⟩
          rw [e5, rl_cl]
          refine ⟨v5, v5, nm_e (br_t hneg (br_f (nI_pos (by omega)) (br_t hneg (nm_r (nI_1 i) (fin _ ?_)))))⟩
          intro r d hr hd
          rw [tr_adv]
          unfold tr_dd
          rw [Int64.ofInt_sub, Int64.ofInt_sub, Int64.ofInt_add, tr_oi, tr_oi, tr_oi, tr_oi]
          rw [tr_ic (p := 4 * r + d = 5 * a) (q := a + 1 = r + 1 ∧ r = d) (by omega)]
          have n1 : ¬ (0 = r + 1 ∧ r = d) := by omega
          have n2 : ¬ (a + 1 = r + 1 ∧ 0 = d + 1) := by omega
          have n3 : ¬ (0 = r + 1 ∧ a + 1 = d + 1) := by omega
          rw [if_neg n1, if_neg n2, if_neg n3]
          grind
        | succ b =>
          have eb : nI (b + 1) - 1 = nI b := nI_pred b
          have e5b : 5 * nI b = nI (5 * b) := rl_5m b
          have v5b : vp_in (nI (5 * b)) 16 := vp_in_nI (by omega) (by omega)
          have eab : 4 * nI a + nI b = nI (4 * a + b) := by rw [rl_4m, nI_add]
          have eba : 4 * nI b + nI a = nI (4 * b + a) := by rw [rl_4m, nI_add]
          have vab : vp_in (nI (4 * a + b)) 16 := vp_in_nI (by omega) (by omega)
          have vba : vp_in (nI (4 * b + a)) 16 := vp_in_nI (by omega) (by omega)
          refine nm_r ea ⟨hv, nm_r eb (br_f (nI_pos (by omega)) ?_)⟩
          rw [e5, e5b, eab, eba, rl_cl (n := 5 * a), rl_cl (n := 5 * b), rl_cl (n := 4 * a + b), rl_cl (n := 4 * b + a)]
          refine ⟨v5, v5, nm_e (br_f (nI_pos (by omega)) ⟨v5b, v5b, nm_e (br_f (nI_pos (by omega)) (br_f (nI_pos (by omega)) ⟨vab, vab, nm_e ⟨vba, vba, nm_e (nm_r (nI_1 i) (fin _ ?_))⟩⟩))⟩)⟩
          intro r d hr hd
          rw [tr_asv, tr_asv, tr_adv, tr_adv]
          unfold tr_dd
          rw [Int64.ofInt_sub, Int64.ofInt_sub, Int64.ofInt_add, tr_oi, tr_oi, tr_oi, tr_oi]
          rw [tr_ic (p := 4 * r + d = 5 * a) (q := a + 1 = r + 1 ∧ r = d) (by omega), tr_ic (p := 4 * r + d = 5 * b) (q := b + 1 = r + 1 ∧ r = d) (by omega),
            tr_ic (p := 4 * r + d = 4 * a + b) (q := a + 1 = r + 1 ∧ b + 1 = d + 1) (by omega), tr_ic (p := 4 * r + d = 4 * b + a) (q := b + 1 = r + 1 ∧ a + 1 = d + 1) (by omega)]
          grind
  · intro n j q hj e k
    refine rl_le_f 16 j hj ⟨vp_in_nI hj (by omega), nm_e (nm_r (nI_1 j) (k _ ?_))⟩
    intro u hu
    rw [rl_cl]
    by_cases h2 : u = j
    · subst h2; rw [pk_uLs]
    · rw [pk_uLn h2]; exact e u (by omega)
theorem xw_pivotRow {post : Int32 → Prop} {c : Nat} {V : Nat → Nat → Int} (hc : c < 4) (M : tr_M c xq V) (bd : ∀ r d, r < 4 → d < 4 → (V r d).natAbs ≤ 497664)
    (h0 : (∀ r, c ≤ r → r < 4 → V r c = 0) → post (-1)) (h1 : ∀ r, c ≤ r → r < 4 → V r c ≠ 0 → post (nI r)) : wpX_pivotRow post (xe, xk, xc, xj, xl, xf, xt, xs, xh, xw, xp, xn, xz, xo, xm, xq) (nI c) := by
  show ∃ n2 : Nat, wX_pivotRow_2 post (nI c) xe xk xc xj xl xf xt xs xh xw xp xn xz xo xm xq n2 (nI c)
  refine rl_lp (fun n j (_ : Unit) => wX_pivotRow_2 post (nI c) xe xk xc xj xl xf xt xs xh xw xp xn xz xo xm xq n (nI j)) (fun j _ => ∀ r, c ≤ r → r < j → V r c = 0) 4 c () (by omega) (fun r h1 h2 => absurd h2 (by omega)) ?_ ?_
  · intro n _ e
    exact rl_le_t 4 4 (by omega) (h0 e)
  · intro n j _ hcj hj e k
    have e1 : 4 * nI j + nI c = nI (4 * j + c) := by rw [rl_4m, nI_add]
    refine rl_le_f 4 j hj ?_
    rw [e1, rl_cl, M j c hcj hj (Nat.le_refl c) hc]
    refine ⟨vp_in_nI (by omega) (by omega), br_c (fun z => nm_r (nI_1 j) (k () ?_)) (fun z => h1 j hcj hj (fun y => z ((tr_li0 (bd j c hj hc)).mpr y)))⟩
    intro r hr1 hr2
    by_cases y : r = j
    · subst y; exact (tr_li0 (bd r c hj hc)).mp z
    · exact e r hr1 (by omega)
def tr_sg (a b r : Nat) : Nat := if r = a then b else if r = b then a else r
theorem xw_exchangeRows {post : SX → Prop} {a b c : Nat} {V : Nat → Nat → Int} (ha : c ≤ a) (ha4 : a < 4) (hb : c ≤ b) (hb4 : b < 4) (hab : a ≠ b) (M : tr_M c xq V)
    (h : ∀ q' : Nat → Int64, tr_M c q' (fun r d => V (tr_sg a b r) d) → post (xe, xk, xc, xj, xl, xf, xt, xs, xh, xw, xp, xn, xz, xo, xm, q')) : wpX_exchangeRows post (xe, xk, xc, xj, xl, xf, xt, xs, xh, xw, xp, xn, xz, xo, xm, xq) (nI a) (nI b) := by
  show ∃ n2 : Nat, wX_exchangeRows_2 post (nI a) (nI b) xe xk n2 0 xc xj xl xf xt xs xh xw xp xn xz xo xm xq
  refine loop_0 (fun n j (q : Nat → Int64) => wX_exchangeRows_2 post (nI a) (nI b) xe xk n (nI j) xc xj xl xf xt xs xh xw xp xn xz xo xm q) (fun j q => ∀ r d, c ≤ r → r < 4 → c ≤ d → d < 4 → q (4 * r + d) = Int64.ofInt (if d < j then V (tr_sg a b r) d else V r d)) 4 xq ?_ ?_ ?_
  · intro r d h1 h2 h3 h4
    rw [if_neg (Nat.not_lt_zero d)]; exact M r d h1 h2 h3 h4
  · intro n q e
    refine rl_le_t 4 4 (by omega) (h q (fun r d h1 h2 h3 h4 => ?_))
    rw [e r d h1 h2 h3 h4, if_pos h4]
  · intro n j q hj e k
    have ea : 4 * nI a + nI j = nI (4 * a + j) := by rw [rl_4m, nI_add]
    have eb : 4 * nI b + nI j = nI (4 * b + j) := by rw [rl_4m, nI_add]
    have va : vp_in (nI (4 * a + j)) 16 := vp_in_nI (by omega) (by omega)
    have vb : vp_in (nI (4 * b + j)) 16 := vp_in_nI (by omega) (by omega)
    refine rl_le_f 4 j hj ?_
    rw [ea, eb, rl_cl (n := 4 * a + j), rl_cl (n := 4 * b + j)]
    refine ⟨va, nm_e ⟨vb, va, nm_e ⟨vb, nm_e (nm_r (nI_1 j) (k _ ?_))⟩⟩⟩
    intro r d h1 h2 h3 h4
    by_cases hd : d = j
    · subst hd
      have n1 : d < d + 1 := by omega
      have n2 : ¬ d < d := by omega
      rw [if_pos n1]
      unfold tr_sg
      by_cases hra : r = a
      · subst hra
        rw [if_pos rfl, pk_uLn (by omega), pk_uLs, e b d hb hb4 h3 h4, if_neg n2]
      · rw [if_neg hra]
        by_cases hrb : r = b
        · subst hrb
          rw [if_pos rfl, pk_uLs, e a d ha ha4 h3 h4, if_neg n2]
        · rw [if_neg hrb, pk_uLn (by omega), pk_uLn (by omega), e r d h1 h2 h3 h4, if_neg n2]
    · rw [pk_uLn (by omega), pk_uLn (by omega), e r d h1 h2 h3 h4]
      by_cases y : d < j
      · have y2 : d < j + 1 := by omega
        rw [if_pos y, if_pos y2]
      · have y2 : ¬ d < j + 1 := by omega
        rw [if_neg y, if_neg y2]
theorem xw_clearColumn {post : SX → Prop} {c : Nat} {V N : Nat → Nat → Int} {bf : Int} (hc : c < 4) (M : tr_M c xq V) (hbf : bf ≠ 0) (bb : bf.natAbs ≤ 497664) (bN : ∀ r d, r < 4 → d < 4 → (N r d).natAbs ≤ 497664)
    (hN : ∀ r d, c < r → r < 4 → c < d → d < 4 → V r d * V c c - V r c * V c d = bf * N r d)
    (h : ∀ q' : Nat → Int64, tr_M (c + 1) q' N → q' (5 * c) = Int64.ofInt (V c c) → post (xe, xk, xc, xj, xl, xf, xt, xs, xh, xw, xp, xn, xz, xo, xm, q')) : wpX_clearColumn post (xe, xk, xc, xj, xl, xf, xt, xs, xh, xw, xp, xn, xz, xo, xm, xq) (nI c) (Int64.ofInt bf) := by
  show ∀ x4_1 : Int32, x4_1 = nI c + 1 → (∃ n5 : Nat, wX_clearColumn_5 post (nI c) (Int64.ofInt bf) xe xk n5 x4_1 xc xj xl xf xt xs xh xw xp xn xz xo xm xq)
  refine nm_r (nI_1 c) ?_
  refine rl_lp (fun n j (q : Nat → Int64) => wX_clearColumn_5 post (nI c) (Int64.ofInt bf) xe xk n (nI j) xc xj xl xf xt xs xh xw xp xn xz xo xm q)
    (fun j q => (∀ r d, c < r → r < j → c < d → d < 4 → q (4 * r + d) = Int64.ofInt (N r d)) ∧ (∀ r d, (r = c ∨ (j ≤ r ∧ r < 4)) → c ≤ d → d < 4 → q (4 * r + d) = Int64.ofInt (V r d))) 4 (c + 1) xq (by omega)
    ⟨fun r d h1 h2 => absurd h2 (by omega), fun r d h1 h2 h3 => M r d (by omega) (by omega) h2 h3⟩ ?_ ?_
  · intro n q ⟨e1, e2⟩
    refine rl_le_t 4 4 (by omega) (h q (fun r d h1 h2 h3 h4 => e1 r d (by omega) h2 (by omega) h4) ?_)
    rw [show 5 * c = 4 * c + c by omega]; exact e2 c c (Or.inl rfl) (Nat.le_refl c) hc
  · intro n j q hcj hj ⟨e1, e2⟩ k
    refine rl_le_f 4 j hj (nm_r (nI_1 c) ?_)
    refine rl_lp (fun n' d (q : Nat → Int64) => wX_clearColumn_16 post (wX_clearColumn_5 post (nI c) (Int64.ofInt bf) xe xk n) (nI c) (Int64.ofInt bf) (nI j) xe xk n' (nI d) xc xj xl xf xt xs xh xw xp xn xz xo xm q)
      (fun y q => (∀ r d, c < r → r < j → c < d → d < 4 → q (4 * r + d) = Int64.ofInt (N r d)) ∧ (∀ d, c < d → d < y → q (4 * j + d) = Int64.ofInt (N j d)) ∧ (∀ d, (d = c ∨ (y ≤ d ∧ d < 4)) → q (4 * j + d) = Int64.ofInt (V j d)) ∧ (∀ r d, (r = c ∨ (j + 1 ≤ r ∧ r < 4)) → c ≤ d → d < 4 → q (4 * r + d) = Int64.ofInt (V r d))) 4 (c + 1) q (by omega)
      ⟨e1, fun d h1 h2 => absurd h2 (by omega), fun d hd => e2 j d (by omega) (by omega) (by omega), fun r d h1 h2 h3 => e2 r d (by omega) h2 h3⟩ ?_ ?_
    · intro n' q ⟨i1, i2, _, i4⟩
      have ej : 4 * nI j + nI c = nI (4 * j + c) := by rw [rl_4m, nI_add]
      refine rl_le_t 4 4 (by omega) ?_
      rw [ej, rl_cl]
      refine ⟨vp_in_nI (by omega) (by omega), nm_e (nm_r (nI_1 j) (k _ ⟨?_, ?_⟩))⟩
      · intro r d h1 h2 h3 h4
        rw [pk_uLn (by omega)]
        by_cases y : r = j
        · subst y; exact i2 d h3 h4
        · exact i1 r d h1 (by omega) h3 h4
      · intro r d h1 h2 h3
        rw [pk_uLn (by omega)]; exact i4 r d (by omega) h2 h3
    · intro n' d q hcd hd ⟨i1, i2, i3, i4⟩ k2
      have ejd : 4 * nI j + nI d = nI (4 * j + d) := by rw [rl_4m, nI_add]
      have ej : 4 * nI j + nI c = nI (4 * j + c) := by rw [rl_4m, nI_add]
      have ecd : 4 * nI c + nI d = nI (4 * c + d) := by rw [rl_4m, nI_add]
      have ecc : 5 * nI c = nI (5 * c) := rl_5m c
      have vjd : vp_in (nI (4 * j + d)) 16 := vp_in_nI (by omega) (by omega)
      have vj : vp_in (nI (4 * j + c)) 16 := vp_in_nI (by omega) (by omega)
      have vcd : vp_in (nI (4 * c + d)) 16 := vp_in_nI (by omega) (by omega)
      have vcc : vp_in (nI (5 * c)) 16 := vp_in_nI (by omega) (by omega)
      have val : Int64.ofInt (V j d) * Int64.ofInt (V c c) - Int64.ofInt (V j c) * Int64.ofInt (V c d) = Int64.ofInt (bf * N j d) := by
        rw [← hN j d hcj hj hcd hd, Int64.ofInt_sub, Int64.ofInt_mul, Int64.ofInt_mul]
      have q1 : q (4 * j + d) = Int64.ofInt (V j d) := i3 d (Or.inr ⟨Nat.le_refl d, hd⟩)
      have q2 : q (5 * c) = Int64.ofInt (V c c) := by rw [show 5 * c = 4 * c + c by omega]; exact i4 c c (Or.inl rfl) (Nat.le_refl c) hc
      have q3 : q (4 * j + c) = Int64.ofInt (V j c) := i3 c (Or.inl rfl)
      have q4 : q (4 * c + d) = Int64.ofInt (V c d) := i4 c d (Or.inl rfl) (by omega) hd
      have nz : ¬ Int64.ofInt bf = 0 := fun z => hbf ((tr_li0 bb).mp z)
      refine rl_le_f 4 d hd ?_
      rw [ejd, ej, ecd, ecc, rl_cl (n := 4 * j + d), rl_cl (n := 5 * c), rl_cl (n := 4 * j + c), rl_cl (n := 4 * c + d), q1, q2, q3, q4]
      refine ⟨vjd, vcc, vj, vcd, nm_r val (br_f nz ⟨nz, vjd, ?_⟩)⟩
      rw [tr_div hbf bb (bN j d hj hd)]
      refine nm_e (nm_r (nI_1 d) (k2 _ ⟨?_, ?_, ?_, ?_⟩))
      · intro r d' h1 h2 h3 h4
        rw [pk_uLn (by omega)]; exact i1 r d' h1 h2 h3 h4
      · intro d' h1 h2
        by_cases y : d' = d
        · subst y; rw [pk_uLs]
        · rw [pk_uLn (by omega)]; exact i2 d' h1 (by omega)
      · intro d' h1
        rw [pk_uLn (by omega)]; exact i3 d' (by omega)
      · intro r d' h1 h2 h3
        rw [pk_uLn (by omega)]; exact i4 r d' h1 h2 h3
end
end
section
def tr_V (c : Nat) (B : Nat → Nat → Int) (r d : Nat) : Int := if c = 0 then B r d else if c = 1 then tr_m1 B r d else if c = 2 then tr_m2 B r d else tr_m3 B r d
def tr_ld (c : Nat) (B : Nat → Nat → Int) : Int := if c = 0 then 1 else if c = 1 then B 0 0 else if c = 2 then tr_m1 B 1 1 else tr_m2 B 2 2
theorem tr_syl {c : Nat} (hc : c < 3) (B : Nat → Nat → Int) (r d : Nat) : tr_V c B r d * tr_V c B c c - tr_V c B r c * tr_V c B c d = tr_ld c B * tr_V (c + 1) B r d := by
  have : c = 0 ∨ c = 1 ∨ c = 2 := by omega
  rcases this with z | z | z
  · subst z
    show B r d * B 0 0 - B r 0 * B 0 d = 1 * (B 0 0 * B r d - B r 0 * B 0 d)
    grind
  · subst z; exact tr_s2 B r d
  · subst z; exact tr_s3 B r d
theorem tr_ldv {c : Nat} (hc : c < 3) (B : Nat → Nat → Int) : tr_V c B c c = tr_ld (c + 1) B := by
  have : c = 0 ∨ c = 1 ∨ c = 2 := by omega
  rcases this with z | z | z <;> (subst z; rfl)
def tr_bd (B : Nat → Nat → Int) : Prop := ∀ r d, r < 4 → d < 4 → (B r d).natAbs ≤ 12
theorem tr_m1b {B : Nat → Nat → Int} (hB : tr_bd B) {r d : Nat} (hr : r < 4) (hd : d < 4) : (tr_m1 B r d).natAbs ≤ 288 :=
  tr_sb (a := 144) (b := 144) (tr_mb (hB 0 0 (by omega) (by omega)) (hB r d hr hd)) (tr_mb (hB r 0 hr (by omega)) (hB 0 d (by omega) hd))
theorem tr_m2b {B : Nat → Nat → Int} (hB : tr_bd B) {r d : Nat} (hr : r < 4) (hd : d < 4) : (tr_m2 B r d).natAbs ≤ 10368 :=
  tr_d3b (hB _ _ (by omega) (by omega)) (hB _ _ (by omega) (by omega)) (hB _ _ (by omega) hd) (hB _ _ (by omega) (by omega)) (hB _ _ (by omega) (by omega)) (hB _ _ (by omega) hd) (hB _ _ hr (by omega)) (hB _ _ hr (by omega)) (hB _ _ hr hd)
theorem tr_m3b {B : Nat → Nat → Int} (hB : tr_bd B) {r d : Nat} (hr : r < 4) (hd : d < 4) : (tr_m3 B r d).natAbs ≤ 497664 :=
  tr_d4b (hB _ _ (by omega) (by omega)) (hB _ _ (by omega) (by omega)) (hB _ _ (by omega) (by omega)) (hB _ _ (by omega) hd) (hB _ _ (by omega) (by omega)) (hB _ _ (by omega) (by omega)) (hB _ _ (by omega) (by omega)) (hB _ _ (by omega) hd) (hB _ _ (by omega) (by omega)) (hB _ _ (by omega) (by omega)) (hB _ _ (by omega) (by omega)) (hB _ _ (by omega) hd) (hB _ _ hr (by omega)) (hB _ _ hr (by omega)) (hB _ _ hr (by omega)) (hB _ _ hr hd)
theorem tr_Vb {B : Nat → Nat → Int} (hB : tr_bd B) (c : Nat) : ∀ r d, r < 4 → d < 4 → (tr_V c B r d).natAbs ≤ 497664 := by
  intro r d hr hd
  unfold tr_V
  split
  · exact Nat.le_trans (hB r d hr hd) (by omega)
  · split
    · exact Nat.le_trans (tr_m1b hB hr hd) (by omega)
    · split
      · exact Nat.le_trans (tr_m2b hB hr hd) (by omega)
      · exact tr_m3b hB hr hd
theorem tr_ldb {B : Nat → Nat → Int} (hB : tr_bd B) (c : Nat) : (tr_ld c B).natAbs ≤ 497664 := by
  unfold tr_ld
  split
  · decide
  · split
    · exact Nat.le_trans (hB 0 0 (by omega) (by omega)) (by omega)
    · split
      · exact Nat.le_trans (tr_m1b hB (by omega) (by omega)) (by omega)
      · exact Nat.le_trans (tr_m2b hB (by omega) (by omega)) (by omega)
def tr_sw (a b : Nat) (B : Nat → Nat → Int) : Nat → Nat → Int := fun r d => B (tr_sg a b r) d
theorem tr_sg_k {a b k : Nat} (ha : k < a) (hb : k < b) : tr_sg a b k = k := by
  unfold tr_sg; rw [if_neg (by omega), if_neg (by omega)]
theorem tr_sw_k {a b k : Nat} (B : Nat → Nat → Int) (ha : k < a) (hb : k < b) (d : Nat) : tr_sw a b B k d = B k d := by
  unfold tr_sw; rw [tr_sg_k ha hb]
theorem tr_Vsw {a b c : Nat} (hc : c < 4) (ha : c ≤ a) (hb : c ≤ b) (B : Nat → Nat → Int) : (fun r d => tr_V c B (tr_sg a b r) d) = tr_V c (tr_sw a b B) := by
  funext r d
  have : c = 0 ∨ c = 1 ∨ c = 2 ∨ c = 3 := by omega
  rcases this with z | z | z | z
  · subst z; rfl
  · subst z
    show tr_m1 B (tr_sg a b r) d = tr_m1 (tr_sw a b B) r d
    unfold tr_m1
    rw [tr_sw_k B (k := 0) (by omega) (by omega), tr_sw_k B (k := 0) (by omega) (by omega)]; rfl
  · subst z
    show tr_m2 B (tr_sg a b r) d = tr_m2 (tr_sw a b B) r d
    unfold tr_m2
    rw [tr_sw_k B (k := 0) (by omega) (by omega), tr_sw_k B (k := 0) (by omega) (by omega), tr_sw_k B (k := 0) (by omega) (by omega), tr_sw_k B (k := 1) (by omega) (by omega), tr_sw_k B (k := 1) (by omega) (by omega), tr_sw_k B (k := 1) (by omega) (by omega)]; rfl
  · subst z
    show tr_m3 B (tr_sg a b r) d = tr_m3 (tr_sw a b B) r d
    unfold tr_m3
    rw [tr_sw_k B (k := 0) (by omega) (by omega), tr_sw_k B (k := 0) (by omega) (by omega), tr_sw_k B (k := 0) (by omega) (by omega), tr_sw_k B (k := 0) (by omega) (by omega), tr_sw_k B (k := 1) (by omega) (by omega), tr_sw_k B (k := 1) (by omega) (by omega), tr_sw_k B (k := 1) (by omega) (by omega), tr_sw_k B (k := 1) (by omega) (by omega), tr_sw_k B (k := 2) (by omega) (by omega), tr_sw_k B (k := 2) (by omega) (by omega), tr_sw_k B (k := 2) (by omega) (by omega), tr_sw_k B (k := 2) (by omega) (by omega)]; rfl
theorem tr_ldsw {a b c : Nat} (hc : c < 4) (ha : c ≤ a) (hb : c ≤ b) (B : Nat → Nat → Int) : tr_ld c (tr_sw a b B) = tr_ld c B := by
  have : c = 0 ∨ c = 1 ∨ c = 2 ∨ c = 3 := by omega
  rcases this with z | z | z | z
  · subst z; rfl
  · subst z
    show tr_sw a b B 0 0 = B 0 0
    exact tr_sw_k B (by omega) (by omega) 0
  · subst z
    show tr_m1 (tr_sw a b B) 1 1 = tr_m1 B 1 1
    unfold tr_m1
    rw [tr_sw_k B (k := 0) (by omega) (by omega), tr_sw_k B (k := 1) (by omega) (by omega), tr_sw_k B (k := 1) (by omega) (by omega), tr_sw_k B (k := 0) (by omega) (by omega)]
  · subst z
    show tr_m2 (tr_sw a b B) 2 2 = tr_m2 B 2 2
    unfold tr_m2
    rw [tr_sw_k B (k := 0) (by omega) (by omega), tr_sw_k B (k := 0) (by omega) (by omega), tr_sw_k B (k := 0) (by omega) (by omega), tr_sw_k B (k := 1) (by omega) (by omega), tr_sw_k B (k := 1) (by omega) (by omega), tr_sw_k B (k := 1) (by omega) (by omega), tr_sw_k B (k := 2) (by omega) (by omega), tr_sw_k B (k := 2) (by omega) (by omega), tr_sw_k B (k := 2) (by omega) (by omega)]
theorem tr_dsw {a b : Nat} (h : b < a) (ha : a < 4) (B : Nat → Nat → Int) : tr_det (tr_sw a b B) = - tr_det B := by
  have : (a = 1 ∧ b = 0) ∨ (a = 2 ∧ b = 0) ∨ (a = 3 ∧ b = 0) ∨ (a = 2 ∧ b = 1) ∨ (a = 3 ∧ b = 1) ∨ (a = 3 ∧ b = 2) := by omega
  rcases this with ⟨z, y⟩ | ⟨z, y⟩ | ⟨z, y⟩ | ⟨z, y⟩ | ⟨z, y⟩ | ⟨z, y⟩
  · subst z; subst y; exact tr_w01 _ _ _ _ _ _ _ _ _ _ _ _ _ _ _ _
  · subst z; subst y; exact tr_w02 _ _ _ _ _ _ _ _ _ _ _ _ _ _ _ _
  · subst z; subst y; exact tr_w03 _ _ _ _ _ _ _ _ _ _ _ _ _ _ _ _
  · subst z; subst y; exact tr_w12 _ _ _ _ _ _ _ _ _ _ _ _ _ _ _ _
  · subst z; subst y; exact tr_w13 _ _ _ _ _ _ _ _ _ _ _ _ _ _ _ _
  · subst z; subst y; exact tr_w23 _ _ _ _ _ _ _ _ _ _ _ _ _ _ _ _
theorem tr_swb {a b : Nat} {B : Nat → Nat → Int} (hB : tr_bd B) (ha : a < 4) (hb : b < 4) : tr_bd (tr_sw a b B) := by
  intro r d hr hd
  refine hB _ _ ?_ hd
  unfold tr_sg
  split
  · exact hb
  · split
    · exact ha
    · exact hr
theorem tr_zero {c : Nat} (hc : c < 4) (B : Nat → Nat → Int) (hl : tr_ld c B ≠ 0) (h : ∀ r, c ≤ r → r < 4 → tr_V c B r c = 0) : tr_det B = 0 := by
  have : c = 0 ∨ c = 1 ∨ c = 2 ∨ c = 3 := by omega
  rcases this with z | z | z | z
  · subst z
    have h0 : B 0 0 = 0 := h 0 (by omega) (by omega)
    have h1 : B 1 0 = 0 := h 1 (by omega) (by omega)
    have h2 : B 2 0 = 0 := h 2 (by omega) (by omega)
    have h3 : B 3 0 = 0 := h 3 (by omega) (by omega)
    unfold tr_det tr_m3
    rw [h0, h1, h2, h3]
    exact tr_z0v _ _ _ _ _ _ _ _ _ _ _ _
  · subst z
    have h1 : tr_m1 B 1 1 = 0 := h 1 (by omega) (by omega)
    have h2 : tr_m1 B 2 1 = 0 := h 2 (by omega) (by omega)
    have h3 : tr_m1 B 3 1 = 0 := h 3 (by omega) (by omega)
    unfold tr_m1 at h1 h2 h3
    have e := tr_z1v (B 0 0) (B 0 1) (B 0 2) (B 0 3) (B 1 0) (B 1 1) (B 1 2) (B 1 3) (B 2 0) (B 2 1) (B 2 2) (B 2 3) (B 3 0) (B 3 1) (B 3 2) (B 3 3)
    rw [h1, h2, h3, Int.zero_mul, Int.zero_mul, Int.zero_mul] at e
    have hl' : B 0 0 ≠ 0 := hl
    rcases Int.mul_eq_zero.mp (e.trans (by omega)) with y | y
    · exact absurd y hl'
    · exact y
  · subst z
    have h2 : tr_m2 B 2 2 = 0 := h 2 (by omega) (by omega)
    have h3 : tr_m2 B 3 2 = 0 := h 3 (by omega) (by omega)
    have e := tr_s3 B 3 3
    rw [h2, h3, Int.mul_zero, Int.zero_mul] at e
    have hl' : tr_m1 B 1 1 ≠ 0 := hl
    rcases Int.mul_eq_zero.mp (e.symm.trans (by omega)) with y | y
    · exact absurd y hl'
    · exact y
  · subst z
    exact h 3 (by omega) (by omega)
section
variable {xe : Int32} {xk : Int32} {xc : Nat → Int32} {xj : Nat → Int32} {xl : Nat → Int32} {xf : Nat → Int32} {xt : Nat → Int32} {xs : Nat → Int32} {xh : Nat → Int32} {xw : Nat → Int64} {xp : Nat → Int64} {xn : Nat → Int32} {xz : Nat → Int32} {xo : Nat → Int32} {xm : Nat → Int64} {xq : Nat → Int64}
theorem xw_trees {post : Int32 → SX → Prop} {m : Nat} (hG : gr_F m xf xt) (he : xe = nI m) (hbd : tr_bd (tr_LL (tr_mu (gr_n xf) (gr_n xt) m)))
    (h : ∀ q' : Nat → Int64, post (Int32.ofInt (tr_det (tr_LL (tr_mu (gr_n xf) (gr_n xt) m)))) (xe, xk, xc, xj, xl, xf, xt, xs, xh, xw, xp, xn, xz, xo, xm, q')) : wpX_trees post (xe, xk, xc, xj, xl, xf, xt, xs, xh, xw, xp, xn, xz, xo, xm, xq) := by
  unfold wpX_trees
  refine xw_layDegrees hG he (fun q0 M0 => ?_)
  generalize tr_LL (tr_mu (gr_n xf) (gr_n xt) m) = A at *
  refine loop_0 (fun n c (s : Int64 × Int64 × (Nat → Int64)) => wX_trees_11 post n s.1 s.2.1 (nI c) xe xk xc xj xl xf xt xs xh xw xp xn xz xo xm (s.2.2))
    (fun c s => ∃ (B : Nat → Nat → Int) (sg : Int), (sg = 1 ∨ sg = -1) ∧ s.2.1 = Int64.ofInt sg ∧ tr_bd B ∧ tr_det B = sg * tr_det A ∧ (c < 4 → s.1 = Int64.ofInt (tr_ld c B) ∧ tr_ld c B ≠ 0 ∧ tr_M c s.2.2 (tr_V c B)) ∧ (c = 4 → s.2.2 15 = Int64.ofInt (tr_det B))) 4 (1, 1, q0)
    ⟨A, 1, Or.inl rfl, rfl, hbd, by omega, fun _ => ⟨rfl, show (1 : Int) ≠ 0 by decide, M0⟩, fun q => by omega⟩ ?_ ?_
  · intro n s ⟨B, sg, hsg, e1, hB, e2, _, e4⟩
    refine rl_le_t 4 4 (by omega) ?_
    rw [e1, e4 rfl, ← Int64.ofInt_mul, Int64.toInt32_ofInt, e2]
    have : sg * (sg * tr_det A) = tr_det A := by
      rcases hsg with z | z
      · subst z; omega
      · subst z; omega
    rw [this]; exact h s.2.2
  · intro n c s hc ⟨B, sg, hsg, e1, hB, e2, e3, _⟩ k
    obtain ⟨b0, s0, q⟩ := s
    dsimp only at e1 e3
    obtain ⟨e3a, e3b, e3c⟩ := e3 hc
    subst e1; subst e3a
    have go : ∀ (B' : Nat → Nat → Int) (sg' : Int) (q' : Nat → Int64), (sg' = 1 ∨ sg' = -1) → tr_bd B' → tr_det B' = sg' * tr_det A → tr_ld c B' = tr_ld c B → tr_V c B' c c ≠ 0 → tr_M c q' (tr_V c B') →
        wX_trees_50 post (wX_trees_11 post n) (Int64.ofInt (tr_ld c B)) (Int64.ofInt sg') (nI c) xe xk xc xj xl xf xt xs xh xw xp xn xz xo xm q' := by
      intro B' sg' q' g1 g2 g3 g4 g5 g6
      have e5 : 5 * nI c = nI (5 * c) := rl_5m c
      unfold wX_trees_50
      refine xw_clearColumn (N := tr_V (c + 1) B') hc g6 e3b (tr_ldb hB c) (tr_Vb g2 (c + 1)) ?_ ?_
      · intro r d h1 h2 h3 h4
        rw [← g4]; exact tr_syl (by omega) B' r d
      · intro q2 M2 hp
        dsimp only
        rw [e5, rl_cl]
        refine ⟨vp_in_nI (by omega) (by omega), nm_e (nm_r (nI_1 c) (k (q2 (5 * c), Int64.ofInt sg', q2) ⟨B', sg', g1, rfl, g2, g3, fun h4 => ?_, fun h4 => ?_⟩))⟩
        · have ev := tr_ldv (c := c) (by omega) B'
          refine ⟨?_, by rw [← ev]; exact g5, M2⟩
          show q2 (5 * c) = _
          rw [hp, ev]
        · have : c = 3 := by omega
          subst this
          exact hp
    refine rl_le_f 4 c hc (xw_pivotRow hc e3c (tr_Vb hB c) (fun hz => br_f (by decide) ?_) (fun r h1 h2 h3 => br_t (nI_pos' (by omega)) ?_))
    · have hd := tr_zero hc B e3b hz
      have : tr_det A = 0 := by
        rw [hd] at e2
        rcases hsg with z | z
        · subst z; omega
        · subst z; omega
      rw [this] at h; exact h q
    · refine pk_eq r c (fun y => ?_) (fun y => ?_)
      · subst y
        exact go B sg q hsg hB e2 rfl h3 e3c
      · refine xw_exchangeRows (c := c) h1 h2 (Nat.le_refl c) hc y e3c (fun q' M' => ?_)
        rw [tr_Vsw hc h1 (Nat.le_refl c)] at M'
        refine nm_r (Int64.ofInt_neg sg).symm (go (tr_sw r c B) (-sg) q' ?_ (tr_swb hB h2 hc) ?_ (tr_ldsw hc h1 (Nat.le_refl c) B) ?_ M')
        · rcases hsg with z | z
          · right; omega
          · left; omega
        · rw [tr_dsw (by omega) h2, e2, Int.neg_mul]
        · rw [← tr_Vsw hc h1 (Nat.le_refl c)]
          show tr_V c B (tr_sg r c c) c ≠ 0
          have : tr_sg r c c = r := by unfold tr_sg; rw [if_neg (fun z => y z.symm), if_pos rfl]
          rw [this]; exact h3
end
end
section
/-! cuts: sets of nodes as numbers -/
theorem ct_z {x : Nat} : x = 0 ↔ ∀ i, x.testBit i = false := by
  constructor
  · intro h i; rw [h]; exact Nat.zero_testBit i
  · intro h
    exact Nat.eq_of_testBit_eq (fun i => by rw [h i, Nat.zero_testBit])
theorem ct_e2 {a b i : Nat} : (2 ^ a ||| 2 ^ b).testBit i = (decide (a = i) || decide (b = i)) := by
  rw [Nat.testBit_or, Nat.testBit_two_pow, Nat.testBit_two_pow]
theorem ct_and0 {a b A : Nat} : (2 ^ a ||| 2 ^ b) &&& A = 0 ↔ (A.testBit a = false ∧ A.testBit b = false) := by
  rw [ct_z]
  constructor
  · intro h
    have h1 := h a
    have h2 := h b
    rw [Nat.testBit_and, ct_e2] at h1 h2
    simp at h1 h2
    exact ⟨h1, h2⟩
  · intro ⟨h1, h2⟩ i
    rw [Nat.testBit_and, ct_e2]
    by_cases x : a = i
    · subst x; rw [h1]; simp
    · by_cases y : b = i
      · subst y; rw [h2]; simp
      · simp [x, y]
theorem ct_lt5 {a : Nat} (ha : a < 5) : 2 ^ a < 32 := Nat.pow_lt_pow_right (a := 2) (n := 5) (by omega) ha
theorem ct_or32 {a b : Nat} (ha : a < 32) (hb : b < 32) : a ||| b < 32 := Nat.or_lt_two_pow (n := 5) ha hb
theorem ct_nd0 {x A : Nat} (hx : x < 32) : rl_nd x A = 0 ↔ ∀ i, x.testBit i = true → A.testBit i = true := by
  rw [ct_z]
  constructor
  · intro h i hi
    have := h i
    rw [rl_nd_t (by omega), hi] at this
    simpa using this
  · intro h i
    rw [rl_nd_t (by omega)]
    cases hi : x.testBit i
    · rfl
    · rw [h i hi]; rfl
theorem ct_nde {a b A : Nat} (ha : a < 5) (hb : b < 5) : rl_nd (2 ^ a ||| 2 ^ b) A = 0 ↔ (A.testBit a = true ∧ A.testBit b = true) := by
  rw [ct_nd0 (ct_or32 (ct_lt5 ha) (ct_lt5 hb))]
  constructor
  · intro h
    exact ⟨h a (by rw [ct_e2]; simp), h b (by rw [ct_e2]; simp)⟩
  · intro ⟨h1, h2⟩ i hi
    rw [ct_e2] at hi
    by_cases x : a = i
    · subst x; exact h1
    · by_cases y : b = i
      · subst y; exact h2
      · simp [x, y] at hi
theorem ct_32 {A i : Nat} (hA : A < 32) (h : A.testBit i = true) : i < 5 := by
  rcases Nat.lt_or_ge i 5 with z | z
  · exact z
  · have : A.testBit i = false := Nat.testBit_lt_two_pow (Nat.lt_of_lt_of_le hA (Nat.pow_le_pow_right (n := 2) (i := 5) (by omega) z))
    rw [h] at this; cases this
def ct_pc (A : Nat) : Nat := gw_on A 5
theorem ct_pk : tb_all (fun R => tb_all (fun R' => decide (R = R') || (!(decide (R &&& R' = R)) || decide (ct_pc R < ct_pc R'))) 32) 32 = true := by decide +kernel
theorem ct_pcl {R R' : Nat} (h : R < 32) (h' : R' < 32) (hs : ∀ i, R.testBit i = true → R'.testBit i = true) (hn : R ≠ R') : ct_pc R < ct_pc R' := by
  have k := tb_or (tb_all2 ct_pk R h R' h') hn
  have e : R &&& R' = R := Nat.eq_of_testBit_eq (fun i => by
    rw [Nat.testBit_and]
    cases hi : R.testBit i
    · rfl
    · rw [hs i hi]; rfl)
  rw [decide_eq_true e] at k
  exact of_decide_eq_true k
/-- a set of nodes that holds both ends or none of each edge within A -/
def ct_cl (m : Nat) (fr to : Nat → Nat) (A : Nat) (T : Nat → Prop) : Prop := ∀ i, i < m → A.testBit (fr i) = true → A.testBit (to i) = true → (T (fr i) ↔ T (to i))
/-- A hangs together -/
def ct_H (m : Nat) (fr to : Nat → Nat) (A : Nat) : Prop := ∀ T : Nat → Prop, ct_cl m fr to A T → ∀ u v, A.testBit u = true → A.testBit v = true → T u → T v
theorem ct_iI {a b : Nat} (ha : a < 2 ^ 31) : nI a = 0 ↔ a = 0 := nI_eq (b := 0) ha (by omega)
theorem xw_lowest {post : Int32 → Prop} {M : Nat} (hM : M < 2 ^ 31) (h0 : (∀ v, v < 5 → M.testBit v = false) → post (-1)) (h1 : ∀ v, v < 5 → M.testBit v = true → post (nI v)) : wpX_lowest post (nI M) := by
  show ∃ n2 : Nat, wX_lowest_2 post (nI M) n2 0
  refine loop_0 (fun n j (_ : Unit) => wX_lowest_2 post (nI M) n (nI j)) (fun j _ => ∀ v, v < j → M.testBit v = false) 5 () (fun v hv => absurd hv (Nat.not_lt_zero v)) ?_ ?_
  · intro n _ e
    exact rl_le_t 5 5 (by omega) (h0 e)
  · intro n j _ hj e k
    refine rl_le_f 5 j hj (br_c (fun z => h1 j hj ((rl_bit_t hM (by omega)).mp z)) (fun z => nm_r (nI_1 j) (k () (fun v hv => ?_))))
    by_cases y : v = j
    · subst y
      cases hb : M.testBit v
      · rfl
      · exact absurd ((rl_bit_t hM (by omega)).mpr hb) z
    · exact e v (by omega)
section
variable {xe : Int32} {xk : Int32} {xc : Nat → Int32} {xj : Nat → Int32} {xl : Nat → Int32} {xf : Nat → Int32} {xt : Nat → Int32} {xs : Nat → Int32} {xh : Nat → Int32} {xw : Nat → Int64} {xp : Nat → Int64} {xn : Nat → Int32} {xz : Nat → Int32} {xo : Nat → Int32} {xm : Nat → Int64} {xq : Nat → Int64}
theorem xw_hangs_20 {post : Int32 → Prop} {m A s R0 : Nat} (hG : gr_F m xf xt) (he : xe = nI m) (hA : A < 32) (hs : A.testBit s = true ∨ A = 0) (hR : R0 < 32) (hR0 : ∀ v, R0.testBit v = true ↔ (A ≠ 0 ∧ v = s))
    (h : ∀ b : Bool, (b = true ↔ ct_H m (gr_n xf) (gr_n xt) A) → post (rl_b b)) : ∃ n20 : Nat, wX_hangsTogether_20 post (nI A) xe xk xc xj xl xf xt xs xh xw xp xn xz xo xm xq n20 (nI R0) 0 := by
  subst he
  have hm := hG.1
  refine loop_0 (fun n k (r : Int32) => wX_hangsTogether_20 post (nI A) (nI m) xk xc xj xl xf xt xs xh xw xp xn xz xo xm xq n r (nI k))
    (fun k r => ∃ R, r = nI R ∧ R < 32 ∧ (∀ v, R.testBit v = true → A.testBit v = true) ∧ (A ≠ 0 → R.testBit s = true) ∧ (∀ T : Nat → Prop, ct_cl m (gr_n xf) (gr_n xt) A T → T s → ∀ v, R.testBit v = true → T v) ∧ (ct_cl m (gr_n xf) (gr_n xt) A (fun v => R.testBit v = true) ∨ k + 1 ≤ ct_pc R ∨ A = 0)) 5 (nI R0)
    ⟨R0, rfl, hR, ?_, ?_, ?_, ?_⟩ ?_ ?_
  · intro v hv
    obtain ⟨z1, z2⟩ := (hR0 v).mp hv
    rcases hs with y | y
    · rw [z2]; exact y
    · exact absurd y z1
  · intro z; exact (hR0 s).mpr ⟨z, rfl⟩
  · intro T _ ht v hv
    rw [((hR0 v).mp hv).2]; exact ht
  · by_cases z : A = 0
    · exact Or.inr (Or.inr z)
    · refine Or.inr (Or.inl ?_)
      have h1 : R0.testBit s = true := (hR0 s).mpr ⟨z, rfl⟩
      have : (0 : Nat) ≠ R0 := fun q => by rw [← q, Nat.zero_testBit] at h1; cases h1
      have := ct_pcl (R := 0) (by omega) hR (fun i hi => by rw [Nat.zero_testBit] at hi; cases hi) this
      omega
  · intro n r ⟨R, e, r1, r2, r3, r4, r5⟩
    subst e
    refine rl_le_t 5 5 (by omega) ?_
    have cl : ct_cl m (gr_n xf) (gr_n xt) A (fun v => R.testBit v = true) := by
      rcases r5 with z | z | z
      · exact z
      · have : ct_pc R ≤ 5 := gw_on_le 5
        omega
      · subst z
        intro i _ q
        rw [Nat.zero_testBit] at q; cases q
    have iff : R = A ↔ ct_H m (gr_n xf) (gr_n xt) A := by
      constructor
      · intro z T hT u v hu hv tu
        have hA0 : A ≠ 0 := fun q => by rw [q, Nat.zero_testBit] at hu; cases hu
        rw [z] at r4
        by_cases ts : T s
        · exact r4 T hT ts v hv
        · exact absurd tu (r4 (fun x => ¬ T x) (fun i hi h1 h2 => not_congr (hT i hi h1 h2)) ts u hu)
      · intro z
        refine Nat.eq_of_testBit_eq (fun v => ?_)
        cases hv : A.testBit v
        · cases hr : R.testBit v
          · rfl
          · have := r2 v hr
            rw [hv] at this; cases this
        · have hA0 : A ≠ 0 := fun q => by rw [q, Nat.zero_testBit] at hv; cases hv
          exact z _ cl s v (r2 s (r3 hA0)) hv (r3 hA0)
    refine pk_eq R A (fun z => ?_) (fun z => ?_)
    · exact h true ⟨fun _ => iff.mp z, fun _ => rfl⟩
    · exact h false ⟨fun q => (by cases q), fun q => absurd (iff.mpr q) z⟩
  · intro n k r hk ⟨R, e, r1, r2, r3, r4, r5⟩ kk
    subst e
    refine rl_le_f 5 k hk ?_
    refine loop_0 (fun n' i (r : Int32) => wX_hangsTogether_29 post (wX_hangsTogether_20 post (nI A) (nI m) xk xc xj xl xf xt xs xh xw xp xn xz xo xm xq n) (nI A) (nI k) (nI m) xk xc xj xl xf xt xs xh xw xp xn xz xo xm xq n' r (nI i))
      (fun i r => ∃ R', r = nI R' ∧ R' < 32 ∧ (∀ v, R'.testBit v = true → A.testBit v = true) ∧ (∀ v, R.testBit v = true → R'.testBit v = true) ∧ (∀ T : Nat → Prop, ct_cl m (gr_n xf) (gr_n xt) A T → T s → ∀ v, R'.testBit v = true → T v) ∧
        (R' = R → ∀ j, j < i → A.testBit (gr_n xf j) = true → A.testBit (gr_n xt j) = true → (R.testBit (gr_n xf j) = true ↔ R.testBit (gr_n xt j) = true)) ∧ (ct_cl m (gr_n xf) (gr_n xt) A (fun v => R.testBit v = true) → R' = R)) m (nI R)
      ⟨R, rfl, r1, r2, fun _ q => q, r4, fun _ j hj => absurd hj (Nat.not_lt_zero j), fun _ => rfl⟩ ?_ ?_
    · intro n' r ⟨R', e, p1, p2, p3, p4, p5, p6⟩
      subst e
      refine rl_le_t m m (Nat.le_refl m) (nm_r (nI_1 k) (kk _ ⟨R', rfl, p1, p2, fun q => p3 s (r3 q), p4, ?_⟩))
      by_cases z : R' = R
      · refine Or.inl ?_
        rw [z]
        exact p5 z
      · rcases r5 with y | y | y
        · exact absurd (p6 y) z
        · have := ct_pcl r1 p1 p3 (fun q => z q.symm)
          exact Or.inr (Or.inl (by omega))
        · exact Or.inr (Or.inr y)
    · intro n' i r hi ⟨R', e, p1, p2, p3, p4, p5, p6⟩ k2
      subst e
      obtain ⟨ef, et, f1, f2, f3⟩ := hG.2 i hi
      have hv : vp_in (nI i) 12 := vp_in_nI (by omega) (by omega)
      have cf : xf (nI i).toNatClampNeg = nI (gr_n xf i) := by rw [rl_cl]; exact ef
      have ct : xt (nI i).toNatClampNeg = nI (gr_n xt i) := by rw [rl_cl]; exact et
      have ee : ((1 : Int32) <<< (nI (gr_n xf i) &&& 31)) ||| ((1 : Int32) <<< (nI (gr_n xt i) &&& 31)) = nI (2 ^ gr_n xf i ||| 2 ^ gr_n xt i) := by rw [rl_shl (by omega), rl_shl (by omega), rl_or]
      have l1 := ct_lt5 f1
      have l2 := ct_lt5 f2
      have le := ct_or32 l1 l2
      have z1 : rl_nd (2 ^ gr_n xf i ||| 2 ^ gr_n xt i) A < 2 ^ 31 := Nat.lt_of_le_of_lt (rl_nd_le _ _) (by omega)
      have z2 : (2 ^ gr_n xf i ||| 2 ^ gr_n xt i) &&& R' < 2 ^ 31 := Nat.lt_of_le_of_lt Nat.and_le_left (by omega)
      have keep : (A.testBit (gr_n xf i) = true → A.testBit (gr_n xt i) = true → R'.testBit (gr_n xf i) = false ∧ R'.testBit (gr_n xt i) = false) → wX_hangsTogether_29 post (wX_hangsTogether_20 post (nI A) (nI m) xk xc xj xl xf xt xs xh xw xp xn xz xo xm xq n) (nI A) (nI k) (nI m) xk xc xj xl xf xt xs xh xw xp xn xz xo xm xq n' (nI R') (nI (i + 1)) := by
        intro q
        refine k2 _ ⟨R', rfl, p1, p2, p3, p4, fun z j hj a1 a2 => ?_, p6⟩
        by_cases y : j = i
        · subst y
          obtain ⟨q1, q2⟩ := q a1 a2
          rw [← z, q1, q2]
        · exact p5 z j (by omega) a1 a2
      refine rl_le_f m i hi ⟨hv, hv, ?_⟩
      rw [cf, ct]
      refine nm_r ee ?_
      rw [rl_andn, nx_and, ct_iI (b := 0) z1, ct_iI (b := 0) z2, ct_nde f1 f2, ct_and0]
      refine br_c (fun a => br_c (fun b => nm_r (nI_1 i) (keep (fun _ _ => b))) (fun b => ?_)) (fun a => nm_r (nI_1 i) (keep (fun a1 a2 => absurd ⟨a1, a2⟩ a)))
      obtain ⟨a1, a2⟩ := a
      refine nm_r (rl_or _ _) (nm_r (nI_1 i) (k2 _ ⟨R' ||| (2 ^ gr_n xf i ||| 2 ^ gr_n xt i), rfl, ct_or32 p1 le, ?_, ?_, ?_, ?_, ?_⟩))
      · intro v hv
        rw [Nat.testBit_or, ct_e2] at hv
        by_cases x : gr_n xf i = v
        · rw [← x]; exact a1
        · by_cases y : gr_n xt i = v
          · rw [← y]; exact a2
          · simp [x, y] at hv
            exact p2 v hv
      · intro v hv
        rw [Nat.testBit_or, p3 v hv]; rfl
      · intro T hT ts v hv
        have hh := hT i hi a1 a2
        have hor : T (gr_n xf i) ∨ T (gr_n xt i) := by
          by_cases b1 : R'.testBit (gr_n xf i) = true
          · exact Or.inl (p4 T hT ts _ b1)
          · by_cases b2 : R'.testBit (gr_n xt i) = true
            · exact Or.inr (p4 T hT ts _ b2)
            · exact absurd ⟨by simpa using b1, by simpa using b2⟩ b
        have hf : T (gr_n xf i) := hor.elim id hh.mpr
        have ht : T (gr_n xt i) := hh.mp hf
        rw [Nat.testBit_or, ct_e2] at hv
        by_cases x : gr_n xf i = v
        · rw [← x]; exact hf
        · by_cases y : gr_n xt i = v
          · rw [← y]; exact ht
          · simp [x, y] at hv
            exact p4 T hT ts v hv
      · intro z j hj b1 b2
        have bf : R.testBit (gr_n xf i) = true := by rw [← z, Nat.testBit_or, ct_e2]; simp
        have bt : R.testBit (gr_n xt i) = true := by rw [← z, Nat.testBit_or, ct_e2]; simp
        by_cases y : j = i
        · subst y
          rw [bf, bt]
        · have zR : R' = R := by
            refine Nat.eq_of_testBit_eq (fun v => ?_)
            cases hr : R.testBit v
            · cases hr' : R'.testBit v
              · rfl
              · have : (R' ||| (2 ^ gr_n xf i ||| 2 ^ gr_n xt i)).testBit v = true := by rw [Nat.testBit_or, hr']; rfl
                rw [z, hr] at this; cases this
            · exact p3 v hr
          exact p5 zR j (by omega) b1 b2
      · intro q
        have zR := p6 q
        have qi := q i hi a1 a2
        have b' : R.testBit (gr_n xf i) = true ∧ R.testBit (gr_n xt i) = true := by
          rw [zR] at b
          dsimp only at qi
          by_cases b1 : R.testBit (gr_n xf i) = true
          · exact ⟨b1, qi.mp b1⟩
          · by_cases b2 : R.testBit (gr_n xt i) = true
            · exact ⟨qi.mpr b2, b2⟩
            · exact absurd ⟨by simpa using b1, by simpa using b2⟩ b
        rw [zR]
        refine Nat.eq_of_testBit_eq (fun v => ?_)
        rw [Nat.testBit_or, ct_e2]
        by_cases x : gr_n xf i = v
        · subst x; rw [b'.1]; rfl
        · by_cases y : gr_n xt i = v
          · subst y; rw [b'.2]; rfl
          · simp [x, y]
theorem xw_hangsTogether {post : Int32 → Prop} {m A : Nat} (hG : gr_F m xf xt) (he : xe = nI m) (hA : A < 32) (h : ∀ b : Bool, (b = true ↔ ct_H m (gr_n xf) (gr_n xt) A) → post (rl_b b)) : wpX_hangsTogether post (xe, xk, xc, xj, xl, xf, xt, xs, xh, xw, xp, xn, xz, xo, xm, xq) (nI A) := by
  unfold wpX_hangsTogether
  refine xw_lowest (by omega) (fun z => br_f (by decide) ?_) (fun s hs z => br_t (nI_pos' (by omega)) ?_)
  · have hA0 : A = 0 := ct_z.mpr (fun i => by
      cases hi : A.testBit i
      · rfl
      · have := z i (ct_32 hA hi)
        rw [hi] at this; cases this)
    exact xw_hangs_20 (s := 0) (R0 := 0) hG he hA (Or.inr hA0) (by omega) (fun v => ⟨fun q => absurd q (by rw [Nat.zero_testBit]; decide), fun q => absurd hA0 q.1⟩) h
  · have hA0 : A ≠ 0 := fun q => by rw [q, Nat.zero_testBit] at z; cases z
    refine nm_r (rl_shl (by omega)) (xw_hangs_20 (s := s) hG he hA (Or.inl z) (ct_lt5 hs) (fun v => ?_) h)
    rw [Nat.testBit_two_pow, decide_eq_true_iff]
    exact ⟨fun q => ⟨hA0, q.symm⟩, fun q => q.2.symm⟩
/-- edges between two sets of nodes, as a set of edges -/
def ct_c (fr to : Nat → Nat) (A B : Nat) : Nat → Nat
  | 0 => 0
  | i + 1 => if (A.testBit (fr i) = true ∨ A.testBit (to i) = true) ∧ (B.testBit (fr i) = true ∨ B.testBit (to i) = true) then 2 ^ i + ct_c fr to A B i else ct_c fr to A B i
theorem ct_c_lt {fr to : Nat → Nat} {A B : Nat} : ∀ i, ct_c fr to A B i < 2 ^ i
  | 0 => Nat.one_pos
  | i + 1 => by
    have := ct_c_lt (fr := fr) (to := to) (A := A) (B := B) i
    have hp : 2 ^ (i + 1) = 2 ^ i + 2 ^ i := by rw [Nat.pow_succ, Nat.mul_two]
    have u : ct_c fr to A B (i + 1) = if (A.testBit (fr i) = true ∨ A.testBit (to i) = true) ∧ (B.testBit (fr i) = true ∨ B.testBit (to i) = true) then 2 ^ i + ct_c fr to A B i else ct_c fr to A B i := rfl
    rw [u]
    split <;> omega
theorem xw_isCut {post : Int32 → Prop} {m A B : Nat} {x : Int32} (hG : gr_F m xf xt) (he : xe = nI m) (hA : A < 32) (hB : B < 32)
    (h : ∀ b : Bool, (b = true ↔ (ct_H m (gr_n xf) (gr_n xt) A ∧ ct_H m (gr_n xf) (gr_n xt) B ∧ nI (gw_on (ct_c (gr_n xf) (gr_n xt) A B m) m) = x)) → post (rl_b b)) : wpX_isCut post (xe, xk, xc, xj, xl, xf, xt, xs, xh, xw, xp, xn, xz, xo, xm, xq) (nI A) (nI B) x := by
  subst he
  have hm := hG.1
  unfold wpX_isCut
  refine xw_hangsTogether hG rfl hA (fun b1 e1 => xw_hangsTogether hG rfl hB (fun b2 e2 => ?_))
  refine rl_bc _ (fun z1 => h false ⟨fun q => (by cases q), fun q => ?_⟩) (fun z1 => rl_bc _ (fun z2 => h false ⟨fun q => (by cases q), fun q => ?_⟩) (fun z2 => ?_))
  · have := e1.mpr q.1
    rw [z1] at this; cases this
  · have := e2.mpr q.2.1
    rw [z2] at this; cases this
  · refine loop_0 (fun n i (r : Int32) => wX_isCut_32 post (nI A) (nI B) x (nI m) xk xc xj xl xf xt xs xh xw xp xn xz xo xm xq n r (nI i)) (fun i r => r = nI (gw_on (ct_c (gr_n xf) (gr_n xt) A B i) i)) m 0 rfl ?_ ?_
    · intro n r e
      subst e
      refine rl_le_t m m (Nat.le_refl m) (br_c (fun z => h true ⟨fun _ => ⟨e1.mp z1, e2.mp z2, z⟩, fun _ => rfl⟩) (fun z => h false ⟨fun q => (by cases q), fun q => absurd q.2.2 z⟩))
    · intro n i r hi e k
      subst e
      obtain ⟨ef, et, f1, f2, f3⟩ := hG.2 i hi
      have hv : vp_in (nI i) 12 := vp_in_nI (by omega) (by omega)
      have cf : xf (nI i).toNatClampNeg = nI (gr_n xf i) := by rw [rl_cl]; exact ef
      have ct : xt (nI i).toNatClampNeg = nI (gr_n xt i) := by rw [rl_cl]; exact et
      have ee : ((1 : Int32) <<< (nI (gr_n xf i) &&& 31)) ||| ((1 : Int32) <<< (nI (gr_n xt i) &&& 31)) = nI (2 ^ gr_n xf i ||| 2 ^ gr_n xt i) := by rw [rl_shl (by omega), rl_shl (by omega), rl_or]
      have le := ct_or32 (ct_lt5 f1) (ct_lt5 f2)
      have z1 : (2 ^ gr_n xf i ||| 2 ^ gr_n xt i) &&& A < 2 ^ 31 := Nat.lt_of_le_of_lt Nat.and_le_left (by omega)
      have z2 : (2 ^ gr_n xf i ||| 2 ^ gr_n xt i) &&& B < 2 ^ 31 := Nat.lt_of_le_of_lt Nat.and_le_left (by omega)
      have lt := ct_c_lt (fr := gr_n xf) (to := gr_n xt) (A := A) (B := B) i
      have u : ct_c (gr_n xf) (gr_n xt) A B (i + 1) = if (A.testBit (gr_n xf i) = true ∨ A.testBit (gr_n xt i) = true) ∧ (B.testBit (gr_n xf i) = true ∨ B.testBit (gr_n xt i) = true) then 2 ^ i + ct_c (gr_n xf) (gr_n xt) A B i else ct_c (gr_n xf) (gr_n xt) A B i := rfl
      have kno : ¬ ((A.testBit (gr_n xf i) = true ∨ A.testBit (gr_n xt i) = true) ∧ (B.testBit (gr_n xf i) = true ∨ B.testBit (gr_n xt i) = true)) → wX_isCut_32 post (nI A) (nI B) x (nI m) xk xc xj xl xf xt xs xh xw xp xn xz xo xm xq n (nI (gw_on (ct_c (gr_n xf) (gr_n xt) A B i) i) + 0) (nI (i + 1)) := by
        intro q
        refine k _ ?_
        rw [u, if_neg q, gw_on_lo lt]; exact nI_add _ 0
      refine rl_le_f m i hi ⟨hv, hv, ?_⟩
      rw [cf, ct]
      refine nm_r ee ?_
      rw [nx_and, nx_and, ct_iI (b := 0) z1, ct_iI (b := 0) z2, ct_and0, ct_and0]
      refine br_c (fun a => nm_e (nm_r (nI_1 i) (kno ?_))) (fun a => br_c (fun b => nm_e (nm_r (nI_1 i) (kno ?_))) (fun b => nm_e (nm_r (nI_1 i) (k _ ?_))))
      · intro q
        rw [a.1, a.2] at q
        simp at q
      · intro q
        rw [b.1, b.2] at q
        simp at q
      · have q : (A.testBit (gr_n xf i) = true ∨ A.testBit (gr_n xt i) = true) ∧ (B.testBit (gr_n xf i) = true ∨ B.testBit (gr_n xt i) = true) := by
          constructor
          · cases h1 : A.testBit (gr_n xf i)
            · cases h2 : A.testBit (gr_n xt i)
              · exact absurd ⟨h1, h2⟩ a
              · exact Or.inr rfl
            · exact Or.inl rfl
          · cases h1 : B.testBit (gr_n xf i)
            · cases h2 : B.testBit (gr_n xt i)
              · exact absurd ⟨h1, h2⟩ b
              · exact Or.inr rfl
            · exact Or.inl rfl
        rw [u, if_pos q, gw_on_hi lt]; exact nI_1 _
end
end
section
noncomputable def ct_b01 (p : Prop) : Int32 := @ite Int32 p (Classical.propDecidable p) 1 0
theorem ct_b1 {p : Prop} (h : p) : ct_b01 p = 1 := @if_pos p (Classical.propDecidable p) h Int32 1 0
theorem ct_b0 {p : Prop} (h : ¬ p) : ct_b01 p = 0 := @if_neg p (Classical.propDecidable p) h Int32 1 0
/-- a node's part as a set of nodes -/
def ct_k (w f : Nat) : Nat → Nat
  | 0 => 0
  | v + 1 => if tb_lb w v = tb_lb w f then ct_k w f v ||| 2 ^ v else ct_k w f v
theorem ct_k_t {w f i : Nat} : ∀ n, (ct_k w f n).testBit i = true ↔ (i < n ∧ tb_lb w i = tb_lb w f)
  | 0 => by
    show (0 : Nat).testBit i = true ↔ _
    rw [Nat.zero_testBit]
    exact ⟨fun q => (by cases q), fun q => absurd q.1 (Nat.not_lt_zero i)⟩
  | n + 1 => by
    have ih := ct_k_t (w := w) (f := f) (i := i) n
    have u : ct_k w f (n + 1) = if tb_lb w n = tb_lb w f then ct_k w f n ||| 2 ^ n else ct_k w f n := rfl
    rw [u]
    by_cases h : tb_lb w n = tb_lb w f
    · rw [if_pos h, gd_orb, Bool.or_eq_true, ih, decide_eq_true_iff]
      by_cases y : n = i
      · subst y
        exact ⟨fun _ => ⟨by omega, h⟩, fun _ => Or.inr rfl⟩
      · exact ⟨fun q => q.elim (fun q => ⟨by omega, q.2⟩) (fun q => absurd q y), fun q => Or.inl ⟨by omega, q.2⟩⟩
    · rw [if_neg h, ih]
      by_cases y : n = i
      · subst y
        exact ⟨fun q => absurd q.1 (Nat.lt_irrefl n), fun q => absurd q.2 h⟩
      · exact ⟨fun q => ⟨by omega, q.2⟩, fun q => ⟨by omega, q.2⟩⟩
theorem ct_k_lt {w f : Nat} : ∀ n, n ≤ 5 → ct_k w f n < 32
  | 0, _ => by show 0 < 32; omega
  | n + 1, hn => by
    have ih := ct_k_lt (w := w) (f := f) n (by omega)
    have u : ct_k w f (n + 1) = if tb_lb w n = tb_lb w f then ct_k w f n ||| 2 ^ n else ct_k w f n := rfl
    rw [u]
    split
    · exact ct_or32 ih (ct_lt5 (by omega))
    · exact ih
/-- a good side of a cut -/
def ct_Q (m : Nat) (fr to : Nat → Nat) (M rm fi : Nat) (x : Int32) (A : Nat) : Prop := A.testBit fi = true ∧ rl_nd A rm = 0 ∧ rl_nd M A ≠ 0 ∧ ct_H m fr to A ∧ ct_H m fr to (rl_nd rm A) ∧ nI (gw_on (ct_c fr to A (rl_nd rm A) m) m) = x
/-- a least cut -/
def ct_P (m : Nat) (f t : Nat → Int32) (M : Nat) (x : Int32) (S : Nat) : Prop := nI (gw_on S 12) = x ∧ tb_cn (gr_wy f t (rl_nd (2 ^ m - 1) S) m) M = false ∧ ∀ i, i < m → S.testBit i = true → tb_cn (gr_wy f t (rl_nd (2 ^ m - 1) S ||| 2 ^ i) m) M = true
section
variable {xe : Int32} {xk : Int32} {xc : Nat → Int32} {xj : Nat → Int32} {xl : Nat → Int32} {xf : Nat → Int32} {xt : Nat → Int32} {xs : Nat → Int32} {xh : Nat → Int32} {xw : Nat → Int64} {xp : Nat → Int64} {xn : Nat → Int32} {xz : Nat → Int32} {xo : Nat → Int32} {xm : Nat → Int64} {xq : Nat → Int64}
theorem xw_cuts_120 {post : Int32 → Prop} {m M fi rm : Nat} {x : Int32} (hG : gr_F m xf xt) (he : xe = nI m) (hM : M < 32) (hf : fi < 5) (hr : rm < 32) (h : post (s3_s (fun A => ct_b01 (ct_Q m (gr_n xf) (gr_n xt) M rm fi x A)) 32)) : ∃ n120 : Nat, wX_cuts_120 post (nI M) x (nI fi) (nI rm) xe xk xc xj xl xf xt xs xh xw xp xn xz xo xm xq n120 0 1 := by
  subst he
  have hm := hG.1
  have q0 : ct_b01 (ct_Q m (gr_n xf) (gr_n xt) M rm fi x 0) = 0 := ct_b0 (fun q => by
    have := q.1
    rw [Nat.zero_testBit] at this; cases this)
  refine rl_lp (fun n A (s : Int32) => wX_cuts_120 post (nI M) x (nI fi) (nI rm) (nI m) xk xc xj xl xf xt xs xh xw xp xn xz xo xm xq n s (nI A)) (fun A s => s = s3_s (fun A => ct_b01 (ct_Q m (gr_n xf) (gr_n xt) M rm fi x A)) A) 32 1 0 (by omega) ?_ ?_ ?_
  · show 0 = 0 + ct_b01 (ct_Q m (gr_n xf) (gr_n xt) M rm fi x 0)
    rw [q0]; rfl
  · intro n s e; subst e
    exact rl_le_t 32 32 (by omega) h
  · intro n A s h1 hA e k
    have u : s3_s (fun A => ct_b01 (ct_Q m (gr_n xf) (gr_n xt) M rm fi x A)) (A + 1) = s + ct_b01 (ct_Q m (gr_n xf) (gr_n xt) M rm fi x A) := by rw [e]; rfl
    have b1 : rl_nd A rm < 2 ^ 31 := Nat.lt_of_le_of_lt (rl_nd_le _ _) (by omega)
    have b2 : rl_nd M A < 2 ^ 31 := Nat.lt_of_le_of_lt (rl_nd_le _ _) (by omega)
    have b3 : rl_nd rm A < 32 := Nat.lt_of_le_of_lt (rl_nd_le _ _) hr
    have kno : ¬ ct_Q m (gr_n xf) (gr_n xt) M rm fi x A → wX_cuts_120 post (nI M) x (nI fi) (nI rm) (nI m) xk xc xj xl xf xt xs xh xw xp xn xz xo xm xq n s (nI (A + 1)) := by
      intro q
      refine k s ?_
      rw [u, ct_b0 q]; grind
    refine rl_le_f 32 A hA ?_
    unfold wX_cuts_160 wX_cuts_161
    rw [rl_andn, rl_andn, rl_andn, ct_iI (b := 0) b1, ct_iI (b := 0) b2]
    refine br_c (fun z1 => br_c (fun z2 => br_c (fun z3 => br_t rfl (nm_r (nI_1 A) (kno (fun q => q.2.2.1 z3)))) (fun z3 => br_f (by decide) (xw_isCut hG rfl hA b3 (fun b eb => ?_)))) (fun z2 => br_t rfl (nm_r (nI_1 A) (kno (fun q => z2 q.2.1))))) (fun z1 => br_t rfl (nm_r (nI_1 A) (kno (fun q => z1 ((rl_bit_t (by omega) (by omega)).mpr q.1)))))
    have z1 := (rl_bit_t (by omega) (by omega)).mp z1
    refine rl_bc _ (fun y => nm_e (nm_r (nI_1 A) (k _ ?_))) (fun y => nm_e (nm_r (nI_1 A) (k _ ?_)))
    · have nq : ¬ ct_Q m (gr_n xf) (gr_n xt) M rm fi x A := fun q => by
        have := eb.mpr q.2.2.2
        rw [y] at this; cases this
      rw [u, ct_b0 nq]
    · rw [u, ct_b1 ⟨z1, z2, z3, eb.mp y⟩]
theorem xw_cuts_63 {post : Int32 → Prop} {m M fi w : Nat} {x : Int32} (hC : tb_C xc) (hG : gr_F m xf xt) (he : xe = nI m) (hM : M < 32) (hf : fi < 5) (hw : w < 52) (h : post (s3_s (fun A => ct_b01 (ct_Q m (gr_n xf) (gr_n xt) M (ct_k w fi 5) fi x A)) 32)) : ∃ n63 : Nat, wX_cuts_63 post (nI M) x (nI fi) (nI w) xe xk xc xj xl xf xt xs xh xw xp xn xz xo xm xq n63 0 0 := by
  refine loop_0 (fun n v (s : Int32) => wX_cuts_63 post (nI M) x (nI fi) (nI w) xe xk xc xj xl xf xt xs xh xw xp xn xz xo xm xq n s (nI v)) (fun v s => s = nI (ct_k w fi v)) 5 0 rfl ?_ ?_
  · intro n s e; subst e
    exact rl_le_t 5 5 (by omega) (xw_cuts_120 hG he hM hf (ct_k_lt 5 (by omega)) h)
  · intro n v s hv e k; subst e
    have hi : vp_in (nI w) 52 := vp_in_nI hw (by omega)
    have ec : xc (nI w).toNatClampNeg = nI (tb_cd w) := by rw [rl_cl]; exact hC w hw
    have b1 := tb_lb_lt hw hv
    have b2 := tb_lb_lt hw hf
    have u : ct_k w fi (v + 1) = if tb_lb w v = tb_lb w fi then ct_k w fi v ||| 2 ^ v else ct_k w fi v := rfl
    have k' := k _ rfl
    rw [u] at k'
    have eo : nI (ct_k w fi v) ||| ((1 : Int32) <<< (nI v &&& 31)) = nI (ct_k w fi v ||| 2 ^ v) := by rw [rl_shl (by omega), rl_or]
    have e0 : nI (ct_k w fi v) ||| 0 = nI (ct_k w fi v) := by
      have := rl_or (ct_k w fi v) 0
      rw [Nat.or_zero] at this; exact this
    refine rl_le_f 5 v hv ⟨hi, xw_partIn ec hv ⟨hi, xw_partIn ec hf ?_⟩⟩
    refine pk_eq (tb_lb w v) (tb_lb w fi) (fun z => nm_r eo (nm_r (nI_1 v) ?_)) (fun z => nm_r e0 (nm_r (nI_1 v) ?_))
    · rw [if_pos z] at k'; exact k'
    · rw [if_neg z] at k'; exact k'
end
section
variable {ye : Int32} {yf : Nat → Int32} {yt : Nat → Int32} {ys : Nat → Int32} {yh : Nat → Int32} {yp : Nat → Int32} {yc : Nat → Int32}
theorem yw_mends {post : Int32 → SY → Prop} {m S U M : Nat} (hG : gr_F m yf yt) (he : ye = nI m) (hS : S < 2 ^ 31) (hU : U < 2 ^ 31) (hM : M < 32)
    (h : ∀ (b : Bool) (p' : Nat → Int32), (b = true ↔ ∀ i, i < m → S.testBit i = true → tb_cn (gr_wy yf yt (U ||| 2 ^ i) m) M = true) → post (rl_b b) (ye, yf, yt, ys, yh, p', yc)) : wpY_mendsWithAny post (ye, yf, yt, ys, yh, yp, yc) (nI S) (nI U) (nI M) := by
  subst he
  have hm := hG.1
  show ∃ n3 : Nat, wY_mendsWithAny_3 post (nI S) (nI U) (nI M) n3 0 (nI m) yf yt ys yh yp yc
  refine loop_0 (fun n j (p : Nat → Int32) => wY_mendsWithAny_3 post (nI S) (nI U) (nI M) n (nI j) (nI m) yf yt ys yh p yc) (fun j _ => ∀ i, i < j → S.testBit i = true → tb_cn (gr_wy yf yt (U ||| 2 ^ i) m) M = true) m yp (fun i hi => absurd hi (Nat.not_lt_zero i)) ?_ ?_
  · intro n p e
    exact rl_le_t m m (Nat.le_refl m) (h true p ⟨fun _ => e, fun _ => rfl⟩)
  · intro n j p hj e k
    have h2 : 2 ^ j < 2 ^ 31 := Nat.pow_lt_pow_right (by omega) (by omega)
    have eo : nI U ||| ((1 : Int32) <<< (nI j &&& 31)) = nI (U ||| 2 ^ j) := by rw [rl_shl (by omega), rl_or]
    refine rl_le_f m j hj (yw_in hS (by omega) ?_)
    rw [eo]
    refine rl_bc _ (fun z => nm_r (nI_1 j) (k p (fun i hi hb => ?_))) (fun z => yw_connects hG rfl (rl_or31 hU h2) hM (fun p' => rl_bc _ (fun y => h false p' ⟨fun q => (by cases q), fun q => ?_⟩) (fun y => nm_r (nI_1 j) (k p' (fun i hi hb => ?_)))))
    · by_cases q : i = j
      · subst q; rw [z] at hb; cases hb
      · exact e i (by omega) hb
    · have := q j hj z
      rw [y] at this; cases this
    · by_cases q : i = j
      · subst q; exact y
      · exact e i (by omega) hb
theorem yw_cuts_15 {post : Int32 → SY → Prop} {m M : Nat} {x : Int32} (hG : gr_F m yf yt) (he : ye = nI m) (hM : M < 32) (h : ∀ p' : Nat → Int32, post (s3_s (fun S => ct_b01 (ct_P m yf yt M x S)) (2 ^ m)) (ye, yf, yt, ys, yh, p', yc)) : ∃ n15 : Nat, wY_cuts_15 post (nI M) x n15 0 0 ye yf yt ys yh yp yc := by
  have hm := hG.1
  have hp := rl_p12 hm
  have hpos : 0 < 2 ^ m := Nat.two_pow_pos m
  refine loop_0 (fun n S (s : Int32 × (Nat → Int32)) => wY_cuts_15 post (nI M) x n s.1 (nI S) ye yf yt ys yh (s.2) yc) (fun S s => s.1 = s3_s (fun S => ct_b01 (ct_P m yf yt M x S)) S) (2 ^ m) (0, yp) rfl ?_ ?_
  · intro n s e
    rw [wY_cuts_15]
    refine yw_sets hm he ?_
    refine rl_le_t (2 ^ m) (2 ^ m) (by omega) ?_
    rw [e]; exact h s.2
  · intro n S s hS e k
    have hS' : S < 2 ^ 31 := by omega
    have u : s3_s (fun S => ct_b01 (ct_P m yf yt M x S)) (S + 1) = s.1 + ct_b01 (ct_P m yf yt M x S) := by rw [e]; rfl
    have eu : (nI (2 ^ m) - 1) &&& (nI S ^^^ (-1)) = nI (rl_nd (2 ^ m - 1) S) := by
      have : nI (2 ^ m) - 1 = nI (2 ^ m - 1) := pk_sub (b := 1) (by omega)
      rw [this, rl_andn]
    have hU : rl_nd (2 ^ m - 1) S < 2 ^ 31 := Nat.lt_of_le_of_lt (rl_nd_le _ _) (by omega)
    have kno : ∀ p' : Nat → Int32, ¬ ct_P m yf yt M x S → wY_cuts_15 post (nI M) x n s.1 (nI (S + 1)) ye yf yt ys yh p' yc := by
      intro p' q
      refine k (s.1, p') ?_
      rw [u, ct_b0 q]; grind
    rw [wY_cuts_15]
    refine yw_sets hm he ?_
    refine rl_le_f (2 ^ m) S hS (yw_sets hm he (nm_r eu (yw_ones hS' (br_c (fun z1 => yw_connects hG he hU hM (fun p1 => rl_bc _ (fun z2 => yw_mends hG he hS' hU hM (fun b p2 eb => rl_bc _ (fun z3 => nm_r (nI_1 S) (kno p2 (fun q => ?_))) (fun z3 => nm_e (nm_r (nI_1 S) (k (s.1 + 1, p2) ?_))))) (fun z2 => nm_r (nI_1 S) (kno p1 (fun q => ?_))))) (fun z1 => nm_r (nI_1 S) (kno s.2 (fun q => z1 q.1)))))))
    · have := eb.mpr q.2.2
      rw [z3] at this; cases this
    · rw [u, ct_b1 ⟨z1, z2, eb.mp z3⟩]
    · have := q.2.1
      rw [z2] at this; cases this
end
end
section
/-! the way of a set of edges: the least one that joins the ends of all its edges -/
section
variable {m : Nat} {f t : Nat → Int32}
theorem ct_edge {S : Nat} (hG : gr_F m f t) {i : Nat} (hb : S.testBit i = true) : ∀ k, i < k → k ≤ m → tb_lb (gr_wy f t S k) (gr_n f i) = tb_lb (gr_wy f t S k) (gr_n t i)
  | 0, h, _ => absurd h (Nat.not_lt_zero i)
  | k + 1, h, hk => by
    obtain ⟨f1, f2, f3⟩ := gr_ok hG k (by omega)
    obtain ⟨g1, g2, g3⟩ := gr_ok hG i (by omega)
    have hw : gr_wy f t S k < 52 := gw_wy_lt (gr_ok hG) k (by omega)
    have u : gr_wy f t S (k + 1) = if S.testBit k = true then tb_jo (gr_wy f t S k) (gr_n f k) (gr_n t k) else gr_wy f t S k := rfl
    rw [u]
    by_cases hik : i = k
    · subst hik
      rw [if_pos hb]
      exact (tb_same hw f1 f2 f3 f1 f2).mpr (Or.inr (Or.inl ⟨rfl, rfl⟩))
    · have ih := ct_edge hG hb k (by omega) (by omega)
      split
      · exact (tb_same hw f1 f2 f3 g1 g2).mpr (Or.inl ih)
      · exact ih
theorem ct_min {S : Nat} (hG : gr_F m f t) {T : Nat → Prop} : ∀ k, k ≤ m → (∀ i, i < k → S.testBit i = true → (T (gr_n f i) ↔ T (gr_n t i))) → ∀ u v, u < 5 → v < 5 → tb_lb (gr_wy f t S k) u = tb_lb (gr_wy f t S k) v → (T u ↔ T v)
  | 0, _, _, u, v, hu, hv, e => by
    have e' : tb_lb 51 u = tb_lb 51 v := e
    rw [(of_decide_eq_true (tb_all_s tb_k13 u hu)).1, (of_decide_eq_true (tb_all_s tb_k13 v hv)).1] at e'
    rw [e']
  | k + 1, hk, hT, u, v, hu, hv, e => by
    obtain ⟨f1, f2, f3⟩ := gr_ok hG k (by omega)
    have hw : gr_wy f t S k < 52 := gw_wy_lt (gr_ok hG) k (by omega)
    have ih := ct_min hG (T := T) k (by omega) (fun i hi => hT i (by omega))
    have w : gr_wy f t S (k + 1) = if S.testBit k = true then tb_jo (gr_wy f t S k) (gr_n f k) (gr_n t k) else gr_wy f t S k := rfl
    rw [w] at e
    by_cases hb : S.testBit k = true
    · rw [if_pos hb] at e
      have hk2 := hT k (by omega) hb
      rcases (tb_same hw f1 f2 f3 hu hv).mp e with z | ⟨z1, z2⟩ | ⟨z1, z2⟩
      · exact ih u v hu hv z
      · exact (ih u _ hu f1 z1).trans (hk2.trans (ih v _ hv f2 z2).symm)
      · exact (ih u _ hu f2 z1).trans (hk2.symm.trans (ih v _ hv f1 z2).symm)
    · rw [if_neg hb] at e
      exact ih u v hu hv e
theorem ct_full {i : Nat} : (2 ^ m - 1).testBit i = decide (i < m) := Nat.testBit_two_pow_sub_one m i
theorem ct_up {S i : Nat} (hm : m ≤ 12) : (rl_nd (2 ^ m - 1) S).testBit i = (decide (i < m) && !(S.testBit i)) := by
  have := rl_p12 hm
  rw [rl_nd_t (by omega), ct_full]
theorem ct_c_t {fr to : Nat → Nat} {A B i : Nat} : ∀ n, (ct_c fr to A B n).testBit i = true ↔ (i < n ∧ (A.testBit (fr i) = true ∨ A.testBit (to i) = true) ∧ (B.testBit (fr i) = true ∨ B.testBit (to i) = true))
  | 0 => by
    show (0 : Nat).testBit i = true ↔ _
    rw [Nat.zero_testBit]
    exact ⟨fun q => (by cases q), fun q => absurd q.1 (Nat.not_lt_zero i)⟩
  | n + 1 => by
    have ih := ct_c_t (fr := fr) (to := to) (A := A) (B := B) (i := i) n
    have lt := ct_c_lt (fr := fr) (to := to) (A := A) (B := B) n
    have u : ct_c fr to A B (n + 1) = if (A.testBit (fr n) = true ∨ A.testBit (to n) = true) ∧ (B.testBit (fr n) = true ∨ B.testBit (to n) = true) then 2 ^ n + ct_c fr to A B n else ct_c fr to A B n := rfl
    rw [u]
    by_cases h : (A.testBit (fr n) = true ∨ A.testBit (to n) = true) ∧ (B.testBit (fr n) = true ∨ B.testBit (to n) = true)
    · rw [if_pos h]
      rcases Nat.lt_trichotomy i n with y | y | y
      · rw [gw_hj y, ih]
        exact ⟨fun q => ⟨by omega, q.2⟩, fun q => ⟨y, q.2⟩⟩
      · subst y
        rw [gw_hi lt]
        exact ⟨fun _ => ⟨by omega, h⟩, fun _ => rfl⟩
      · have : (2 ^ n + ct_c fr to A B n).testBit i = false := by
          have hp : 2 ^ (n + 1) = 2 ^ n + 2 ^ n := by rw [Nat.pow_succ, Nat.mul_two]
          exact Nat.testBit_lt_two_pow (Nat.lt_of_lt_of_le (show 2 ^ n + ct_c fr to A B n < 2 ^ (n + 1) by omega) (Nat.pow_le_pow_right (by omega) (by omega)))
        rw [this]
        exact ⟨fun q => (by cases q), fun q => absurd q.1 (by omega)⟩
    · rw [if_neg h, ih]
      by_cases y : i = n
      · subst y
        exact ⟨fun q => absurd q.1 (Nat.lt_irrefl i), fun q => absurd q.2 h⟩
      · exact ⟨fun q => ⟨by omega, q.2⟩, fun q => ⟨by omega, q.2⟩⟩
theorem ct_rm {A rm v : Nat} (hr : rm < 32) : (rl_nd rm A).testBit v = true ↔ (rm.testBit v = true ∧ ¬ A.testBit v = true) := by
  rw [rl_nd_t (by omega)]
  cases rm.testBit v <;> cases A.testBit v <;> decide
section
variable {M fi : Nat} {x : Int32}
/-- a least cut gives a good side -/
theorem ct_h1 (hG : gr_F m f t) (hM : M < 32) (hf : fi < 5) (hMf : M.testBit fi = true) (hway : tb_cn (gr_wy f t (2 ^ m - 1) m) M = true) {S : Nat} (hS : S < 2 ^ m) (P : ct_P m f t M x S) :
    ct_Q m (gr_n f) (gr_n t) M (ct_k (gr_wy f t (2 ^ m - 1) m) fi 5) fi x (ct_k (gr_wy f t (rl_nd (2 ^ m - 1) S) m) fi 5) ∧
    ct_c (gr_n f) (gr_n t) (ct_k (gr_wy f t (rl_nd (2 ^ m - 1) S) m) fi 5) (rl_nd (ct_k (gr_wy f t (2 ^ m - 1) m) fi 5) (ct_k (gr_wy f t (rl_nd (2 ^ m - 1) S) m) fi 5)) m = S := by
  have hm := hG.1
  obtain ⟨p1, p2, p3⟩ := P
  have hW : gr_wy f t (2 ^ m - 1) m < 52 := gw_wy_lt (gr_ok hG) m (Nat.le_refl m)
  have hw : gr_wy f t (rl_nd (2 ^ m - 1) S) m < 52 := gw_wy_lt (gr_ok hG) m (Nat.le_refl m)
  have wayE := (tb_cn_iff hW hM).mp hway
  -- edges
  have fullE : ∀ i, i < m → tb_lb (gr_wy f t (2 ^ m - 1) m) (gr_n f i) = tb_lb (gr_wy f t (2 ^ m - 1) m) (gr_n t i) := fun i hi => ct_edge hG (by rw [ct_full]; exact decide_eq_true hi) m hi (Nat.le_refl m)
  have upE : ∀ i, i < m → S.testBit i = false → tb_lb (gr_wy f t (rl_nd (2 ^ m - 1) S) m) (gr_n f i) = tb_lb (gr_wy f t (rl_nd (2 ^ m - 1) S) m) (gr_n t i) := fun i hi hb => ct_edge hG (by rw [ct_up hm, decide_eq_true hi, hb]; rfl) m hi (Nat.le_refl m)
  have upM : ∀ T : Nat → Prop, (∀ i, i < m → S.testBit i = false → (T (gr_n f i) ↔ T (gr_n t i))) → ∀ u v, u < 5 → v < 5 → tb_lb (gr_wy f t (rl_nd (2 ^ m - 1) S) m) u = tb_lb (gr_wy f t (rl_nd (2 ^ m - 1) S) m) v → (T u ↔ T v) := by
    intro T hT
    refine ct_min hG m (Nat.le_refl m) (fun i hi hb => ?_)
    rw [ct_up hm, decide_eq_true hi, Bool.true_and] at hb
    exact hT i hi (by simpa using hb)
  have fullM : ∀ T : Nat → Prop, (∀ i, i < m → (T (gr_n f i) ↔ T (gr_n t i))) → ∀ u v, u < 5 → v < 5 → tb_lb (gr_wy f t (2 ^ m - 1) m) u = tb_lb (gr_wy f t (2 ^ m - 1) m) v → (T u ↔ T v) :=
    fun T hT => ct_min hG m (Nat.le_refl m) (fun i hi _ => hT i hi)
  have mend : ∀ i, i < m → S.testBit i = true → tb_cn (tb_jo (gr_wy f t (rl_nd (2 ^ m - 1) S) m) (gr_n f i) (gr_n t i)) M = true := by
    intro i hi hb
    have := p3 i hi hb
    have e : gr_wy f t (rl_nd (2 ^ m - 1) S ||| 2 ^ i) m = tb_jo (gr_wy f t (rl_nd (2 ^ m - 1) S) m) (gr_n f i) (gr_n t i) :=
      (gw_ins (gr_ok hG) (by rw [ct_up hm, hb]; simp) (by rw [gd_orb]; simp) (fun j _ hj => by rw [gd_orb, decide_eq_false (fun q => hj q.symm)]; simp) m hi (Nat.le_refl m)).1
    rw [e] at this; exact this
  generalize gr_wy f t (rl_nd (2 ^ m - 1) S) m = w at *
  generalize gr_wy f t (2 ^ m - 1) m = W at *
  -- a node of the mask beyond the first one's part
  have hex : ∃ u0, u0 < 5 ∧ M.testBit u0 = true ∧ tb_lb w u0 ≠ tb_lb w fi := by
    refine Classical.byContradiction (fun no => ?_)
    have all : ∀ u, u < 5 → M.testBit u = true → tb_lb w u = tb_lb w fi := fun u hu hb => Classical.byContradiction (fun q => no ⟨u, hu, hb, q⟩)
    have := (tb_cn_iff hw hM).mpr (fun u v hu hv h1 h2 => (all u hu h1).trans (all v hv h2).symm)
    rw [p2] at this; cases this
  obtain ⟨u0, hu0, hMu, hne⟩ := hex
  have cut : ∀ i, i < m → S.testBit i = true → (tb_lb w fi = tb_lb w (gr_n f i) ∧ tb_lb w u0 = tb_lb w (gr_n t i)) ∨ (tb_lb w fi = tb_lb w (gr_n t i) ∧ tb_lb w u0 = tb_lb w (gr_n f i)) := by
    intro i hi hb
    obtain ⟨f1, f2, f3⟩ := gr_ok hG i hi
    have c := (tb_cn_iff (tb_jo_lt hw f1 f2 f3) hM).mp (mend i hi hb) fi u0 hf hu0 hMf hMu
    rcases (tb_same hw f1 f2 f3 hf hu0).mp c with z | z | z
    · exact absurd z.symm hne
    · exact Or.inl z
    · exact Or.inr z
  have room : ∀ v, v < 5 → (tb_lb W v = tb_lb W fi ↔ (tb_lb w v = tb_lb w fi ∨ tb_lb w v = tb_lb w u0)) := by
    intro v hv
    constructor
    · intro e
      refine (fullM (fun v => tb_lb w v = tb_lb w fi ∨ tb_lb w v = tb_lb w u0) (fun i hi => ?_) v fi hv hf e).mpr (Or.inl rfl)
      cases hb : S.testBit i
      · show (tb_lb w (gr_n f i) = _ ∨ _) ↔ _
        rw [upE i hi hb]
      · rcases cut i hi hb with ⟨z1, z2⟩ | ⟨z1, z2⟩
        · exact ⟨fun _ => Or.inr z2.symm, fun _ => Or.inl z1.symm⟩
        · exact ⟨fun _ => Or.inl z1.symm, fun _ => Or.inr z2.symm⟩
    · have fin := upM (fun v => tb_lb W v = tb_lb W fi) (fun i hi _ => by show tb_lb W (gr_n f i) = _ ↔ _; rw [fullE i hi])
      intro e
      rcases e with e | e
      · exact (fin v fi hv hf e).mpr rfl
      · exact (fin v u0 hv hu0 e).mpr (wayE u0 fi hu0 hf hMu hMf)
  have tA : ∀ v, (ct_k w fi 5).testBit v = true ↔ (v < 5 ∧ tb_lb w v = tb_lb w fi) := fun v => ct_k_t 5
  have tR : ∀ v, (ct_k W fi 5).testBit v = true ↔ (v < 5 ∧ tb_lb W v = tb_lb W fi) := fun v => ct_k_t 5
  have lR : ct_k W fi 5 < 32 := ct_k_lt 5 (Nat.le_refl 5)
  have lA : ct_k w fi 5 < 32 := ct_k_lt 5 (Nat.le_refl 5)
  have tB : ∀ v, (rl_nd (ct_k W fi 5) (ct_k w fi 5)).testBit v = true ↔ (v < 5 ∧ tb_lb w v = tb_lb w u0) := by
    intro v
    rw [ct_rm lR, tR, tA]
    constructor
    · intro ⟨⟨h5, h1⟩, h2⟩
      refine ⟨h5, ?_⟩
      rcases (room v h5).mp h1 with z | z
      · exact absurd ⟨h5, z⟩ h2
      · exact z
    · intro ⟨h5, h1⟩
      exact ⟨⟨h5, (room v h5).mpr (Or.inr h1)⟩, fun q => hne (h1.symm.trans q.2)⟩
  -- a part hangs together
  have hang : ∀ (r : Nat) (A : Nat), (∀ v, A.testBit v = true ↔ (v < 5 ∧ tb_lb w v = tb_lb w r)) → ct_H m (gr_n f) (gr_n t) A := by
    intro r A tA T hT u v hu hv tu
    obtain ⟨u5, u1⟩ := (tA u).mp hu
    obtain ⟨v5, v1⟩ := (tA v).mp hv
    refine ((upM (fun y => tb_lb w y = tb_lb w r ∧ T y) (fun i hi hb => ?_) u v u5 v5 (u1.trans v1.symm)).mp ⟨u1, tu⟩).2
    obtain ⟨f1, f2, f3⟩ := gr_ok hG i hi
    have e := upE i hi hb
    constructor
    · intro ⟨z1, z2⟩
      have z3 := e.symm.trans z1
      exact ⟨z3, (hT i hi ((tA _).mpr ⟨f1, z1⟩) ((tA _).mpr ⟨f2, z3⟩)).mp z2⟩
    · intro ⟨z1, z2⟩
      have z3 := e.trans z1
      exact ⟨z3, (hT i hi ((tA _).mpr ⟨f1, z3⟩) ((tA _).mpr ⟨f2, z1⟩)).mpr z2⟩
  have cS : ct_c (gr_n f) (gr_n t) (ct_k w fi 5) (rl_nd (ct_k W fi 5) (ct_k w fi 5)) m = S := by
    refine Nat.eq_of_testBit_eq (fun i => ?_)
    have e := ct_c_t (fr := gr_n f) (to := gr_n t) (A := ct_k w fi 5) (B := rl_nd (ct_k W fi 5) (ct_k w fi 5)) (i := i) m
    rw [tA, tA, tB, tB] at e
    cases hb : S.testBit i
    · cases hc : (ct_c (gr_n f) (gr_n t) (ct_k w fi 5) (rl_nd (ct_k W fi 5) (ct_k w fi 5)) m).testBit i
      · rfl
      · exfalso
        obtain ⟨hi, q1, q2⟩ := e.mp hc
        have eu := upE i hi hb
        have a1 : tb_lb w (gr_n f i) = tb_lb w fi := by
          rcases q1 with q | q
          · exact q.2
          · exact eu.trans q.2
        have a2 : tb_lb w (gr_n f i) = tb_lb w u0 := by
          rcases q2 with q | q
          · exact q.2
          · exact eu.trans q.2
        exact hne (a2.symm.trans a1)
    · have hi : i < m := by
        rcases Nat.lt_or_ge i m with y | y
        · exact y
        · have : S.testBit i = false := Nat.testBit_lt_two_pow (Nat.lt_of_lt_of_le hS (Nat.pow_le_pow_right (by omega) y))
          rw [hb] at this; cases this
      obtain ⟨f1, f2, f3⟩ := gr_ok hG i hi
      refine e.mpr ⟨hi, ?_⟩
      rcases cut i hi hb with ⟨z1, z2⟩ | ⟨z1, z2⟩
      · exact ⟨Or.inl ⟨f1, z1.symm⟩, Or.inr ⟨f2, z2.symm⟩⟩
      · exact ⟨Or.inr ⟨f2, z1.symm⟩, Or.inl ⟨f1, z2.symm⟩⟩
  refine ⟨⟨(tA fi).mpr ⟨hf, rfl⟩, ?_, ?_, hang fi _ tA, hang u0 _ tB, ?_⟩, cS⟩
  · refine (ct_nd0 lA).mpr (fun v hv => ?_)
    obtain ⟨v5, v1⟩ := (tA v).mp hv
    exact (tR v).mpr ⟨v5, (room v v5).mpr (Or.inl v1)⟩
  · intro q
    have := (ct_nd0 hM).mp q u0 hMu
    exact hne ((tA u0).mp this).2
  · rw [cS, ← gw_on_12 hm hS]; exact p1
/-- a good side gives a least cut -/
theorem ct_h2 (hG : gr_F m f t) (hM : M < 32) (hf : fi < 5) (hMf : M.testBit fi = true) (hway : tb_cn (gr_wy f t (2 ^ m - 1) m) M = true) {A : Nat} (hA : A < 32) (Q : ct_Q m (gr_n f) (gr_n t) M (ct_k (gr_wy f t (2 ^ m - 1) m) fi 5) fi x A) :
    ct_P m f t M x (ct_c (gr_n f) (gr_n t) A (rl_nd (ct_k (gr_wy f t (2 ^ m - 1) m) fi 5) A) m) ∧
    ct_k (gr_wy f t (rl_nd (2 ^ m - 1) (ct_c (gr_n f) (gr_n t) A (rl_nd (ct_k (gr_wy f t (2 ^ m - 1) m) fi 5) A) m)) m) fi 5 = A := by
  have hm := hG.1
  obtain ⟨q1, q2, q3, q4, q5, q6⟩ := Q
  have hW : gr_wy f t (2 ^ m - 1) m < 52 := gw_wy_lt (gr_ok hG) m (Nat.le_refl m)
  have wayE := (tb_cn_iff hW hM).mp hway
  have fullE : ∀ i, i < m → tb_lb (gr_wy f t (2 ^ m - 1) m) (gr_n f i) = tb_lb (gr_wy f t (2 ^ m - 1) m) (gr_n t i) := fun i hi => ct_edge hG (by rw [ct_full]; exact decide_eq_true hi) m hi (Nat.le_refl m)
  have tR : ∀ v, (ct_k (gr_wy f t (2 ^ m - 1) m) fi 5).testBit v = true ↔ (v < 5 ∧ tb_lb (gr_wy f t (2 ^ m - 1) m) v = tb_lb (gr_wy f t (2 ^ m - 1) m) fi) := fun v => ct_k_t 5
  have lR : ct_k (gr_wy f t (2 ^ m - 1) m) fi 5 < 32 := ct_k_lt 5 (Nat.le_refl 5)
  generalize ct_k (gr_wy f t (2 ^ m - 1) m) fi 5 = rm at *
  generalize gr_wy f t (2 ^ m - 1) m = W at *
  have tB : ∀ v, (rl_nd rm A).testBit v = true ↔ (rm.testBit v = true ∧ ¬ A.testBit v = true) := fun v => ct_rm lR
  have sub : ∀ v, A.testBit v = true → rm.testBit v = true := (ct_nd0 hA).mp q2
  have tS : ∀ i, (ct_c (gr_n f) (gr_n t) A (rl_nd rm A) m).testBit i = true ↔ (i < m ∧ (A.testBit (gr_n f i) = true ∨ A.testBit (gr_n t i) = true) ∧ ((rl_nd rm A).testBit (gr_n f i) = true ∨ (rl_nd rm A).testBit (gr_n t i) = true)) := fun i => ct_c_t m
  have hS : ct_c (gr_n f) (gr_n t) A (rl_nd rm A) m < 2 ^ m := ct_c_lt m
  generalize ct_c (gr_n f) (gr_n t) A (rl_nd rm A) m = S at *
  generalize rl_nd rm A = B at *
  have hw : gr_wy f t (rl_nd (2 ^ m - 1) S) m < 52 := gw_wy_lt (gr_ok hG) m (Nat.le_refl m)
  have upE : ∀ i, i < m → S.testBit i = false → tb_lb (gr_wy f t (rl_nd (2 ^ m - 1) S) m) (gr_n f i) = tb_lb (gr_wy f t (rl_nd (2 ^ m - 1) S) m) (gr_n t i) := fun i hi hb => ct_edge hG (by rw [ct_up hm, decide_eq_true hi, hb]; rfl) m hi (Nat.le_refl m)
  have upM : ∀ T : Nat → Prop, (∀ i, i < m → S.testBit i = false → (T (gr_n f i) ↔ T (gr_n t i))) → ∀ u v, u < 5 → v < 5 → tb_lb (gr_wy f t (rl_nd (2 ^ m - 1) S) m) u = tb_lb (gr_wy f t (rl_nd (2 ^ m - 1) S) m) v → (T u ↔ T v) := by
    intro T hT
    refine ct_min hG m (Nat.le_refl m) (fun i hi hb => ?_)
    rw [ct_up hm, decide_eq_true hi, Bool.true_and] at hb
    exact hT i hi (by simpa using hb)
  have joinE : ∀ i, i < m → S.testBit i = true → gr_wy f t (rl_nd (2 ^ m - 1) S ||| 2 ^ i) m = tb_jo (gr_wy f t (rl_nd (2 ^ m - 1) S) m) (gr_n f i) (gr_n t i) := by
    intro i hi hb
    exact (gw_ins (gr_ok hG) (by rw [ct_up hm, hb]; simp) (by rw [gd_orb]; simp) (fun j _ hj => by rw [gd_orb, decide_eq_false (fun q => hj q.symm)]; simp) m hi (Nat.le_refl m)).1
  unfold ct_P
  generalize gr_wy f t (rl_nd (2 ^ m - 1) S) m = w at *
  -- the room holds both ends of an edge or none
  have rmE : ∀ i, i < m → (rm.testBit (gr_n f i) = true ↔ rm.testBit (gr_n t i) = true) := by
    intro i hi
    obtain ⟨f1, f2, f3⟩ := gr_ok hG i hi
    rw [tR, tR, fullE i hi]
    exact ⟨fun q => ⟨f2, q.2⟩, fun q => ⟨f1, q.2⟩⟩
  have upA : ∀ i, i < m → S.testBit i = false → (A.testBit (gr_n f i) = true ↔ A.testBit (gr_n t i) = true) := by
    intro i hi hb
    have no : ¬ S.testBit i = true := by rw [hb]; decide
    constructor
    · intro a
      refine Classical.byContradiction (fun nb => no ((tS i).mpr ⟨hi, Or.inl a, Or.inr ((tB _).mpr ⟨(rmE i hi).mp (sub _ a), nb⟩)⟩))
    · intro a
      refine Classical.byContradiction (fun nb => no ((tS i).mpr ⟨hi, Or.inr a, Or.inl ((tB _).mpr ⟨(rmE i hi).mpr (sub _ a), nb⟩)⟩))
  -- parts of w within A and B
  have inner : ∀ (X : Nat) (r : Nat), (∀ i, i < m → X.testBit (gr_n f i) = true → X.testBit (gr_n t i) = true → S.testBit i = false) → ct_H m (gr_n f) (gr_n t) X → X.testBit r = true → ∀ v, X.testBit v = true → tb_lb w v = tb_lb w r := by
    intro X r hX hH hr v hv
    refine hH (fun y => tb_lb w y = tb_lb w r) (fun i hi a b => ?_) r v hr hv rfl
    show tb_lb w (gr_n f i) = _ ↔ _
    rw [upE i hi (hX i hi a b)]
  have inA := inner A fi (fun i hi a b => by
    cases hb : S.testBit i
    · rfl
    · obtain ⟨_, _, q⟩ := (tS i).mp hb
      rcases q with q | q
      · exact absurd a ((tB _).mp q).2
      · exact absurd b ((tB _).mp q).2) q4 q1
  have inBpre : ∀ i, i < m → B.testBit (gr_n f i) = true → B.testBit (gr_n t i) = true → S.testBit i = false := fun i hi a b => by
    cases hb : S.testBit i
    · rfl
    · obtain ⟨_, q, _⟩ := (tS i).mp hb
      rcases q with q | q
      · exact absurd q ((tB _).mp a).2
      · exact absurd q ((tB _).mp b).2
  have clA : ∀ v, v < 5 → (tb_lb w v = tb_lb w fi ↔ A.testBit v = true) := by
    intro v hv
    constructor
    · intro e
      exact (upM (fun y => A.testBit y = true) upA v fi hv hf e).mpr q1
    · exact fun e => inA v e
  have hex : ∃ u0, M.testBit u0 = true ∧ ¬ A.testBit u0 = true := by
    refine Classical.byContradiction (fun no => q3 ((ct_nd0 hM).mpr (fun v hv => Classical.byContradiction (fun q => no ⟨v, hv, q⟩))))
  obtain ⟨u0, hMu, hAu⟩ := hex
  have hu0 : u0 < 5 := ct_32 hM hMu
  have mR : ∀ v, M.testBit v = true → rm.testBit v = true := fun v hv => (tR v).mpr ⟨ct_32 hM hv, wayE v fi (ct_32 hM hv) hf hv hMf⟩
  have hBu : B.testBit u0 = true := (tB u0).mpr ⟨mR u0 hMu, hAu⟩
  have inB := inner B u0 inBpre q5 hBu
  refine ⟨⟨by rw [gw_on_12 hm hS]; exact q6, ?_, ?_⟩, ?_⟩
  · cases hc : tb_cn w M
    · rfl
    · have := (tb_cn_iff hw hM).mp hc u0 fi hu0 hf hMu hMf
      exact absurd ((clA u0 hu0).mp this) hAu
  · intro i hi hb
    obtain ⟨f1, f2, f3⟩ := gr_ok hG i hi
    rw [joinE i hi hb]
    have ends : (A.testBit (gr_n f i) = true ∧ B.testBit (gr_n t i) = true) ∨ (A.testBit (gr_n t i) = true ∧ B.testBit (gr_n f i) = true) := by
      obtain ⟨_, a, b⟩ := (tS i).mp hb
      rcases a with a | a
      · rcases b with b | b
        · exact absurd a ((tB _).mp b).2
        · exact Or.inl ⟨a, b⟩
      · rcases b with b | b
        · exact Or.inr ⟨a, b⟩
        · exact absurd a ((tB _).mp b).2
    have one : ∀ v, v < 5 → M.testBit v = true → tb_lb w v = tb_lb w fi ∨ tb_lb w v = tb_lb w u0 := by
      intro v hv hMv
      by_cases a : A.testBit v = true
      · exact Or.inl (inA v a)
      · exact Or.inr (inB v ((tB v).mpr ⟨mR v hMv, a⟩))
    refine (tb_cn_iff (tb_jo_lt hw f1 f2 f3) hM).mpr (fun u v hu hv h1 h2 => (tb_same hw f1 f2 f3 hu hv).mpr ?_)
    have two : (tb_lb w fi = tb_lb w (gr_n f i) ∧ tb_lb w u0 = tb_lb w (gr_n t i)) ∨ (tb_lb w fi = tb_lb w (gr_n t i) ∧ tb_lb w u0 = tb_lb w (gr_n f i)) := by
      rcases ends with ⟨a, b⟩ | ⟨a, b⟩
      · exact Or.inl ⟨(inA _ a).symm, (inB _ b).symm⟩
      · exact Or.inr ⟨(inA _ a).symm, (inB _ b).symm⟩
    rcases one u hu h1 with a | a
    · rcases one v hv h2 with b | b
      · exact Or.inl (a.trans b.symm)
      · rcases two with ⟨c, d⟩ | ⟨c, d⟩
        · exact Or.inr (Or.inl ⟨a.trans c, b.trans d⟩)
        · exact Or.inr (Or.inr ⟨a.trans c, b.trans d⟩)
    · rcases one v hv h2 with b | b
      · rcases two with ⟨c, d⟩ | ⟨c, d⟩
        · exact Or.inr (Or.inr ⟨a.trans d, b.trans c⟩)
        · exact Or.inr (Or.inl ⟨a.trans d, b.trans c⟩)
      · exact Or.inl (a.trans b.symm)
  · refine Nat.eq_of_testBit_eq (fun v => ?_)
    have e := ct_k_t (w := w) (f := fi) (i := v) 5
    cases ha : A.testBit v
    · cases hk : (ct_k w fi 5).testBit v
      · rfl
      · obtain ⟨v5, v1⟩ := e.mp hk
        have := (clA v v5).mp v1
        rw [ha] at this; cases this
    · exact e.mpr ⟨ct_32 hA ha, (clA v (ct_32 hA ha)).mpr ha⟩
end
end
/-- two numberings of the same things -/
theorem s3_bij {P Q : Nat → Prop} {N K : Nat} (φ ψ : Nat → Nat) (h1 : ∀ S, S < N → P S → φ S < K ∧ Q (φ S) ∧ ψ (φ S) = S) (h2 : ∀ A, A < K → Q A → ψ A < N ∧ P (ψ A) ∧ φ (ψ A) = A) :
    s3_s (fun S => ct_b01 (P S)) N = s3_s (fun A => ct_b01 (Q A)) K := by
  have e1 : ∀ S, S < N → ct_b01 (P S) = s3_s (fun A => ct_b01 (P S ∧ φ S = A)) K := by
    intro S hS
    by_cases p : P S
    · obtain ⟨a, _, _⟩ := h1 S hS p
      rw [s3_congr (g := fun A => if A = φ S then 1 else 0) (fun A _ => ?_), s3_one, if_pos a, ct_b1 p]
      by_cases y : A = φ S
      · rw [if_pos y, ct_b1 ⟨p, y.symm⟩]
      · rw [if_neg y, ct_b0 (fun q => y q.2.symm)]
    · rw [s3_congr (g := fun _ => 0) (fun A _ => ct_b0 (fun q => p q.1)), s3_zero, ct_b0 p]
  have e2 : ∀ A, A < K → ct_b01 (Q A) = s3_s (fun S => ct_b01 (P S ∧ φ S = A)) N := by
    intro A hA
    by_cases q : Q A
    · obtain ⟨a, b, c⟩ := h2 A hA q
      rw [s3_congr (g := fun S => if S = ψ A then 1 else 0) (fun S hS => ?_), s3_one, if_pos a, ct_b1 q]
      by_cases y : S = ψ A
      · rw [if_pos y, y, ct_b1 ⟨b, c⟩]
      · rw [if_neg y, ct_b0 (fun z => y (by obtain ⟨_, _, d⟩ := h1 S hS z.1; rw [z.2] at d; exact d.symm))]
    · rw [s3_congr (g := fun _ => 0) (fun S hS => ct_b0 (fun z => q (by obtain ⟨_, d, _⟩ := h1 S hS z.1; rw [z.2] at d; exact d))), s3_zero, ct_b0 q]
  rw [s3_congr e1, s3_congr e2]
  exact s3_swap _ N K
end
section
def i_Rel (k : Nat) (u : SX) (v : SY) : Prop := match u, v with
  | (xe, xk, xc, xj, xl, xf, xt, xs, xh, xw, xp, xn, xz, xo, xm, xq), (ye, yf, yt, ys, yh, yp, yc) => k = k ∧ ∃ m : Nat, xe = nI m ∧ ye = nI m ∧ yf = xf ∧ yt = xt ∧ ys = xs ∧ yh = xh ∧ gr_F m xf xt ∧ gr_H m xs xh ∧ tb_C xc ∧ tb_J xj ∧ (¬ xk = 0 → gr_K m xf xt xs xh xw xn xz)
theorem i_up {k : Nat} {u : SX} {v : SY} (h : i_Rel k u v) : i_Rel (k + 4) u v := by
  obtain ⟨_, h⟩ := h
  exact ⟨rfl, h⟩
section
variable {xe : Int32} {xk : Int32} {xc : Nat → Int32} {xj : Nat → Int32} {xl : Nat → Int32} {xf : Nat → Int32} {xt : Nat → Int32} {xs : Nat → Int32} {xh : Nat → Int32} {xw : Nat → Int64} {xp : Nat → Int64} {xn : Nat → Int32} {xz : Nat → Int32} {xo : Nat → Int32} {xm : Nat → Int64} {xq : Nat → Int64}
theorem ir_in {k m : Nat} {yp yc : Nat → Int32} (hG : gr_F m xf xt) (H : gr_H m xs xh) (hC : tb_C xc) (hJ : tb_J xj) (hK : ¬ xk = 0 → gr_K m xf xt xs xh xw xn xz) : i_Rel k (nI m, xk, xc, xj, xl, xf, xt, xs, xh, xw, xp, xn, xz, xo, xm, xq) (nI m, xf, xt, xs, xh, yp, yc) :=
  ⟨rfl, m, rfl, rfl, rfl, rfl, rfl, rfl, hG, H, hC, hJ, hK⟩
end
theorem ir_el {P : SX → SY → Prop} {k : Nat} {u : SX} {v : SY} (I : i_Rel k u v)
    (h : ∀ (m : Nat) (xk : Int32) (xc xj xl xf xt xs xh : Nat → Int32) (xw xp : Nat → Int64) (xn xz xo : Nat → Int32) (xm xq : Nat → Int64) (yp yc : Nat → Int32), gr_F m xf xt → gr_H m xs xh → tb_C xc → tb_J xj → (¬ xk = 0 → gr_K m xf xt xs xh xw xn xz) → P (nI m, xk, xc, xj, xl, xf, xt, xs, xh, xw, xp, xn, xz, xo, xm, xq) (nI m, xf, xt, xs, xh, yp, yc)) : P u v := by
  obtain ⟨xe, xk, xc, xj, xl, xf, xt, xs, xh, xw, xp, xn, xz, xo, xm, xq⟩ := u
  obtain ⟨ye, yf, yt, ys, yh, yp, yc⟩ := v
  obtain ⟨_, m, rfl, rfl, rfl, rfl, rfl, rfl, hG, H, hC, hJ, hK⟩ := I
  exact h m xk xc xj xl _ _ _ _ xw xp xn xz xo xm xq yp yc hG H hC hJ hK
theorem i_vc0 : wpX_init (fun u => wpY_init (fun v => i_Rel 0 u v)) := by
  refine xw_init (fun xc xj xl hC hJ => ?_)
  unfold wpY_init
  exact ir_in (m := 0) ⟨by omega, fun i hi => absurd hi (Nat.not_lt_zero i)⟩ (fun i hi => absurd hi (Nat.not_lt_zero i)) hC hJ (fun z => absurd rfl z)
theorem i_vc_clear {k : Nat} {u : SX} {v : SY} (I : i_Rel k u v) (hk : k + 4 ≤ 2048) : wpX_clear (fun r u' => wpY_clear (fun r' v' => r' = r ∧ i_Rel (k + 4) u' v') v) u := by
  refine ir_el (P := fun u v => wpX_clear (fun r u' => wpY_clear (fun r' v' => r' = r ∧ i_Rel (k + 4) u' v') v) u) I ?_
  intro m xk xc xj xl xf xt xs xh xw xp xn xz xo xm xq yp yc hG H hC hJ hK
  unfold wpX_clear wpY_clear
  exact ⟨rfl, ir_in (m := 0) ⟨by omega, fun i hi => absurd hi (Nat.not_lt_zero i)⟩ (fun i hi => absurd hi (Nat.not_lt_zero i)) hC hJ (fun z => absurd rfl z)⟩
theorem gr_nu {a : Nat → Int32} {m x i : Nat} (hx : x < 2 ^ 31) : gr_n (upd a m (nI x)) i = if i = m then x else gr_n a i := by
  unfold gr_n
  by_cases h : i = m
  · subst h; rw [pk_us, if_pos rfl, nI_clamp hx]
  · rw [pk_un h, if_neg h]
theorem i_vc_link {k : Nat} {u : SX} {v : SY} (I : i_Rel k u v) (hk : k + 4 ≤ 2048) (v1 : Int32) (v2 : Int32) (v3 : Int32) : wpX_link (fun r u' => wpY_link (fun r' v' => r' = r ∧ i_Rel (k + 4) u' v') v v1 v2 v3) u v1 v2 v3 := by
  refine ir_el (P := fun u v => wpX_link (fun r u' => wpY_link (fun r' v' => r' = r ∧ i_Rel (k + 4) u' v') v v1 v2 v3) u v1 v2 v3) I ?_
  intro m xk xc xj xl xf xt xs xh xw xp xn xz xo xm xq yp yc hG H hC hJ hK
  have same : i_Rel (k + 4) (nI m, xk, xc, xj, xl, xf, xt, xs, xh, xw, xp, xn, xz, xo, xm, xq) (nI m, xf, xt, xs, xh, yp, yc) := ir_in hG H hC hJ hK
  have hm := hG.1
  unfold wpX_link wpY_link
  refine xw_isNode (fun hx => br_t rfl (yw_isNode0 hx (br_t rfl ⟨rfl, same⟩))) ?_
  intro a ha e1
  subst e1
  refine br_f (by decide) ?_
  refine xw_isNode (fun hx => br_t rfl (yw_isNode1 ha (br_f (by decide) (yw_isNode0 hx (br_t rfl ⟨rfl, same⟩))))) ?_
  intro b hb e2
  subst e2
  refine br_f (by decide) ?_
  by_cases hab : nI a = nI b
  · exact br_t hab (yw_isNode1 ha (br_f (by decide) (yw_isNode1 hb (br_f (by decide) (br_t hab ⟨rfl, same⟩)))))
  · refine br_f hab ?_
    by_cases h0 : v3 < 0
    · exact br_t h0 (yw_isNode1 ha (br_f (by decide) (yw_isNode1 hb (br_f (by decide) (br_f hab (br_t h0 ⟨rfl, same⟩))))))
    · refine br_f h0 ?_
      by_cases h16 : v3 ≤ 16
      · refine br_t h16 ?_
        obtain ⟨c, hc, e3⟩ := nI_of2 (M := 16) (n := 16) (by decide) h0 h16
        by_cases h12 : m < 12
        · have hv : vp_in (nI m) 12 := vp_in_nI h12 (by omega)
          refine rl_lt_t m 12 h12 ⟨hv, nm_e ⟨hv, nm_e ⟨hv, nm_e ⟨hv, nm_e (nm_r (nI_1 m) ?_)⟩⟩⟩⟩
          refine yw_isNode1 ha (br_f (by decide) (yw_isNode1 hb (br_f (by decide) (br_f hab (br_f h0 (br_t h16 (rl_eq_f m 12 (by omega) ⟨hv, nm_e ⟨hv, nm_e ⟨hv, nm_e ⟨hv, nm_e (nm_r (nI_1 m) ⟨rfl, ?_⟩)⟩⟩⟩⟩)))))))
          have hne : a ≠ b := fun q => hab (congrArg nI q)
          subst e3
          rw [rl_cl]
          refine ir_in ⟨by omega, ?_⟩ ?_ hC hJ (fun z => absurd rfl z)
          · intro i hi
            rw [gr_nu (by omega), gr_nu (by omega)]
            by_cases h : i = m
            · subst h
              rw [pk_us, pk_us, if_pos rfl, if_pos rfl]
              exact ⟨rfl, rfl, ha, hb, hne⟩
            · rw [pk_un h, pk_un h, if_neg h, if_neg h]
              exact hG.2 i (by omega)
          · intro i hi
            have e2 : gr_n (upd xh m 2) i = if i = m then 2 else gr_n xh i := gr_nu (x := 2) (by omega)
            rw [gr_nu (by omega), e2]
            by_cases h : i = m
            · subst h
              rw [pk_us, pk_us, if_pos rfl, if_pos rfl]
              exact ⟨rfl, rfl, hc, Nat.le_refl 2⟩
            · rw [pk_un h, pk_un h, if_neg h, if_neg h]
              exact H i (by omega)
        · have hme : m = 12 := by omega
          subst hme
          exact rl_lt_f 12 12 (by omega) (yw_isNode1 ha (br_f (by decide) (yw_isNode1 hb (br_f (by decide) (br_f hab (br_f h0 (br_t h16 (br_t (by decide) ⟨rfl, same⟩))))))))
      · exact br_f h16 (yw_isNode1 ha (br_f (by decide) (yw_isNode1 hb (br_f (by decide) (br_f hab (br_f h0 (br_f h16 ⟨rfl, same⟩)))))))
/-- the entries behind i one place down -/
def gr_sh (a : Nat → Int32) (i e : Nat) : Nat → Int32 := fun j => if i ≤ j ∧ j < e then a (j + 1) else a j
theorem gr_sh_0 (a : Nat → Int32) (i : Nat) : gr_sh a i i = a := by
  funext j; exact if_neg (by omega)
theorem gr_sh_s {a : Nat → Int32} {i j : Nat} (h : i ≤ j) : upd (gr_sh a i j) j (gr_sh a i j (j + 1)) = gr_sh a i (j + 1) := by
  funext x
  by_cases hx : x = j
  · subst hx
    rw [pk_us]
    have n1 : ¬ (i ≤ x + 1 ∧ x + 1 < x) := by omega
    have n2 : i ≤ x ∧ x < x + 1 := by omega
    unfold gr_sh
    rw [if_neg n1, if_pos n2]
  · rw [pk_un hx]
    unfold gr_sh
    by_cases h2 : i ≤ x ∧ x < j
    · have n2 : i ≤ x ∧ x < j + 1 := by omega
      rw [if_pos h2, if_pos n2]
    · have n2 : ¬ (i ≤ x ∧ x < j + 1) := by omega
      rw [if_neg h2, if_neg n2]
theorem gr_sh_n {a : Nat → Int32} {i e j : Nat} : gr_n (gr_sh a i e) j = if i ≤ j ∧ j < e then gr_n a (j + 1) else gr_n a j := by
  unfold gr_n gr_sh; split <;> rfl
theorem gr_sh_v {a : Nat → Int32} {i e j : Nat} : gr_sh a i e j = if i ≤ j ∧ j < e then a (j + 1) else a j := rfl
section
variable {xe : Int32} {xk : Int32} {xc : Nat → Int32} {xj : Nat → Int32} {xl : Nat → Int32} {xf : Nat → Int32} {xt : Nat → Int32} {xs : Nat → Int32} {xh : Nat → Int32} {xw : Nat → Int64} {xp : Nat → Int64} {xn : Nat → Int32} {xz : Nat → Int32} {xo : Nat → Int32} {xm : Nat → Int64} {xq : Nat → Int64}
theorem xw_unlink_22 {post : Int32 → SX → Prop} {i e : Nat} (hi : i ≤ e) (he : e < 12) (h : post (nI e) (nI e, 0, xc, xj, xl, gr_sh xf i e, gr_sh xt i e, gr_sh xs i e, gr_sh xh i e, xw, xp, xn, xz, xo, xm, xq)) : ∃ n22 : Nat, wX_unlink_22 post (nI e) xk n22 (nI i) xc xj xl xf xt xs xh xw xp xn xz xo xm xq := by
  have key := rl_lp (fun n j (_ : Unit) => wX_unlink_22 post (nI e) xk n (nI j) xc xj xl (gr_sh xf i j) (gr_sh xt i j) (gr_sh xs i j) (gr_sh xh i j) xw xp xn xz xo xm xq) (fun _ _ => True) e i () hi trivial ?_ ?_
  · rw [gr_sh_0, gr_sh_0, gr_sh_0, gr_sh_0] at key; exact key
  · intro n _ _
    exact rl_le_t e e (Nat.le_refl e) h
  · intro n j _ h1 hj _ k
    have hv : vp_in (nI j) 12 := vp_in_nI (by omega) (by omega)
    have hv1 : vp_in (nI j + 1) 12 := by rw [nI_1]; exact vp_in_nI (by omega) (by omega)
    have c1 : (nI j + 1).toNatClampNeg = j + 1 := by rw [nI_1]; exact nI_clamp (by omega)
    have c0 : (nI j).toNatClampNeg = j := nI_clamp (by omega)
    have k' := k () trivial
    rw [← gr_sh_s h1, ← gr_sh_s h1, ← gr_sh_s h1, ← gr_sh_s h1] at k'
    refine rl_le_f e j hj ⟨hv1, hv, nm_e ⟨hv1, hv, nm_e ⟨hv1, hv, nm_e ⟨hv1, hv, nm_e (nm_r (nI_1 j) ?_)⟩⟩⟩⟩
    rw [c1, c0]
    exact k'
end
section
variable {ye : Int32} {yf : Nat → Int32} {yt : Nat → Int32} {ys : Nat → Int32} {yh : Nat → Int32} {yp : Nat → Int32} {yc : Nat → Int32}
theorem yw_unlink_22 {post : Int32 → SY → Prop} {i e : Nat} (hi : i ≤ e) (he : e < 12) (h : post (nI e) (nI e, gr_sh yf i e, gr_sh yt i e, gr_sh ys i e, gr_sh yh i e, yp, yc)) : ∃ n22 : Nat, wY_unlink_22 post (nI e) n22 (nI i) yf yt ys yh yp yc := by
  have key := rl_lp (fun n j (_ : Unit) => wY_unlink_22 post (nI e) n (nI j) (gr_sh yf i j) (gr_sh yt i j) (gr_sh ys i j) (gr_sh yh i j) yp yc) (fun _ _ => True) e i () hi trivial ?_ ?_
  · rw [gr_sh_0, gr_sh_0, gr_sh_0, gr_sh_0] at key; exact key
  · intro n _ _
    exact rl_le_t e e (Nat.le_refl e) h
  · intro n j _ h1 hj _ k
    have hv : vp_in (nI j) 12 := vp_in_nI (by omega) (by omega)
    have hv1 : vp_in (nI j + 1) 12 := by rw [nI_1]; exact vp_in_nI (by omega) (by omega)
    have c1 : (nI j + 1).toNatClampNeg = j + 1 := by rw [nI_1]; exact nI_clamp (by omega)
    have c0 : (nI j).toNatClampNeg = j := nI_clamp (by omega)
    have k' := k () trivial
    rw [← gr_sh_s h1, ← gr_sh_s h1, ← gr_sh_s h1, ← gr_sh_s h1] at k'
    refine rl_le_f e j hj ⟨hv1, hv, nm_e ⟨hv1, hv, nm_e ⟨hv1, hv, nm_e ⟨hv1, hv, nm_e (nm_r (nI_1 j) ?_)⟩⟩⟩⟩
    rw [c1, c0]
    exact k'
end
theorem i_vc_unlink {k : Nat} {u : SX} {v : SY} (I : i_Rel k u v) (hk : k + 4 ≤ 2048) (v1 : Int32) : wpX_unlink (fun r u' => wpY_unlink (fun r' v' => r' = r ∧ i_Rel (k + 4) u' v') v v1) u v1 := by
  refine ir_el (P := fun u v => wpX_unlink (fun r u' => wpY_unlink (fun r' v' => r' = r ∧ i_Rel (k + 4) u' v') v v1) u v1) I ?_
  intro m xk xc xj xl xf xt xs xh xw xp xn xz xo xm xq yp yc hG H hC hJ hK
  have same : i_Rel (k + 4) (nI m, xk, xc, xj, xl, xf, xt, xs, xh, xw, xp, xn, xz, xo, xm, xq) (nI m, xf, xt, xs, xh, yp, yc) := ir_in hG H hC hJ hK
  have hm := hG.1
  unfold wpX_unlink wpY_unlink
  refine xw_isEdge hm rfl (fun hx => br_t rfl (yw_isEdge0 rfl hx (br_t rfl ⟨rfl, same⟩))) ?_
  intro i hi e1
  subst e1
  have em : nI m - 1 = nI (m - 1) := pk_sub (b := 1) (by omega)
  refine br_f (by decide) (nm_r em (xw_unlink_22 (by omega) (by omega) ?_))
  refine yw_isEdge1 hm rfl hi (br_f (by decide) (nm_r em (yw_unlink_22 (by omega) (by omega) ⟨rfl, ?_⟩)))
  refine ir_in ⟨by omega, ?_⟩ ?_ hC hJ (fun z => absurd rfl z)
  · intro j hj
    rw [gr_sh_n, gr_sh_n, gr_sh_v, gr_sh_v]
    by_cases h : i ≤ j ∧ j < m - 1
    · simp only [if_pos h]; exact hG.2 (j + 1) (by omega)
    · simp only [if_neg h]; exact hG.2 j (by omega)
  · intro j hj
    rw [gr_sh_n, gr_sh_n, gr_sh_v, gr_sh_v]
    by_cases h : i ≤ j ∧ j < m - 1
    · simp only [if_pos h]; exact H (j + 1) (by omega)
    · simp only [if_neg h]; exact H j (by omega)
theorem i_vc_share {k : Nat} {u : SX} {v : SY} (I : i_Rel k u v) (hk : k + 4 ≤ 2048) (v1 : Int32) (v2 : Int32) : wpX_share (fun r u' => wpY_share (fun r' v' => r' = r ∧ i_Rel (k + 4) u' v') v v1 v2) u v1 v2 := by
  refine ir_el (P := fun u v => wpX_share (fun r u' => wpY_share (fun r' v' => r' = r ∧ i_Rel (k + 4) u' v') v v1 v2) u v1 v2) I ?_
  intro m xk xc xj xl xf xt xs xh xw xp xn xz xo xm xq yp yc hG H hC hJ hK
  have same : i_Rel (k + 4) (nI m, xk, xc, xj, xl, xf, xt, xs, xh, xw, xp, xn, xz, xo, xm, xq) (nI m, xf, xt, xs, xh, yp, yc) := ir_in hG H hC hJ hK
  have hm := hG.1
  unfold wpX_share wpY_share
  refine xw_isEdge hm rfl (fun hx => br_t rfl (yw_isEdge0 rfl hx (br_t rfl ⟨rfl, same⟩))) ?_
  intro i hi e1
  subst e1
  refine br_f (by decide) ?_
  have hv : vp_in (nI i) 12 := vp_in_nI (by omega) (by omega)
  by_cases h0 : v2 < 0
  · exact br_t h0 (yw_isEdge1 hm rfl hi (br_f (by decide) (br_t h0 ⟨rfl, same⟩)))
  · refine br_f h0 ?_
    by_cases h16 : v2 ≤ 16
    · obtain ⟨c, hc, e3⟩ := nI_of2 (M := 16) (n := 16) (by decide) h0 h16
      refine br_t h16 ⟨hv, nm_e ⟨hv, nm_e (yw_isEdge1 hm rfl hi (br_f (by decide) (br_f h0 (br_t h16 ⟨hv, nm_e ⟨hv, nm_e ⟨rfl, ?_⟩⟩⟩))))⟩⟩
      subst e3
      rw [rl_cl]
      refine ir_in hG ?_ hC hJ (fun z => absurd rfl z)
      intro j hj
      rw [gr_nu (by omega)]
      by_cases h : j = i
      · subst h
        rw [pk_us, if_pos rfl]
        exact ⟨rfl, (H j hj).2.1, hc, (H j hj).2.2.2⟩
      · rw [pk_un h, if_neg h]; exact H j hj
    · exact br_f h16 (yw_isEdge1 hm rfl hi (br_f (by decide) (br_f h0 (br_f h16 ⟨rfl, same⟩))))
theorem i_vc_hold {k : Nat} {u : SX} {v : SY} (I : i_Rel k u v) (hk : k + 4 ≤ 2048) (v1 : Int32) (v2 : Int32) : wpX_hold (fun r u' => wpY_hold (fun r' v' => r' = r ∧ i_Rel (k + 4) u' v') v v1 v2) u v1 v2 := by
  refine ir_el (P := fun u v => wpX_hold (fun r u' => wpY_hold (fun r' v' => r' = r ∧ i_Rel (k + 4) u' v') v v1 v2) u v1 v2) I ?_
  intro m xk xc xj xl xf xt xs xh xw xp xn xz xo xm xq yp yc hG H hC hJ hK
  have same : i_Rel (k + 4) (nI m, xk, xc, xj, xl, xf, xt, xs, xh, xw, xp, xn, xz, xo, xm, xq) (nI m, xf, xt, xs, xh, yp, yc) := ir_in hG H hC hJ hK
  have hm := hG.1
  unfold wpX_hold wpY_hold
  refine xw_isEdge hm rfl (fun hx => br_t rfl (yw_isEdge0 rfl hx (br_t rfl ⟨rfl, same⟩))) ?_
  intro i hi e1
  subst e1
  refine br_f (by decide) ?_
  have hv : vp_in (nI i) 12 := vp_in_nI (by omega) (by omega)
  by_cases h0 : v2 < 0
  · exact br_t h0 (yw_isEdge1 hm rfl hi (br_f (by decide) (br_t h0 ⟨rfl, same⟩)))
  · refine br_f h0 ?_
    by_cases h2 : v2 ≤ 2
    · obtain ⟨c, hc, e3⟩ := nI_of2 (M := 2) (n := 2) (by decide) h0 h2
      refine br_t h2 ⟨hv, nm_e ⟨hv, nm_e (yw_isEdge1 hm rfl hi (br_f (by decide) (br_f h0 (br_t h2 ⟨hv, nm_e ⟨hv, nm_e ⟨rfl, ?_⟩⟩⟩))))⟩⟩
      subst e3
      rw [rl_cl]
      refine ir_in hG ?_ hC hJ (fun z => absurd rfl z)
      intro j hj
      rw [gr_nu (by omega)]
      by_cases h : j = i
      · subst h
        rw [pk_us, if_pos rfl]
        exact ⟨(H j hj).1, rfl, (H j hj).2.2.1, hc⟩
      · rw [pk_un h, if_neg h]; exact H j hj
    · exact br_f h2 (yw_isEdge1 hm rfl hi (br_f (by decide) (br_f h0 (br_f h2 ⟨rfl, same⟩))))
end
section
theorem i_vc_weight {k : Nat} {u : SX} {v : SY} (I : i_Rel k u v) (hk : k + 4 ≤ 2048) (v1 : Int32) : wpX_weight (fun r u' => wpY_weight (fun r' v' => r' = r ∧ i_Rel (k + 4) u' v') v v1) u v1 := by
  refine ir_el (P := fun u v => wpX_weight (fun r u' => wpY_weight (fun r' v' => r' = r ∧ i_Rel (k + 4) u' v') v v1) u v1) I ?_
  intro m xk xc xj xl xf xt xs xh xw xp xn xz xo xm xq yp yc hG H hC hJ hK
  have same : i_Rel (k + 4) (nI m, xk, xc, xj, xl, xf, xt, xs, xh, xw, xp, xn, xz, xo, xm, xq) (nI m, xf, xt, xs, xh, yp, yc) := ir_in hG H hC hJ hK
  unfold wpX_weight wpY_weight
  refine xw_isMask (fun hx => br_t rfl (yw_isMask0 hx (br_t rfl ⟨rfl, same⟩))) ?_
  intro M hM e1
  subst e1
  refine br_f (by decide) (xw_find_ hJ hG H rfl hK (fun k' w' p' n' z' K => xw_weight_20 hC hM ?_))
  refine yw_isMask1 hM (br_f (by decide) (yw_weight_17 hG H rfl hM (fun p2 => ⟨?_, ir_in hG H hC hJ (fun _ => K)⟩)))
  exact (rl_weight hG H K.1).symm
theorem i_vc_states {k : Nat} {u : SX} {v : SY} (I : i_Rel k u v) (hk : k + 4 ≤ 2048) (v1 : Int32) (v2 : Int32) : wpX_states (fun r u' => wpY_states (fun r' v' => r' = r ∧ i_Rel (k + 4) u' v') v v1 v2) u v1 v2 := by
  refine ir_el (P := fun u v => wpX_states (fun r u' => wpY_states (fun r' v' => r' = r ∧ i_Rel (k + 4) u' v') v v1 v2) u v1 v2) I ?_
  intro m xk xc xj xl xf xt xs xh xw xp xn xz xo xm xq yp yc hG H hC hJ hK
  have same : i_Rel (k + 4) (nI m, xk, xc, xj, xl, xf, xt, xs, xh, xw, xp, xn, xz, xo, xm, xq) (nI m, xf, xt, xs, xh, yp, yc) := ir_in hG H hC hJ hK
  have hm := hG.1
  unfold wpX_states wpY_states
  refine xw_isMask (fun hx => br_t rfl (yw_isMask0 hx (br_t rfl ⟨rfl, same⟩))) ?_
  intro M hM e1
  subst e1
  refine br_f (by decide) ?_
  by_cases h0 : v2 < 0
  · refine br_t h0 (yw_isMask1 hM (br_f (by decide) (yw_states_15 hG H rfl hM (fun p2 => ⟨?_, ir_in hG H hC hJ hK⟩))))
    refine rl_states0 hm (fun r hr z => ?_)
    rw [← z] at h0
    exact absurd h0 (nI_pos (by omega))
  · refine br_f h0 ?_
    by_cases h12 : v2 ≤ 12
    · obtain ⟨r, hr, e3⟩ := nI_of2 (M := 12) (n := 12) (by decide) h0 h12
      refine br_t h12 (xw_find_ hJ hG H rfl hK (fun k' w' p' n' z' K => ?_))
      subst e3
      refine xw_states_30 hC hM hr ?_
      refine yw_isMask1 hM (br_f (by decide) (yw_states_15 hG H rfl hM (fun p2 => ⟨?_, ir_in hG H hC hJ (fun _ => K)⟩)))
      exact (rl_states hG H hr K.2.1).symm
    · refine br_f h12 (yw_isMask1 hM (br_f (by decide) (yw_states_15 hG H rfl hM (fun p2 => ⟨?_, ir_in hG H hC hJ hK⟩))))
      refine rl_states0 hm (fun r hr z => ?_)
      rw [← z] at h12
      exact h12 (nI_le (b := 12) hr (by omega))
theorem i_vc_parts {k : Nat} {u : SX} {v : SY} (I : i_Rel k u v) (hk : k + 4 ≤ 2048) (v1 : Int32) : wpX_parts (fun r u' => wpY_parts (fun r' v' => r' = r ∧ i_Rel (k + 4) u' v') v v1) u v1 := by
  refine ir_el (P := fun u v => wpX_parts (fun r u' => wpY_parts (fun r' v' => r' = r ∧ i_Rel (k + 4) u' v') v v1) u v1) I ?_
  intro m xk xc xj xl xf xt xs xh xw xp xn xz xo xm xq yp yc hG H hC hJ hK
  unfold wpX_parts wpY_parts
  refine xw_find_ hJ hG H rfl hK (fun k' w' p' n' z' K => xw_parts_9 hC ?_)
  refine yw_parts_5 hG H rfl (fun p2 => ⟨?_, ir_in hG H hC hJ (fun _ => K)⟩)
  exact (rl_parts hG H K.1).symm
theorem i_vc_pairs {k : Nat} {u : SX} {v : SY} (I : i_Rel k u v) (hk : k + 4 ≤ 2048) : wpX_pairs (fun r u' => wpY_pairs (fun r' v' => r' = r ∧ i_Rel (k + 4) u' v') v) u := by
  refine ir_el (P := fun u v => wpX_pairs (fun r u' => wpY_pairs (fun r' v' => r' = r ∧ i_Rel (k + 4) u' v') v) u) I ?_
  intro m xk xc xj xl xf xt xs xh xw xp xn xz xo xm xq yp yc hG H hC hJ hK
  unfold wpX_pairs wpY_pairs
  refine xw_find_ hJ hG H rfl hK (fun k' w' p' n' z' K => xw_pairs_8 hC ?_)
  refine yw_pairs_4 hG H rfl (fun p2 => ⟨?_, ir_in hG H hC hJ (fun _ => K)⟩)
  exact (rl_pairs hG H K.1).symm
theorem i_vc_pivotal {k : Nat} {u : SX} {v : SY} (I : i_Rel k u v) (hk : k + 4 ≤ 2048) (v1 : Int32) (v2 : Int32) : wpX_pivotal (fun r u' => wpY_pivotal (fun r' v' => r' = r ∧ i_Rel (k + 4) u' v') v v1 v2) u v1 v2 := by
  refine ir_el (P := fun u v => wpX_pivotal (fun r u' => wpY_pivotal (fun r' v' => r' = r ∧ i_Rel (k + 4) u' v') v v1 v2) u v1 v2) I ?_
  intro m xk xc xj xl xf xt xs xh xw xp xn xz xo xm xq yp yc hG H hC hJ hK
  have same : i_Rel (k + 4) (nI m, xk, xc, xj, xl, xf, xt, xs, xh, xw, xp, xn, xz, xo, xm, xq) (nI m, xf, xt, xs, xh, yp, yc) := ir_in hG H hC hJ hK
  have hm := hG.1
  unfold wpX_pivotal wpY_pivotal
  refine xw_isMask (fun hx => br_t rfl (yw_isMask0 hx (br_t rfl ⟨rfl, same⟩))) ?_
  intro M hM e1
  subst e1
  refine br_f (by decide) (xw_isEdge hm rfl (fun hx => br_t rfl (yw_isMask1 hM (br_f (by decide) (yw_isEdge0 rfl hx (br_t rfl ⟨rfl, same⟩))))) ?_)
  intro i hi e2
  subst e2
  refine br_f (by decide) (xw_weighAll hJ hG H rfl (rl_ye (k := i) (by omega)) (fun w' p' K => xw_pivotal_38 hC hJ hG hi hM ?_))
  refine yw_isMask1 hM (br_f (by decide) (yw_isEdge1 hm rfl hi (br_f (by decide) (yw_pivotal_29 hG H rfl hM hi (fun p2 => ⟨?_, ir_in hG H hC hJ (fun z => absurd rfl z)⟩)))))
  exact (rl_pivotal hG H hi K).symm
theorem i_vc_polynomial {k : Nat} {u : SX} {v : SY} (I : i_Rel k u v) (hk : k + 4 ≤ 2048) (v1 : Int32) (v2 : Int32) : wpX_polynomial (fun r u' => wpY_polynomial (fun r' v' => r' = r ∧ i_Rel (k + 4) u' v') v v1 v2) u v1 v2 := by
  refine ir_el (P := fun u v => wpX_polynomial (fun r u' => wpY_polynomial (fun r' v' => r' = r ∧ i_Rel (k + 4) u' v') v v1 v2) u v1 v2) I ?_
  intro m xk xc xj xl xf xt xs xh xw xp xn xz xo xm xq yp yc hG H hC hJ hK
  have same : i_Rel (k + 4) (nI m, xk, xc, xj, xl, xf, xt, xs, xh, xw, xp, xn, xz, xo, xm, xq) (nI m, xf, xt, xs, xh, yp, yc) := ir_in hG H hC hJ hK
  have hm := hG.1
  have hp := rl_p12 hm
  unfold wpX_polynomial wpY_polynomial
  refine br_c (fun h1 => br_t h1 ⟨rfl, same⟩) (fun h1 => br_c (fun h2 => br_f h1 (br_t h2 ⟨rfl, same⟩)) (fun h2 => br_c (fun h3 => br_f h1 (br_f h2 (br_t h3 ⟨rfl, same⟩))) (fun h3 => br_c (fun h4 => ?_) (fun h4 => br_f h1 (br_f h2 (br_f h3 (br_f h4 ⟨rfl, same⟩)))))))
  have hw : gr_wy xf xt (2 ^ m - 1) m < 52 := gw_wy_lt (gr_ok hG) m (by omega)
  refine xw_find_ hJ hG H rfl hK (fun k' w' p' n' z' K => xw_wholeWay hJ hG rfl (xw_partsIn hC hw (xw_polynomial_47 hC (tb_pt_5 hw) ?_)))
  refine br_f h1 (br_f h2 (br_f h3 (br_t h4 ?_)))
  have hpos : 0 < 2 ^ m := Nat.two_pow_pos m
  have e : (1 : Int32) <<< (nI m &&& 31) - 1 = nI (2 ^ m - 1) := by
    rw [rl_shl (by omega)]; exact pk_sub (b := 1) (by omega)
  rw [e]
  refine yw_countParts hG rfl (by omega) (fun p2 => yw_polynomial_44 hG rfl (tb_pt_5 hw) (fun p3 => ⟨?_, ir_in hG H hC hJ (fun _ => K)⟩))
  exact (rl_polynomial hG K.2.2).symm
end
section
section
variable {m : Nat} {f t : Nat → Int32} {A : Nat → Int32}
theorem rl_forests {r : Nat} (hG : gr_F m f t) (hr : r < 5) (K : gr_KF f t A m) : s3_s (fun w => A (r * 52 + w)) 52 = s3_s (gr_yf m f t (nI r)) (2 ^ m) := by
  have hm := hG.1
  have e := s3_row A r 5
  rw [if_pos hr] at e
  rw [← e, s3_congr (g := fun c => A c * (if c / 52 = r then 1 else 0)) (fun c hc => ?_)]
  · show s3_s _ 260 = _
    rw [K (fun c => if c / 52 = r then 1 else 0)]
    refine s3_congr (fun S hS => ?_)
    obtain ⟨p1, p2⟩ := gr_ps_div (S := S) hG (Nat.le_refl m)
    have hw : gr_wy f t S m < 52 := gw_wy_lt (gr_ok hG) m (Nat.le_refl m)
    have h5 := tb_pt_5 hw
    have hfo : gw_fo (gr_n f) (gr_n t) S m = true ↔ gw_on S m + tb_pt (gr_wy f t S m) = 5 := (gw_pt (gr_ok hG) m (Nat.le_refl m)).2
    rw [p1]
    unfold gr_yf gr_fw
    have hon := gw_on_le (S := S) m
    rw [gw_on_12 hm hS]
    have q : nI (gw_on S m) = nI r ↔ gw_on S m = r := nI_eq (by omega) (by omega)
    have e5 : (5 : Int32) - nI r = nI (5 - r) := pk_sub (a := 5) (by omega)
    have q2 : nI (tb_pt (gr_wy f t S m)) = nI (5 - r) ↔ tb_pt (gr_wy f t S m) = 5 - r := nI_eq (by omega) (by omega)
    rw [e5]
    by_cases h1 : gw_on S m = r
    · by_cases h2 : gw_fo (gr_n f) (gr_n t) S m = true
      · rw [if_pos h2, if_pos h1, if_pos ⟨q.mpr h1, q2.mpr (by have := hfo.mp h2; omega)⟩]; rfl
      · have n2 : ¬ (nI (gw_on S m) = nI r ∧ nI (tb_pt (gr_wy f t S m)) = nI (5 - r)) := fun y => h2 (hfo.mpr (by have := q2.mp y.2; omega))
        rw [if_neg h2, if_neg n2]; grind
    · have n2 : ¬ (nI (gw_on S m) = nI r ∧ nI (tb_pt (gr_wy f t S m)) = nI (5 - r)) := fun y => h1 (q.mp y.1)
      rw [if_neg h1, if_neg n2]; grind
  · show (if c / 52 = r then A c else 0) = A c * _
    by_cases h1 : c / 52 = r
    · rw [if_pos h1, if_pos h1]; grind
    · rw [if_neg h1, if_neg h1]; grind
theorem rl_forests0 {x : Int32} (hG : gr_F m f t) (hx : x < 0 ∨ ¬ x < 5) : s3_s (gr_yf m f t x) (2 ^ m) = 0 := by
  have hm := hG.1
  rw [s3_congr (g := fun _ => 0) (fun S hS => ?_), s3_zero]
  have hw : gr_wy f t S m < 52 := gw_wy_lt (gr_ok hG) m (Nat.le_refl m)
  have h5 := tb_pt_5 hw
  have h1 := tb_pt_1 hw
  have hon := gw_on_le (S := S) 12
  unfold gr_yf
  refine if_neg (fun y => ?_)
  obtain ⟨y1, y2⟩ := y
  rw [← y1] at hx y2
  rcases hx with z | z
  · exact nI_pos (by omega) z
  · have z' : 5 ≤ gw_on S 12 := by
      rcases Nat.lt_or_ge (gw_on S 12) 5 with q | q
      · exact absurd (nI_lt (b := 5) q (by omega)) z
      · exact q
    have e : (5 : Int32) = nI (tb_pt (gr_wy f t S m) + gw_on S 12) := by
      rw [← nI_add, y2]; grind
    have := (nI_eq (a := 5) (by omega) (by omega)).mp e
    omega
end
theorem i_vc_forests {k : Nat} {u : SX} {v : SY} (I : i_Rel k u v) (hk : k + 4 ≤ 2048) (v1 : Int32) : wpX_forests (fun r u' => wpY_forests (fun r' v' => r' = r ∧ i_Rel (k + 4) u' v') v v1) u v1 := by
  refine ir_el (P := fun u v => wpX_forests (fun r u' => wpY_forests (fun r' v' => r' = r ∧ i_Rel (k + 4) u' v') v v1) u v1) I ?_
  intro m xk xc xj xl xf xt xs xh xw xp xn xz xo xm xq yp yc hG H hC hJ hK
  unfold wpX_forests wpY_forests
  refine br_c (fun h0 => yw_forests_4 hG rfl (fun p2 => ⟨rl_forests0 hG (Or.inl h0), ir_in hG H hC hJ hK⟩)) (fun h0 => br_c (fun h5 => ?_) (fun h5 => yw_forests_4 hG rfl (fun p2 => ⟨rl_forests0 hG (Or.inr h5), ir_in hG H hC hJ hK⟩)))
  obtain ⟨r, hr, e⟩ := nI_of h0
  subst e
  have hr5 : r < 5 := (nI_ltI (b := 5) hr (by omega)).mp h5
  exact xw_forests_13 hJ hG rfl hr5 (fun o' K => yw_forests_4 hG rfl (fun p2 => ⟨(rl_forests hG hr5 K).symm, ir_in hG H hC hJ hK⟩))
end
section
def gr_wM (m : Nat) (s h : Nat → Int32) (S : Nat) : Nat → Nat
  | 0 => 1
  | i + 1 => gr_wM m s h S i * (if i < m ∧ gr_n h i = 2 then (if S.testBit i = true then gr_n s i else 16 - gr_n s i) else 16)
section
variable {m : Nat} {f t s h : Nat → Int32}
theorem gr_wM_le {S : Nat} (H : gr_H m s h) : ∀ i, gr_wM m s h S i ≤ 2 ^ (4 * i)
  | 0 => Nat.le_refl _
  | i + 1 => by
    have ih := gr_wM_le (S := S) H i
    show gr_wM m s h S i * (if i < m ∧ gr_n h i = 2 then (if S.testBit i = true then gr_n s i else 16 - gr_n s i) else 16) ≤ _
    rw [show 4 * (i + 1) = 4 * i + 4 by omega, Nat.pow_add]
    refine Nat.mul_le_mul ih ?_
    by_cases q : i < m ∧ gr_n h i = 2
    · rw [if_pos q]
      have := (H i q.1).2.2.1
      split <;> omega
    · rw [if_neg q]; exact Nat.le_refl _
theorem gr_wM_o {S : Nat} : ∀ i, i ≤ 12 → gr_wo m s h 12 S i = lN (gr_wM m s h S i)
  | 0, _ => rfl
  | i + 1, hi => by
    have n1 : ¬ i = 12 := by omega
    show (if i = 12 then gr_wo m s h 12 S i else gr_wo m s h 12 S i * (if i < m ∧ gr_n h i = 2 then (if S.testBit i = true then lN (gr_n s i) else lN (16 - gr_n s i)) else 16)) = lN (gr_wM m s h S i * (if i < m ∧ gr_n h i = 2 then (if S.testBit i = true then gr_n s i else 16 - gr_n s i) else 16))
    rw [if_neg n1, gr_wM_o i (by omega), ← lN_mul]
    congr 1
    split
    · split <;> rfl
    · rfl
theorem gr_wN_t {S : Nat} : ∀ i, i ≤ 12 → gr_wt m s h 12 S i = lN (gr_wN m s h S i)
  | 0, _ => rfl
  | i + 1, hi => by
    have n1 : ¬ i = 12 := by omega
    show gr_wt m s h 12 S i * (if S.testBit i = true then gr_fu s h 12 i else gr_fd s h 12 i) = lN (gr_wN m s h S i * (if S.testBit i = true then gr_up s h i else gr_dn s h i))
    rw [gr_wN_t i (by omega), ← lN_mul]
    congr 1
    unfold gr_fu gr_fd
    rw [if_neg n1, if_neg n1]
    split <;> rfl
theorem gr_wNM {S : Nat} (hm : m ≤ 12) (H : gr_H m s h) : gr_wN m s h S m = if gr_st h 12 S m = true then gr_wM m s h S 12 else 0 := by
  have e := gr_wt_eq (S := S) hm H (Or.inl rfl) (fun z => by omega)
  have b1 := gr_wN_le (S := S) hm H m (Nat.le_refl m)
  have b2 := gr_p48 hm (Nat.le_refl m)
  have b3 := gr_wM_le (S := S) H 12
  rw [gr_wN_t m hm, gr_wM_o 12 (Nat.le_refl 12)] at e
  by_cases q : gr_st h 12 S m = true
  · rw [if_pos q] at e ⊢
    exact (pk_lEQ (by omega) (by omega)).mp e
  · rw [if_neg q] at e ⊢
    exact (pk_lEQ (b := 0) (by omega) (by omega)).mp e
/-- the greatest weight of a failing state -/
def gd_B (m : Nat) (f t s h : Nat → Int32) (M b : Nat) : Prop := (∀ S, S < 2 ^ m → tb_cn (gr_wy f t S m) M = false → gr_wN m s h S m ≤ b) ∧ (b = 0 ∨ ∃ S, S < 2 ^ m ∧ tb_cn (gr_wy f t S m) M = false ∧ gr_wN m s h S m = b)
theorem gd_uni {M b b' : Nat} (h1 : gd_B m f t s h M b) (h2 : gd_B m f t s h M b') : b = b' := by
  have le : ∀ {x y : Nat}, gd_B m f t s h M x → gd_B m f t s h M y → x ≤ y := by
    intro x y hx hy
    rcases hx.2 with z | ⟨S, hS, c, e⟩
    · omega
    · rw [← e]; exact hy.1 S hS c
  exact Nat.le_antisymm (le h1 h2) (le h2 h1)
end
section
variable {ye : Int32} {yf : Nat → Int32} {yt : Nat → Int32} {ys : Nat → Int32} {yh : Nat → Int32} {yp : Nat → Int32} {yc : Nat → Int32}
theorem yw_worstWeight {post : Int64 → SY → Prop} {m M : Nat} (hG : gr_F m yf yt) (H : gr_H m ys yh) (he : ye = nI m) (hM : M < 32)
    (h : ∀ (b : Nat) (p' : Nat → Int32), b ≤ 281474976710656 → gd_B m yf yt ys yh M b → post (lN b) (ye, yf, yt, ys, yh, p', yc)) : wpY_worstWeight post (ye, yf, yt, ys, yh, yp, yc) (nI M) := by
  have hm := hG.1
  have hp := rl_p12 hm
  show ∃ n5 : Nat, wY_worstWeight_5 post (nI M) n5 0 0 ye yf yt ys yh yp yc
  refine loop_0 (fun n S (s : Int64 × (Nat → Int32)) => wY_worstWeight_5 post (nI M) n s.1 (nI S) ye yf yt ys yh (s.2) yc)
    (fun S s => ∃ b, s.1 = lN b ∧ b ≤ 281474976710656 ∧ (∀ T, T < S → tb_cn (gr_wy yf yt T m) M = false → gr_wN m ys yh T m ≤ b) ∧ (b = 0 ∨ ∃ T, T < S ∧ tb_cn (gr_wy yf yt T m) M = false ∧ gr_wN m ys yh T m = b)) (2 ^ m) (0, yp)
    ⟨0, rfl, by omega, fun T hT => absurd hT (Nat.not_lt_zero T), Or.inl rfl⟩ ?_ ?_
  · intro n s ⟨b, e, hb, h1, h2⟩
    rw [wY_worstWeight_5]
    refine yw_sets hm he ?_
    refine rl_le_t (2 ^ m) (2 ^ m) (Nat.le_refl _) ?_
    rw [e]; exact h b s.2 hb ⟨h1, h2⟩
  · intro n S s hS ⟨b, e, hb, h1, h2⟩ k
    have hS' : S < 2 ^ 31 := by omega
    have bM := gr_wM_le (S := S) H 12
    have eN := gr_wNM (S := S) hm H
    have keep : ∀ p' : Nat → Int32, (tb_cn (gr_wy yf yt S m) M = false → gr_wN m ys yh S m ≤ b) → wY_worstWeight_5 post (nI M) n s.1 (nI (S + 1)) ye yf yt ys yh p' yc := by
      intro p' q
      refine k (s.1, p') ⟨b, e, hb, fun T hT hc => ?_, ?_⟩
      · by_cases y : T = S
        · subst y; exact q hc
        · exact h1 T (by omega) hc
      · rcases h2 with z | ⟨T, hT, z⟩
        · exact Or.inl z
        · exact Or.inr ⟨T, by omega, z⟩
    rw [wY_worstWeight_5]
    refine yw_sets hm he ?_
    refine rl_le_f (2 ^ m) S hS (yw_weightOf hm H he hS' rl_no ?_)
    rw [gr_wM_o 12 (Nat.le_refl 12)]
    refine br_c (fun z => nm_r (nI_1 S) (keep s.2 (fun _ => ?_))) (fun z => yw_isState hm H he hS' rl_no (rl_bc _ (fun y => nm_r (nI_1 S) (keep s.2 (fun _ => ?_))) (fun y => yw_connects hG he hS' hM (fun p' => rl_bc _ (fun x => nm_r (nI_1 S) (k (lN (gr_wM m ys yh S 12), p') ?_)) (fun x => nm_r (nI_1 S) (keep p' (fun q => by rw [x] at q; cases q)))))))
    · rw [e] at z
      have z := (pk_lLE (by omega) (by omega)).mp z
      rw [eN]
      split
      · exact z
      · omega
    · rw [eN, y]
      exact Nat.zero_le _
    · rw [e] at z
      have z : ¬ gr_wM m ys yh S 12 ≤ b := fun q => z ((pk_lLE (by omega) (by omega)).mpr q)
      rw [if_pos y] at eN
      refine ⟨gr_wM m ys yh S 12, rfl, bM, fun T hT hc => ?_, Or.inr ⟨S, by omega, x, eN⟩⟩
      by_cases q : T = S
      · subst q; rw [eN]; exact Nat.le_refl _
      · exact Nat.le_trans (h1 T (by omega) hc) (by omega)
theorem yw_worstState_19z {post : Int32 → SY → Prop} {m M : Nat} (hG : gr_F m yf yt) (he : ye = nI m) (h : post (-2) (ye, yf, yt, ys, yh, yp, yc)) : ∃ n19 : Nat, wY_worstState_19 post (nI M) (lN 0) n19 0 ye yf yt ys yh yp yc := by
  have hm := hG.1
  have hp := rl_p12 hm
  refine loop_0 (fun n S (_ : Unit) => wY_worstState_19 post (nI M) (lN 0) n (nI S) ye yf yt ys yh yp yc) (fun _ _ => True) (2 ^ m) () trivial ?_ ?_
  · intro n _ _
    rw [wY_worstState_19]
    refine yw_sets hm he ?_
    exact rl_le_t (2 ^ m) (2 ^ m) (Nat.le_refl _) h
  · intro n S _ hS _ k
    rw [wY_worstState_19]
    refine yw_sets hm he ?_
    exact rl_le_f (2 ^ m) S hS (br_t (by decide) (nm_r (nI_1 S) (k () trivial)))
theorem yw_worstState_19 {post : Int32 → SY → Prop} {m M b N : Nat} (hG : gr_F m yf yt) (H : gr_H m ys yh) (he : ye = nI m) (hM : M < 32) (hb : 0 < b) (hb2 : b ≤ 281474976710656) (hN : N < 2 ^ m) (hg : gd_S m yf yt ys yh M b N) (hmin : ∀ S, S < 2 ^ m → gd_S m yf yt ys yh M b S → N ≤ S)
    (h : ∀ p' : Nat → Int32, post (nI N) (ye, yf, yt, ys, yh, p', yc)) : ∃ n19 : Nat, wY_worstState_19 post (nI M) (lN b) n19 0 ye yf yt ys yh yp yc := by
  have hm := hG.1
  have hp := rl_p12 hm
  have hb0 : ¬ lN b ≤ 0 := fun q => by
    have := (pk_lLE (b := 0) (by omega) (by omega)).mp q
    omega
  refine loop_0 (fun n S (p' : Nat → Int32) => wY_worstState_19 post (nI M) (lN b) n (nI S) ye yf yt ys yh p' yc) (fun _ _ => True) N yp trivial ?_ ?_
  · intro n p' _
    have bM := gr_wM_le (S := N) H 12
    have eN := gr_wNM (S := N) hm H
    obtain ⟨g1, g2⟩ := hg
    have hst : gr_st yh 12 N m = true := by
      cases q : gr_st yh 12 N m
      · rw [q, if_neg (by decide)] at eN; omega
      · rfl
    rw [hst, if_pos rfl] at eN
    rw [wY_worstState_19]
    refine yw_sets hm he ?_
    refine rl_le_f (2 ^ m) N hN (br_f hb0 (yw_weightOf hm H he (by omega) rl_no ?_))
    rw [gr_wM_o 12 (Nat.le_refl 12), ← eN, g1]
    refine br_t rfl (yw_isState hm H he (by omega) rl_no (rl_b1 hst (yw_connects hG he (by omega) hM (fun p2 => rl_b0 g2 (h p2)))))
  · intro n S p' hS _ k
    have bM := gr_wM_le (S := S) H 12
    have eN := gr_wNM (S := S) hm H
    rw [wY_worstState_19]
    refine yw_sets hm he ?_
    refine rl_le_f (2 ^ m) S (by omega) (br_f hb0 (yw_weightOf hm H he (by omega) rl_no ?_))
    rw [gr_wM_o 12 (Nat.le_refl 12)]
    refine br_c (fun z => yw_isState hm H he (by omega) rl_no (rl_bc _ (fun y => nm_r (nI_1 S) (k p' trivial)) (fun y => yw_connects hG he (by omega) hM (fun p2 => rl_bc _ (fun x => ?_) (fun x => nm_r (nI_1 S) (k p2 trivial)))))) (fun z => nm_r (nI_1 S) (k p' trivial))
    exfalso
    rw [if_pos y] at eN
    have z := (pk_lEQ (by omega) (by omega)).mp z
    have := hmin S (by omega) ⟨by rw [eN]; exact z, x⟩
    omega
end
theorem i_vc_worst {k : Nat} {u : SX} {v : SY} (I : i_Rel k u v) (hk : k + 4 ≤ 2048) (v1 : Int32) : wpX_worst (fun r u' => wpY_worst (fun r' v' => r' = r ∧ i_Rel (k + 4) u' v') v v1) u v1 := by
  refine ir_el (P := fun u v => wpX_worst (fun r u' => wpY_worst (fun r' v' => r' = r ∧ i_Rel (k + 4) u' v') v v1) u v1) I ?_
  intro m xk xc xj xl xf xt xs xh xw xp xn xz xo xm xq yp yc hG H hC hJ hK
  have same : i_Rel (k + 4) (nI m, xk, xc, xj, xl, xf, xt, xs, xh, xw, xp, xn, xz, xo, xm, xq) (nI m, xf, xt, xs, xh, yp, yc) := ir_in hG H hC hJ hK
  unfold wpX_worst wpY_worst
  refine xw_isMask (fun hx => br_t rfl (yw_isMask0 hx (br_t rfl ⟨rfl, same⟩))) ?_
  intro M hM e1
  subst e1
  refine br_f (by decide) (xw_mostFailing hC hJ hG H rfl hM (fun a' b ok K hb h1 h2 => ?_))
  have B : gd_B m xf xt xs xh M b := by
    have hlt : ∀ S, gr_wy xf xt S m < 52 := fun S => gw_wy_lt (gr_ok hG) m (Nat.le_refl m)
    have Km := K m (Nat.le_refl m)
    refine ⟨fun S hS hc => Nat.le_trans (Km.1 S hS) (h1 _ (hlt S) hc), ?_⟩
    rcases h2 with z | ⟨w, hw, c, e⟩
    · exact Or.inl z
    · rcases Km.2 w hw with y | ⟨S, hS, s1, s2⟩
      · exact Or.inl (by rw [← e]; exact y)
      · exact Or.inr ⟨S, hS, by rw [s1]; exact c, by rw [s2]; exact e⟩
  refine yw_isMask1 hM (br_f (by decide) (yw_worstWeight hG H rfl hM (fun b' p' hb' B' => ⟨?_, ir_in hG H hC hJ hK⟩)))
  rw [gd_uni B' B]
theorem i_vc_worstState {k : Nat} {u : SX} {v : SY} (I : i_Rel k u v) (hk : k + 4 ≤ 2048) (v1 : Int32) : wpX_worstState (fun r u' => wpY_worstState (fun r' v' => r' = r ∧ i_Rel (k + 4) u' v') v v1) u v1 := by
  refine ir_el (P := fun u v => wpX_worstState (fun r u' => wpY_worstState (fun r' v' => r' = r ∧ i_Rel (k + 4) u' v') v v1) u v1) I ?_
  intro m xk xc xj xl xf xt xs xh xw xp xn xz xo xm xq yp yc hG H hC hJ hK
  have same : i_Rel (k + 4) (nI m, xk, xc, xj, xl, xf, xt, xs, xh, xw, xp, xn, xz, xo, xm, xq) (nI m, xf, xt, xs, xh, yp, yc) := ir_in hG H hC hJ hK
  unfold wpX_worstState wpY_worstState
  refine xw_isMask (fun hx => br_t rfl (yw_isMask0 hx (br_t rfl ⟨rfl, same⟩))) ?_
  intro M hM e1
  subst e1
  refine br_f (by decide) (xw_mostFailing hC hJ hG H rfl hM (fun a' b ok K hb h1 h2 => ?_))
  have B : gd_B m xf xt xs xh M b := by
    have hlt : ∀ S, gr_wy xf xt S m < 52 := fun S => gw_wy_lt (gr_ok hG) m (Nat.le_refl m)
    have Km := K m (Nat.le_refl m)
    refine ⟨fun S hS hc => Nat.le_trans (Km.1 S hS) (h1 _ (hlt S) hc), ?_⟩
    rcases h2 with z | ⟨w, hw, c, e⟩
    · exact Or.inl z
    · rcases Km.2 w hw with y | ⟨S, hS, s1, s2⟩
      · exact Or.inl (by rw [← e]; exact y)
      · exact Or.inr ⟨S, hS, by rw [s1]; exact c, by rw [s2]; exact e⟩
  rcases Nat.eq_zero_or_pos b with z | z
  · subst z
    refine br_t rfl (yw_isMask1 hM (br_f (by decide) (yw_worstWeight hG H rfl hM (fun b' p' hb' B' => ?_))))
    have : b' = 0 := gd_uni B' B
    subst this
    exact yw_worstState_19z hG rfl ⟨rfl, ir_in hG H hC hJ hK⟩
  · have nz : ¬ lN b = 0 := fun q => by
      have := (pk_lEQ (b := 0) (by omega) (by omega)).mp q
      omega
    have h2' : ∃ w, w < 52 ∧ tb_cn w M = false ∧ gl_n a' (m * 52 + w) = b := by
      rcases h2 with y | y
      · omega
      · exact y
    refine br_f nz (xw_worstState_30 hC hJ hG H rfl hM ok K z hb h1 h2' (fun N hN hg hmin => ?_))
    refine yw_isMask1 hM (br_f (by decide) (yw_worstWeight hG H rfl hM (fun b' p' hb' B' => ?_)))
    have : b' = b := gd_uni B' B
    subst this
    exact yw_worstState_19 hG H rfl hM z hb hN hg hmin (fun p2 => ⟨rfl, ir_in hG H hC hJ hK⟩)
end
section
def gc_h (q c w : Nat) : Bool := tb_all (fun v => decide (c / q ^ v % q = c / q ^ (tb_mn w v) % q)) 5
def gc_n (q w : Nat) : Nat → Nat
  | 0 => 0
  | c + 1 => if gc_h q c w = true then gc_n q w c + 1 else gc_n q w c
theorem gc_k0 : tb_all (fun w => decide (gc_n 0 w 0 = 0 ^ tb_pt w)) 52 = true := by decide +kernel
theorem gc_k1 : tb_all (fun w => decide (gc_n 1 w 1 = 1 ^ tb_pt w)) 52 = true := by decide +kernel
theorem gc_k2 : tb_all (fun w => decide (gc_n 2 w 32 = 2 ^ tb_pt w)) 52 = true := by decide +kernel
theorem gc_k3 : tb_all (fun w => decide (gc_n 3 w 243 = 3 ^ tb_pt w)) 52 = true := by decide +kernel
theorem gc_k4 : tb_all (fun w => decide (gc_n 4 w 1024 = 4 ^ tb_pt w)) 52 = true := by decide +kernel
theorem gc_k5 : tb_all (fun w => tb_all (fun u => tb_all (fun v => decide (tb_lb w (tb_mn w v) = tb_lb w v) && (!(decide (tb_lb w u = tb_lb w v)) || decide (tb_mn w u = tb_mn w v))) 5) 5) 52 = true := by decide +kernel
theorem gc_k {q w : Nat} (hq : q ≤ 4) (hw : w < 52) : gc_n q w (q ^ 5) = q ^ tb_pt w := by
  have : q = 0 ∨ q = 1 ∨ q = 2 ∨ q = 3 ∨ q = 4 := by omega
  rcases this with z | z | z | z | z
  · subst z; exact of_decide_eq_true (tb_all_s gc_k0 w hw)
  · subst z; exact of_decide_eq_true (tb_all_s gc_k1 w hw)
  · subst z; exact of_decide_eq_true (tb_all_s gc_k2 w hw)
  · subst z; exact of_decide_eq_true (tb_all_s gc_k3 w hw)
  · subst z; exact of_decide_eq_true (tb_all_s gc_k4 w hw)
theorem gc_h_iff {q c w : Nat} (hw : w < 52) : gc_h q c w = true ↔ ∀ u v, u < 5 → v < 5 → tb_lb w u = tb_lb w v → gc_c q c u = gc_c q c v := by
  constructor
  · intro h u v hu hv e
    have hh : ∀ x, x < 5 → gc_c q c x = gc_c q c (tb_mn w x) := fun x hx => of_decide_eq_true (tb_all_s h x hx)
    have k := tb_all3 gc_k5 w hw u hu v hv
    rw [Bool.and_eq_true] at k
    have k2 := k.2
    rw [decide_eq_true e] at k2
    have k3 : tb_mn w u = tb_mn w v := of_decide_eq_true k2
    rw [hh u hu, hh v hv, k3]
  · intro h
    refine tb_all_i (fun v hv => decide_eq_true ?_)
    have k := tb_all3 gc_k5 w hw v hv v hv
    rw [Bool.and_eq_true] at k
    exact h v _ hv (tb_mn_lt hw hv) (of_decide_eq_true k.1).symm
theorem gc_h_jo {q c w a b : Nat} (hw : w < 52) (ha : a < 5) (hb : b < 5) (hab : a ≠ b) : gc_h q c (tb_jo w a b) = (gc_h q c w && decide (gc_c q c a = gc_c q c b)) := by
  have hj := tb_jo_lt hw ha hb hab
  have e : gc_h q c (tb_jo w a b) = true ↔ (gc_h q c w = true ∧ gc_c q c a = gc_c q c b) := by
    rw [gc_h_iff hj, gc_h_iff hw]
    constructor
    · intro h
      refine ⟨fun u v hu hv e => h u v hu hv ((tb_same hw ha hb hab hu hv).mpr (Or.inl e)), ?_⟩
      exact h a b ha hb ((tb_same hw ha hb hab ha hb).mpr (Or.inr (Or.inl ⟨rfl, rfl⟩)))
    · intro ⟨h, e⟩ u v hu hv d
      rcases (tb_same hw ha hb hab hu hv).mp d with z | ⟨z1, z2⟩ | ⟨z1, z2⟩
      · exact h u v hu hv z
      · exact (h u a hu ha z1).trans (e.trans (h v b hv hb z2).symm)
      · exact (h u b hu hb z1).trans (e.symm.trans (h v a hv ha z2).symm)
  cases h1 : gc_h q c (tb_jo w a b)
  · cases h2 : gc_h q c w
    · rfl
    · by_cases h3 : gc_c q c a = gc_c q c b
      · have := e.mpr ⟨h2, h3⟩
        rw [h1] at this; cases this
      · rw [decide_eq_false h3]; rfl
  · obtain ⟨h2, h3⟩ := e.mp h1
    rw [h2, decide_eq_true h3]; rfl
theorem gc_pw (q : Nat) : ∀ n, gr_pw (nI q) n = nI (q ^ n)
  | 0 => rfl
  | n + 1 => by
    show gr_pw (nI q) n * nI q = _
    rw [gc_pw q n, pk_mul, Nat.pow_succ]
theorem gc_sum (q w : Nat) : ∀ N, s3_s (fun c => rl_b (gc_h q c w)) N = nI (gc_n q w N)
  | 0 => rfl
  | N + 1 => by
    show s3_s (fun c => rl_b (gc_h q c w)) N + rl_b (gc_h q N w) = nI (if gc_h q N w = true then gc_n q w N + 1 else gc_n q w N)
    rw [gc_sum q w N]
    cases gc_h q N w
    · show _ + 0 = nI (gc_n q w N); grind
    · exact nI_1 _
def gc_sg (S i : Nat) : Int32 := if gw_on S i % 2 = 0 then 1 else -1
section
variable {m : Nat} {f t : Nat → Int32} {B : Nat → Int32}
theorem gc_e {q c : Nat} (hG : gr_F m f t) : ∀ i, i ≤ m → s3_s (fun S => gc_sg S i * rl_b (gc_h q c (gr_wy f t S i))) (2 ^ i) = rl_b (gc_g f t q c i)
  | 0, _ => by
    have h51 : gc_h q c 51 = true := by
      refine tb_all_i (fun v hv => decide_eq_true ?_)
      rw [(of_decide_eq_true (tb_all_s tb_k13 v hv)).2]
    show 0 + 1 * rl_b (gc_h q c 51) = rl_b true
    rw [h51]; rfl
  | i + 1, hi => by
    have ih := gc_e (q := q) (c := c) hG i (by omega)
    obtain ⟨f1, f2, f3⟩ := gr_ok hG i (by omega)
    have u : gc_g f t q c (i + 1) = (gc_g f t q c i && decide (gc_c q c (gr_n f i) ≠ gc_c q c (gr_n t i))) := rfl
    rw [s3_pow, ← s3_add, u]
    have e : ∀ S, S < 2 ^ i → gc_sg S (i + 1) * rl_b (gc_h q c (gr_wy f t S (i + 1))) + gc_sg (2 ^ i + S) (i + 1) * rl_b (gc_h q c (gr_wy f t (2 ^ i + S) (i + 1))) = gc_sg S i * rl_b (gc_h q c (gr_wy f t S i)) * (if gc_c q c (gr_n f i) = gc_c q c (gr_n t i) then 0 else 1) := by
      intro S hS
      have hw : gr_wy f t S i < 52 := gw_wy_lt (gr_ok hG) i (by omega)
      have w1 : gr_wy f t S (i + 1) = gr_wy f t S i := gw_wy_lo hS
      have w2 : gr_wy f t (2 ^ i + S) (i + 1) = tb_jo (gr_wy f t S i) (gr_n f i) (gr_n t i) := gw_wy_hi hS
      have g1 : gc_sg S (i + 1) = gc_sg S i := by unfold gc_sg; rw [gw_on_lo hS]
      have g2 : gc_sg (2 ^ i + S) (i + 1) = - gc_sg S i := by
        unfold gc_sg; rw [gw_on_hi hS]
        by_cases z : gw_on S i % 2 = 0
        · rw [if_pos z, if_neg (by omega)]
        · rw [if_neg z, if_pos (by omega)]; rfl
      rw [w1, w2, g1, g2, gc_h_jo hw f1 f2 f3]
      by_cases z : gc_c q c (gr_n f i) = gc_c q c (gr_n t i)
      · rw [decide_eq_true z, Bool.and_true, if_pos z]; grind
      · rw [decide_eq_false z, Bool.and_false, if_neg z]
        show _ + _ * 0 = _
        grind
    rw [s3_congr e, s3_mulr, ih]
    by_cases z : gc_c q c (gr_n f i) = gc_c q c (gr_n t i)
    · rw [if_pos z, decide_eq_false (fun y => y z), Bool.and_false]
      show _ * 0 = (0 : Int32)
      grind
    · rw [if_neg z, decide_eq_true z, Bool.and_true]; grind
theorem rl_colourings {q : Nat} (hG : gr_F m f t) (hq : q ≤ 4) (K : gr_KS f t B m) : s3_s (fun c => B c * gr_cg q c) 676 = s3_s (fun c => rl_b (gc_g f t q c m)) (q ^ 5) := by
  rw [K (gr_cg q)]
  rw [s3_congr (g := fun S => s3_s (fun c => gc_sg S m * rl_b (gc_h q c (gr_wy f t S m))) (q ^ 5)) (fun S hS => ?_)]
  · rw [s3_swap]
    exact s3_congr (fun c _ => gc_e hG m (Nat.le_refl m))
  · obtain ⟨p1, p2⟩ := gr_ps_div (S := S) hG (Nat.le_refl m)
    have hw : gr_wy f t S m < 52 := gw_wy_lt (gr_ok hG) m (Nat.le_refl m)
    have e : s3_s (fun c => gc_sg S m * rl_b (gc_h q c (gr_wy f t S m))) (q ^ 5) = gc_sg S m * nI (q ^ tb_pt (gr_wy f t S m)) := by
      rw [s3_congr (g := fun c => rl_b (gc_h q c (gr_wy f t S m)) * gc_sg S m) (fun c _ => by grind), s3_mulr, gc_sum, gc_k hq hw]
      grind
    rw [e, s3_wt_1]
    unfold gr_cg gc_sg
    rw [p1, p2, gc_pw]
    split <;> grind
end
theorem i_vc_colourings {k : Nat} {u : SX} {v : SY} (I : i_Rel k u v) (hk : k + 4 ≤ 2048) (v1 : Int32) : wpX_colourings (fun r u' => wpY_colourings (fun r' v' => r' = r ∧ i_Rel (k + 4) u' v') v v1) u v1 := by
  refine ir_el (P := fun u v => wpX_colourings (fun r u' => wpY_colourings (fun r' v' => r' = r ∧ i_Rel (k + 4) u' v') v v1) u v1) I ?_
  intro m xk xc xj xl xf xt xs xh xw xp xn xz xo xm xq yp yc hG H hC hJ hK
  have same : i_Rel (k + 4) (nI m, xk, xc, xj, xl, xf, xt, xs, xh, xw, xp, xn, xz, xo, xm, xq) (nI m, xf, xt, xs, xh, yp, yc) := ir_in hG H hC hJ hK
  unfold wpX_colourings wpY_colourings
  refine br_c (fun h0 => br_t h0 ⟨rfl, same⟩) (fun h0 => br_c (fun h4 => ?_) (fun h4 => br_f h0 (br_f h4 ⟨rfl, same⟩)))
  obtain ⟨q, hq, e⟩ := nI_of2 (M := 4) (n := 4) (by decide) h0 h4
  subst e
  refine xw_find_ hJ hG H rfl hK (fun k' w' p' n' z' K => xw_colourings_20 hC hq ?_)
  have e5 : nI q * nI q * nI q * nI q * nI q = nI (q ^ 5) := by
    rw [pk_mul, pk_mul, pk_mul, pk_mul]
    refine congrArg nI ?_
    rw [Nat.pow_succ, Nat.pow_succ, Nat.pow_succ, Nat.pow_succ, Nat.pow_one]
  refine br_f h0 (br_t h4 (nm_r e5 (yw_colourings_26 hG rfl hq (fun c' => ⟨?_, ir_in hG H hC hJ (fun _ => K)⟩))))
  exact (rl_colourings hG hq K.2.2).symm
end
section
def tr_f (m : Nat) (f t : Nat → Int32) (S : Nat) : Nat → Nat → Bool
  | 0, _ => true
  | d + 1, j => if S.testBit j = true then (if tb_cn (gr_wy f t (rl_nd S (2 ^ j)) m) 31 = true then false else tr_f m f t S d (j + 1)) else tr_f m f t S d (j + 1)
def tr_t (m : Nat) (f t : Nat → Int32) (S : Nat) : Bool := tb_cn (gr_wy f t S m) 31 && tr_f m f t S m 0
section
variable {ye : Int32} {yf : Nat → Int32} {yt : Nat → Int32} {ys : Nat → Int32} {yh : Nat → Int32} {yp : Nat → Int32} {yc : Nat → Int32}
theorem yw_isTree {post : Int32 → SY → Prop} {m S : Nat} (hG : gr_F m yf yt) (he : ye = nI m) (hS : S < 2 ^ 31) (h : ∀ p' : Nat → Int32, post (rl_b (tr_t m yf yt S)) (ye, yf, yt, ys, yh, p', yc)) : wpY_isTree post (ye, yf, yt, ys, yh, yp, yc) (nI S) := by
  subst he
  have hm := hG.1
  have key : ∀ d j (p : Nat → Int32), j + d = m → (∀ p' : Nat → Int32, post (rl_b (tr_f m yf yt S d j)) (nI m, yf, yt, ys, yh, p', yc)) → wY_isTree_14 post (nI S) (d + 1) (nI j) (nI m) yf yt ys yh p yc := by
    intro d
    induction d with
    | zero =>
      intro j p hj hp
      have : j = m := by omega
      subst this
      exact rl_le_t j j (Nat.le_refl j) (hp p)
    | succ d ih =>
      intro j p hj hp
      have u : tr_f m yf yt S (d + 1) j = if S.testBit j = true then (if tb_cn (gr_wy yf yt (rl_nd S (2 ^ j)) m) 31 = true then false else tr_f m yf yt S d (j + 1)) else tr_f m yf yt S d (j + 1) := rfl
      rw [u] at hp
      have ee : nI S &&& (((1 : Int32) <<< (nI j &&& 31)) ^^^ (-1)) = nI (rl_nd S (2 ^ j)) := by rw [rl_shl (by omega), rl_andn]
      refine rl_le_f m j (by omega) (yw_in hS (by omega) ?_)
      rw [ee]
      refine rl_bc _ (fun z => nm_r (nI_1 j) (ih (j + 1) p (by omega) ?_)) (fun z => yw_connects (M := 31) hG rfl (Nat.lt_of_le_of_lt (rl_nd_le S (2 ^ j)) hS) (by omega) (fun p' => rl_bc _ (fun y => nm_r (nI_1 j) (ih (j + 1) p' (by omega) ?_)) (fun y => ?_)))
      · rw [if_neg (by rw [z]; decide)] at hp; exact hp
      · rw [if_pos z, if_neg (by rw [y]; decide)] at hp; exact hp
      · rw [if_pos z, if_pos y] at hp; exact hp p'
  unfold wpY_isTree
  unfold tr_t at h
  refine yw_connects (M := 31) hG rfl hS (by omega) (fun p' => rl_bc _ (fun z => ?_) (fun z => ⟨m + 1, key m 0 p' (by omega) ?_⟩))
  · rw [z] at h; exact h p'
  · rw [z] at h; exact h
theorem yw_trees_4 {post : Int32 → SY → Prop} {m : Nat} (hG : gr_F m yf yt) (he : ye = nI m) (h : ∀ p' : Nat → Int32, post (s3_s (fun S => rl_b (tr_t m yf yt S)) (2 ^ m)) (ye, yf, yt, ys, yh, p', yc)) : ∃ n4 : Nat, wY_trees_4 post n4 0 0 ye yf yt ys yh yp yc := by
  have hm := hG.1
  have hp := rl_p12 hm
  refine loop_0 (fun n S (s : Int32 × (Nat → Int32)) => wY_trees_4 post n s.1 (nI S) ye yf yt ys yh (s.2) yc) (fun S s => s.1 = s3_s (fun S => rl_b (tr_t m yf yt S)) S) (2 ^ m) (0, yp) rfl ?_ ?_
  · intro n s e
    rw [wY_trees_4]
    refine yw_sets hm he ?_
    refine rl_le_t (2 ^ m) (2 ^ m) (by omega) ?_
    rw [e]; exact h s.2
  · intro n S s hS e k
    have hS' : S < 2 ^ 31 := by omega
    have u : s3_s (fun S => rl_b (tr_t m yf yt S)) (S + 1) = s.1 + rl_b (tr_t m yf yt S) := by rw [e]; rfl
    rw [wY_trees_4]
    refine yw_sets hm he ?_
    refine rl_le_f (2 ^ m) S hS (yw_isTree hG he hS' (fun p' => rl_bc _ (fun z => nm_r (nI_1 S) (k (s.1, p') ?_)) (fun z => nm_e (nm_r (nI_1 S) (k (s.1 + 1, p') ?_)))))
    · rw [u, z]
      show s.1 = s.1 + 0
      grind
    · rw [u, z]; rfl
end
section
variable {m : Nat} {f t : Nat → Int32}
theorem tr_f_iff {S : Nat} : ∀ d j, tr_f m f t S d j = true ↔ ∀ i, j ≤ i → i < j + d → S.testBit i = true → tb_cn (gr_wy f t (rl_nd S (2 ^ i)) m) 31 = false
  | 0, j => ⟨fun _ i h1 h2 => absurd h2 (by omega), fun _ => rfl⟩
  | d + 1, j => by
    have ih := tr_f_iff (S := S) d (j + 1)
    show (if S.testBit j = true then (if tb_cn (gr_wy f t (rl_nd S (2 ^ j)) m) 31 = true then false else tr_f m f t S d (j + 1)) else tr_f m f t S d (j + 1)) = true ↔ _
    by_cases hb : S.testBit j = true
    · rw [if_pos hb]
      cases hc : tb_cn (gr_wy f t (rl_nd S (2 ^ j)) m) 31
      · rw [if_neg (by decide), ih]
        constructor
        · intro q i h1 h2 h3
          by_cases y : i = j
          · subst y; exact hc
          · exact q i (by omega) (by omega) h3
        · intro q i h1 h2 h3
          exact q i (by omega) (by omega) h3
      · rw [if_pos rfl]
        constructor
        · intro q; cases q
        · intro q
          have := q j (Nat.le_refl j) (by omega) hb
          rw [hc] at this; cases this
    · rw [if_neg hb, ih]
      constructor
      · intro q i h1 h2 h3
        by_cases y : i = j
        · subst y; exact absurd h3 hb
        · exact q i (by omega) (by omega) h3
      · intro q i h1 h2 h3
        exact q i (by omega) (by omega) h3
theorem tr_nd_t {S i j : Nat} (hS : S < 2 ^ 31) : (rl_nd S (2 ^ i)).testBit j = (S.testBit j && !(decide (i = j))) := by
  rw [rl_nd_t hS, Nat.testBit_two_pow]
theorem gw_fo_ex {fr to : Nat → Nat} {S : Nat} : ∀ i, gw_fo fr to S i = false → ∃ j, j < i ∧ S.testBit j = true ∧ tb_jo (gw_wy fr to S j) (fr j) (to j) = gw_wy fr to S j
  | 0, h => by cases h
  | i + 1, h => by
    have e : gw_fo fr to S (i + 1) = (gw_fo fr to S i && (!(S.testBit i) || decide (tb_jo (gw_wy fr to S i) (fr i) (to i) ≠ gw_wy fr to S i))) := rfl
    rw [e] at h
    cases h1 : gw_fo fr to S i
    · obtain ⟨j, hj, q⟩ := gw_fo_ex i h1
      exact ⟨j, by omega, q⟩
    · rw [h1, Bool.true_and] at h
      refine ⟨i, by omega, ?_⟩
      cases h2 : S.testBit i
      · rw [h2] at h; cases h
      · rw [h2] at h
        have h' : decide (tb_jo (gw_wy fr to S i) (fr i) (to i) ≠ gw_wy fr to S i) = false := h
        exact ⟨rfl, Decidable.not_not.mp (of_decide_eq_false h')⟩
theorem tr_t_iff {S : Nat} (hG : gr_F m f t) (hS : S < 2 ^ 31) : tr_t m f t S = true ↔ (gw_fo (gr_n f) (gr_n t) S m = true ∧ gr_wy f t S m = 0) := by
  have hw : gr_wy f t S m < 52 := gw_wy_lt (gr_ok hG) m (Nat.le_refl m)
  have p0 : tb_pt 0 = 1 := by decide +kernel
  have hfo : gw_fo (gr_n f) (gr_n t) S m = true ↔ gw_on S m + tb_pt (gr_wy f t S m) = 5 := (gw_pt (gr_ok hG) m (Nat.le_refl m)).2
  unfold tr_t
  rw [Bool.and_eq_true, tb_cn31 hw, tr_f_iff]
  constructor
  · intro ⟨e, q⟩
    refine ⟨?_, e⟩
    cases hf : gw_fo (gr_n f) (gr_n t) S m
    · exfalso
      obtain ⟨i, hi, h1, h2⟩ := gw_fo_ex m hf
      have c := q i (Nat.zero_le i) (by omega) h1
      have same : gr_wy f t (rl_nd S (2 ^ i)) m = gr_wy f t S m := by
        have e1 : gr_wy f t (rl_nd S (2 ^ i)) (i + 1) = gr_wy f t S (i + 1) := by
          have a1 : gr_wy f t (rl_nd S (2 ^ i)) i = gr_wy f t S i := gw_wy_c (fun j hj => by rw [tr_nd_t hS, decide_eq_false (by omega)]; simp)
          show (if (rl_nd S (2 ^ i)).testBit i = true then _ else gr_wy f t (rl_nd S (2 ^ i)) i) = (if S.testBit i = true then tb_jo (gr_wy f t S i) (gr_n f i) (gr_n t i) else gr_wy f t S i)
          rw [if_pos h1, tr_nd_t hS, decide_eq_true rfl, a1]
          have h2' : tb_jo (gr_wy f t S i) (gr_n f i) (gr_n t i) = gr_wy f t S i := h2
          rw [h2']
          simp
        have := gd_wy e1 (m - (i + 1)) (fun j h1 h2 => by rw [tr_nd_t hS, decide_eq_false (by omega)]; simp)
        rw [show i + 1 + (m - (i + 1)) = m by omega] at this
        exact this
      rw [same, e] at c
      have : tb_cn 0 31 = true := (tb_cn31 (by omega)).mpr rfl
      rw [this] at c; cases c
    · rfl
  · intro ⟨hf, e⟩
    refine ⟨e, fun i _ hi hb => ?_⟩
    have hi : i < m := by omega
    have hf5 := hfo.mp hf
    rw [e, p0] at hf5
    obtain ⟨_, g2⟩ := gw_ins (gr_ok hG) (S := rl_nd S (2 ^ i)) (S' := S) (i := i) (by rw [tr_nd_t hS]; simp) hb (fun j _ hj => by rw [tr_nd_t hS, decide_eq_false (fun q => hj q.symm)]; simp) m hi (Nat.le_refl m)
    have hw' : gr_wy f t (rl_nd S (2 ^ i)) m < 52 := gw_wy_lt (gr_ok hG) m (Nat.le_refl m)
    cases hc : tb_cn (gr_wy f t (rl_nd S (2 ^ i)) m) 31
    · rfl
    · exfalso
      have z := (tb_cn31 hw').mp hc
      have h5 : 5 ≤ gw_on (rl_nd S (2 ^ i)) m + tb_pt (gr_wy f t (rl_nd S (2 ^ i)) m) := (gw_pt (gr_ok hG) m (Nat.le_refl m)).1
      rw [z, p0] at h5
      omega
theorem tr_cast {a : Nat → Int32} {b : Nat → Int} : ∀ {n : Nat}, (∀ j, j < n → a j = Int32.ofInt (b j)) → s3_s a n = Int32.ofInt (si_s b n)
  | 0, _ => rfl
  | n + 1, h => by
    show s3_s a n + a n = Int32.ofInt (si_s b n + b n)
    rw [tr_cast (fun j hj => h j (by omega)), h n (by omega), Int32.ofInt_add]
theorem tr_ddb : tb_all (fun a => tb_all (fun b => tb_all (fun r => decide (a = b) || tb_all (fun c => decide ((tr_dd a b r c).natAbs ≤ 1)) 4) 4) 5) 5 = true := by decide +kernel
theorem tr_LLb (hG : gr_F m f t) {r c : Nat} (hr : r < 4) (hc : c < 4) : ∀ i, i ≤ m → (tr_LL (tr_mu (gr_n f) (gr_n t) i) r c).natAbs ≤ i
  | 0, _ => by
    show (tr_LL (fun _ => 0) r c).natAbs ≤ 0
    unfold tr_LL
    split
    · split
      · decide
      · split
        · decide
        · split <;> decide
    · exact Nat.le_refl 0
  | i + 1, hi => by
    obtain ⟨f1, f2, f3⟩ := gr_ok hG i (by omega)
    have b1 : (tr_dd (gr_n f i) (gr_n t i) r c).natAbs ≤ 1 := of_decide_eq_true (tb_all_s (tb_or (tb_all3 tr_ddb _ f1 _ f2 r hr) f3) c hc)
    show (tr_LL (tr_up (tr_mu (gr_n f) (gr_n t) i) (tb_pr (gr_n f i) (gr_n t i)) (tr_mu (gr_n f) (gr_n t) i (tb_pr (gr_n f i) (gr_n t i)) + 1)) r c).natAbs ≤ i + 1
    rw [tr_LL_s f1 f2 f3 hr hc]
    exact tr_ab (tr_LLb hG hr hc i (by omega)) b1
theorem rl_trees (hG : gr_F m f t) : s3_s (fun S => rl_b (tr_t m f t S)) (2 ^ m) = Int32.ofInt (tr_det (tr_LL (tr_mu (gr_n f) (gr_n t) m))) := by
  have hp := rl_p12 hG.1
  rw [tr_LL_det, ← tr_thm, ← tr_Fo (gr_ok hG) m (Nat.le_refl m) tr_e0]
  refine tr_cast (fun S hS => ?_)
  have e := tr_t_iff (S := S) hG (by omega)
  show rl_b (tr_t m f t S) = Int32.ofInt ((if gw_fo (gr_n f) (gr_n t) S m = true then 1 else 0) * (if gr_wy f t S m = 0 then 1 else 0))
  cases h1 : tr_t m f t S
  · by_cases h2 : gw_fo (gr_n f) (gr_n t) S m = true
    · by_cases h3 : gr_wy f t S m = 0
      · have := e.mpr ⟨h2, h3⟩
        rw [h1] at this; cases this
      · rw [if_neg h3, Int.mul_zero]; rfl
    · rw [if_neg h2, Int.zero_mul]; rfl
  · obtain ⟨h2, h3⟩ := e.mp h1
    rw [if_pos h2, if_pos h3]; rfl
end
theorem i_vc_trees {k : Nat} {u : SX} {v : SY} (I : i_Rel k u v) (hk : k + 4 ≤ 2048) : wpX_trees (fun r u' => wpY_trees (fun r' v' => r' = r ∧ i_Rel (k + 4) u' v') v) u := by
  refine ir_el (P := fun u v => wpX_trees (fun r u' => wpY_trees (fun r' v' => r' = r ∧ i_Rel (k + 4) u' v') v) u) I ?_
  intro m xk xc xj xl xf xt xs xh xw xp xn xz xo xm xq yp yc hG H hC hJ hK
  have hm := hG.1
  refine xw_trees hG rfl (fun r d hr hd => Nat.le_trans (tr_LLb hG hr hd m (Nat.le_refl m)) hm) (fun q' => ?_)
  unfold wpY_trees
  exact yw_trees_4 hG rfl (fun p' => ⟨rl_trees hG, ir_in hG H hC hJ hK⟩)
end
section
section
variable {m M fi : Nat} {f t : Nat → Int32} {x : Int32}
theorem rl_cuts0 (hG : gr_F m f t) (h : ∀ w, w < 52 → tb_cn w M = true) : s3_s (fun S => ct_b01 (ct_P m f t M x S)) (2 ^ m) = 0 := by
  rw [s3_congr (g := fun _ => 0) (fun S _ => ct_b0 (fun q => ?_)), s3_zero]
  have := q.2.1
  have hw : gr_wy f t (rl_nd (2 ^ m - 1) S) m < 52 := gw_wy_lt (gr_ok hG) m (Nat.le_refl m)
  rw [h _ hw] at this
  cases this
theorem rl_cuts1 (hG : gr_F m f t) (hM : M < 32) (h : tb_cn (gr_wy f t (2 ^ m - 1) m) M = false) : s3_s (fun S => ct_b01 (ct_P m f t M x S)) (2 ^ m) = if x = 0 then 1 else 0 := by
  have hm := hG.1
  have hW : gr_wy f t (2 ^ m - 1) m < 52 := gw_wy_lt (gr_ok hG) m (Nat.le_refl m)
  have fullE : ∀ i, i < m → tb_lb (gr_wy f t (2 ^ m - 1) m) (gr_n f i) = tb_lb (gr_wy f t (2 ^ m - 1) m) (gr_n t i) := fun i hi => ct_edge hG (by rw [ct_full]; exact decide_eq_true hi) m hi (Nat.le_refl m)
  have mono : ∀ S, tb_cn (gr_wy f t S m) M = true → False := by
    intro S hc
    have hw : gr_wy f t S m < 52 := gw_wy_lt (gr_ok hG) m (Nat.le_refl m)
    have c := (tb_cn_iff hw hM).mp hc
    have := (tb_cn_iff hW hM).mpr (fun u v hu hv h1 h2 => (ct_min hG (S := S) (T := fun y => tb_lb (gr_wy f t (2 ^ m - 1) m) y = tb_lb (gr_wy f t (2 ^ m - 1) m) v) m (Nat.le_refl m) (fun i hi _ => by
      show tb_lb (gr_wy f t (2 ^ m - 1) m) (gr_n f i) = _ ↔ _
      rw [fullE i hi]) u v hu hv (c u v hu hv h1 h2)).mpr rfl)
    rw [h] at this; cases this
  have z0 : gw_on 0 12 = 0 := by decide +kernel
  have f0 : rl_nd (2 ^ m - 1) 0 = 2 ^ m - 1 := Nat.eq_of_testBit_eq (fun i => by rw [ct_up hm, ct_full, Nat.zero_testBit]; simp)
  have iff : ∀ S, S < 2 ^ m → (ct_P m f t M x S ↔ (S = 0 ∧ x = 0)) := by
    intro S hS
    constructor
    · intro ⟨q1, _, q3⟩
      have hS0 : S = 0 := by
        refine Classical.byContradiction (fun nz => ?_)
        obtain ⟨i, hi⟩ := Nat.exists_testBit_of_ne_zero nz
        have him : i < m := by
          rcases Nat.lt_or_ge i m with y | y
          · exact y
          · have : S.testBit i = false := Nat.testBit_lt_two_pow (Nat.lt_of_lt_of_le hS (Nat.pow_le_pow_right (by omega) y))
            rw [hi] at this; cases this
        exact mono _ (q3 i him hi)
      refine ⟨hS0, ?_⟩
      rw [hS0, z0] at q1
      exact q1.symm
    · intro ⟨q1, q2⟩
      subst q1; subst q2
      refine ⟨by rw [z0]; rfl, by rw [f0]; exact h, fun i _ hb => ?_⟩
      rw [Nat.zero_testBit] at hb; cases hb
  rw [s3_congr (g := fun S => if S = 0 then (if x = 0 then 1 else 0) else 0) (fun S hS => ?_), s3_one, if_pos (Nat.two_pow_pos m)]
  by_cases y : S = 0
  · rw [if_pos y]
    by_cases y2 : x = 0
    · rw [if_pos y2, ct_b1 ((iff S hS).mpr ⟨y, y2⟩)]
    · rw [if_neg y2, ct_b0 (fun q => y2 ((iff S hS).mp q).2)]
  · rw [if_neg y, ct_b0 (fun q => y ((iff S hS).mp q).1)]
theorem rl_cuts2 (hG : gr_F m f t) (hM : M < 32) (hf : fi < 5) (hMf : M.testBit fi = true) (hway : tb_cn (gr_wy f t (2 ^ m - 1) m) M = true) :
    s3_s (fun S => ct_b01 (ct_P m f t M x S)) (2 ^ m) = s3_s (fun A => ct_b01 (ct_Q m (gr_n f) (gr_n t) M (ct_k (gr_wy f t (2 ^ m - 1) m) fi 5) fi x A)) 32 := by
  refine s3_bij (fun S => ct_k (gr_wy f t (rl_nd (2 ^ m - 1) S) m) fi 5) (fun A => ct_c (gr_n f) (gr_n t) A (rl_nd (ct_k (gr_wy f t (2 ^ m - 1) m) fi 5) A) m) ?_ ?_
  · intro S hS P
    obtain ⟨a, b⟩ := ct_h1 hG hM hf hMf hway hS P
    exact ⟨ct_k_lt 5 (Nat.le_refl 5), a, b⟩
  · intro A hA Q
    obtain ⟨a, b⟩ := ct_h2 hG hM hf hMf hway hA Q
    exact ⟨ct_c_lt m, a, b⟩
end
theorem i_vc_cuts {k : Nat} {u : SX} {v : SY} (I : i_Rel k u v) (hk : k + 4 ≤ 2048) (v1 : Int32) (v2 : Int32) : wpX_cuts (fun r => wpY_cuts (fun r' v' => r' = r ∧ i_Rel (k + 4) u v') v v1 v2) u v1 v2 := by
  refine ir_el (P := fun u v => wpX_cuts (fun r => wpY_cuts (fun r' v' => r' = r ∧ i_Rel (k + 4) u v') v v1 v2) u v1 v2) I ?_
  intro m xk xc xj xl xf xt xs xh xw xp xn xz xo xm xq yp yc hG H hC hJ hK
  have same : ∀ p' : Nat → Int32, i_Rel (k + 4) (nI m, xk, xc, xj, xl, xf, xt, xs, xh, xw, xp, xn, xz, xo, xm, xq) (nI m, xf, xt, xs, xh, p', yc) := fun p' => ir_in hG H hC hJ hK
  have hm := hG.1
  have hW : gr_wy xf xt (2 ^ m - 1) m < 52 := gw_wy_lt (gr_ok hG) m (Nat.le_refl m)
  unfold wpX_cuts wpY_cuts
  refine xw_isMask (fun hx => br_t rfl (yw_isMask0 hx (br_t rfl ⟨rfl, same yp⟩))) ?_
  intro M hM e1
  subst e1
  have ywalk : ∀ r : Int32, s3_s (fun S => ct_b01 (ct_P m xf xt M v2 S)) (2 ^ m) = r → wpY_isMask (fun r_1 => (r_1 = 0 → (-1 : Int32) = r ∧ i_Rel (k + 4) (nI m, xk, xc, xj, xl, xf, xt, xs, xh, xw, xp, xn, xz, xo, xm, xq) (nI m, xf, xt, xs, xh, yp, yc)) ∧ (¬ r_1 = 0 → ∃ n15 : Nat, wY_cuts_15 (fun r' v' => r' = r ∧ i_Rel (k + 4) (nI m, xk, xc, xj, xl, xf, xt, xs, xh, xw, xp, xn, xz, xo, xm, xq) v') (nI M) v2 n15 0 0 (nI m) xf xt xs xh yp yc)) (nI m, xf, xt, xs, xh, yp, yc) (nI M) := by
    intro r er
    exact yw_isMask1 hM (br_f (by decide) (yw_cuts_15 hG rfl hM (fun p' => ⟨er, same p'⟩)))
  refine br_f (by decide) (xw_lowest (by omega) (fun z => br_t (by decide) (ywalk 0 (rl_cuts0 hG (fun w hw => ?_)))) (fun fi hf hMf => br_f (nI_pos (by omega)) ?_))
  · exact (tb_cn_iff hw hM).mpr (fun a b ha hb h1 _ => by rw [z a ha] at h1; cases h1)
  · rw [rl_shl (by omega)]
    have l5 := ct_lt5 hf
    refine pk_eq M (2 ^ fi) (fun z => ywalk 0 (rl_cuts0 hG (fun w hw => ?_))) (fun z => ?_)
    · refine (tb_cn_iff hw hM).mpr (fun a b ha hb h1 h2 => ?_)
      rw [z, Nat.testBit_two_pow, decide_eq_true_iff] at h1 h2
      rw [← h1, ← h2]
    · refine xw_wholeWay hJ hG rfl (xw_connects hC hW hM (rl_bc _ (fun y => br_c (fun q => ywalk 1 ?_) (fun q => ywalk 0 ?_)) (fun y => xw_cuts_63 hC hG rfl hM hf hW (ywalk _ (rl_cuts2 hG hM hf hMf y)))))
      · rw [rl_cuts1 hG hM y, if_pos q]
      · rw [rl_cuts1 hG hM y, if_neg q]
end
